section
/-! pure rows to paste: stores, nI and lN arithmetic, masks, shifts, narrowing, branches by naturals (pk_le, pk_lt, pk_eq), loops (lp1 .. lp16: the measure of the state; rp1 ..: recursion), negatives. Take what you need -/
theorem pk_us {f : Nat → Int32} {k : Nat} {x : Int32} : upd f k x k = x := if_pos rfl
theorem pk_un {f : Nat → Int32} {k j : Nat} {x : Int32} (h : j ≠ k) : upd f k x j = f j := if_neg h
theorem pk_uLs {f : Nat → Int64} {k : Nat} {x : Int64} : vp_updL f k x k = x := if_pos rfl
theorem pk_uLn {f : Nat → Int64} {k j : Nat} {x : Int64} (h : j ≠ k) : vp_updL f k x j = f j := if_neg h
theorem pk_sub {a b : Nat} (h : b ≤ a) : nI a - nI b = nI (a - b) := by
  obtain ⟨c, rfl⟩ : ∃ c, a = c + b := ⟨a - b, by omega⟩
  rw [← nI_add, Int32.add_sub_cancel, Nat.add_sub_cancel]
theorem pk_m1 (n : Nat) : nI (n + 1) + (-1) = nI n := by
  rw [← nI_1, Int32.add_assoc, show (1 : Int32) + (-1) = 0 from rfl, Int32.add_zero]
theorem pk_mul (a b : Nat) : nI a * nI b = nI (a * b) := (Int32.ofNat_mul a b).symm
theorem pk_div {a d : Nat} (ha : a < 2 ^ 31) (h0 : 0 < d) (hd : d < 2 ^ 31) : nI a / nI d = nI (a / d) := by
  apply Int32.toInt_inj.mp
  rw [lg_idiv_nonneg (by rw [nI_toInt ha]; omega) (by rw [nI_toInt hd]; omega), nI_toInt ha, nI_toInt hd, nI_toInt (Nat.lt_of_le_of_lt (Nat.div_le_self a d) ha)]
  first | rfl | exact (Int.natCast_ediv _ _).symm
theorem pk_rem {a d : Nat} (ha : a < 2 ^ 31) (h0 : 0 < d) (hd : d < 2 ^ 31) : nI a - nI a / nI d * nI d = nI (a % d) := by
  rw [pk_div ha h0 hd, pk_mul, pk_sub (Nat.div_mul_le_self a d)]
  exact congrArg nI (by have := Nat.div_add_mod' a d; omega)
theorem pk_sub_toInt {a b : Nat} (ha : a < 2 ^ 30) (hb : b < 2 ^ 30) : (nI a - nI b).toInt = (a : Int) - b := by
  rw [Int32.toInt_sub, nI_toInt (by omega), nI_toInt (by omega)]
  exact Int.bmod_eq_of_le (by omega) (by omega)
theorem pk_sneg {a b : Nat} (hb : b < 2 ^ 30) (h : a < b) : nI a - nI b < 0 := by
  rw [Int32.lt_iff_toInt_lt, pk_sub_toInt (by omega) hb, show (0 : Int32).toInt = 0 from by decide]
  omega
theorem pk_ix (x : Int32) {n : Nat} (hn : n < 2 ^ 31) : x < 0 ∨ nI n ≤ x ∨ ∃ j : Nat, j < n ∧ x = nI j := by
  by_cases h : x < 0
  · exact Or.inl h
  · obtain ⟨j, hj, rfl⟩ := nI_of h
    by_cases h2 : j < n
    · exact Or.inr (Or.inr ⟨j, h2, rfl⟩)
    · exact Or.inr (Or.inl (nI_le (by omega) hj))
theorem pk_le {x y : Int32} {A B : Prop} (a b : Nat) (f : a ≤ b → A) (g : b < a → B) (hx : x = nI a := by rfl) (hy : y = nI b := by rfl) (ha : a < 2 ^ 31 := by omega) (hb : b < 2 ^ 31 := by omega) : (x ≤ y → A) ∧ (¬ x ≤ y → B) := by
  subst hx hy
  rw [nI_leI ha hb]
  exact ⟨f, fun z => g (by omega)⟩
theorem pk_lt {x y : Int32} {A B : Prop} (a b : Nat) (f : a < b → A) (g : b ≤ a → B) (hx : x = nI a := by rfl) (hy : y = nI b := by rfl) (ha : a < 2 ^ 31 := by omega) (hb : b < 2 ^ 31 := by omega) : (x < y → A) ∧ (¬ x < y → B) := by
  subst hx hy
  rw [nI_ltI ha hb]
  exact ⟨f, fun z => g (by omega)⟩
theorem pk_eq {x y : Int32} {A B : Prop} (a b : Nat) (f : a = b → A) (g : a ≠ b → B) (hx : x = nI a := by rfl) (hy : y = nI b := by rfl) (ha : a < 2 ^ 31 := by omega) (hb : b < 2 ^ 31 := by omega) : (x = y → A) ∧ (¬ x = y → B) := by
  subst hx hy
  rw [nI_eq ha hb]
  exact ⟨f, g⟩
theorem pk_in {x : Int32} (n N : Nat) (h : n < N) (hx : x = nI n := by rfl) (hN : N < 2 ^ 31 := by omega) : vp_in x N := by
  subst hx
  exact vp_in_nI h hN
theorem pk_cl {x : Int32} (n : Nat) (hx : x = nI n := by rfl) (h : n < 2 ^ 31 := by omega) : x.toNatClampNeg = n := by
  subst hx
  exact nI_clamp h
theorem pk_tn {n : Nat} (h : n < 2 ^ 32) : (nI n).toBitVec.toNat = n := Nat.mod_eq_of_lt h
theorem pk_and (x : Int32) {m : Int32} (k : Nat) (hm : m.toBitVec.toNat = 2 ^ k - 1) : x &&& m = nI (x.toBitVec.toNat % 2 ^ k) := by
  apply Int32.toBitVec_inj.mp
  apply BitVec.eq_of_toNat_eq
  rw [Int32.toBitVec_and, BitVec.toNat_and, hm, Nat.and_two_pow_sub_one_eq_mod]
  show _ = (BitVec.ofNat 32 _).toNat
  rw [BitVec.toNat_ofNat]
  exact (Nat.mod_eq_of_lt (Nat.lt_of_le_of_lt (Nat.mod_le _ _) x.toBitVec.isLt)).symm
theorem pk_andN {n : Nat} (h : n < 2 ^ 32) {m : Int32} (k : Nat) (hm : m.toBitVec.toNat = 2 ^ k - 1) : nI n &&& m = nI (n % 2 ^ k) := by
  rw [pk_and _ k hm, pk_tn h]
theorem pk_andE (x : Int32) {m : Int32} (k : Nat) (hm : m.toBitVec.toNat = 2 ^ k - 1) : ∃ j : Nat, j < 2 ^ k ∧ x &&& m = nI j := ⟨_, Nat.mod_lt _ (Nat.two_pow_pos k), pk_and x k hm⟩
theorem pk_andIn (x : Int32) {m : Int32} (k : Nat) (hm : m.toBitVec.toNat = 2 ^ k - 1) (hk : k ≤ 30) : vp_in (x &&& m) (2 ^ k) := by
  obtain ⟨j, hj, e⟩ := pk_andE x k hm
  rw [e]
  exact vp_in_nI hj (Nat.lt_of_le_of_lt (Nat.pow_le_pow_right (by decide) hk) (by decide))
theorem pk_shl (a s : Int32) (k : Nat) (hs : (s.toBitVec.smod 32).toNat = k) : (a <<< s).toBitVec.toNat = a.toBitVec.toNat * 2 ^ k % 2 ^ 32 := by
  show (a.toBitVec <<< (s.toBitVec.smod 32).toNat).toNat = _
  rw [hs, BitVec.toNat_shiftLeft, Nat.shiftLeft_eq]
theorem pk_shlN {n : Nat} (s : Int32) (k : Nat) (hs : (s.toBitVec.smod 32).toNat = k) (h : n * 2 ^ k < 2 ^ 32) : nI n <<< s = nI (n * 2 ^ k) := by
  apply Int32.toBitVec_inj.mp
  apply BitVec.eq_of_toNat_eq
  have hn : n < 2 ^ 32 := Nat.lt_of_le_of_lt (Nat.le_mul_of_pos_right n (Nat.two_pow_pos k)) h
  rw [pk_shl _ _ k hs, pk_tn hn, pk_tn h, Nat.mod_eq_of_lt h]
theorem pk_shr (a s : Int32) (k : Nat) (hs : (s.toBitVec.smod 32).toNat = k) : (a >>> s).toInt = a.toInt >>> k := by
  show (a.toBitVec.sshiftRight (s.toBitVec.smod 32).toNat).toInt = _
  rw [hs, BitVec.toInt_sshiftRight]
  rfl
theorem pk_shrN {n : Nat} (h : n < 2 ^ 31) (s : Int32) (k : Nat) (hs : (s.toBitVec.smod 32).toNat = k) : nI n >>> s = nI (n / 2 ^ k) := by
  apply Int32.toInt_inj.mp
  have h2 : n / 2 ^ k ≤ n := Nat.div_le_self _ _
  rw [pk_shr _ _ k hs, nI_toInt h, nI_toInt (by omega), Int.shiftRight_eq_div_pow]
  rfl
theorem pk_ushr (x s : Int32) (k : Nat) (hs : ((s.toUInt32 &&& Int32.toUInt32 31).toBitVec % 32).toNat = k) : (x.toUInt32 >>> (s.toUInt32 &&& Int32.toUInt32 31)).toInt32.toBitVec.toNat = x.toBitVec.toNat / 2 ^ k := by
  have e : (x.toUInt32 >>> (s.toUInt32 &&& Int32.toUInt32 31)).toInt32.toBitVec = x.toBitVec >>> k := by
    rw [← hs]
    exact UInt32.toBitVec_shiftRight _ _
  rw [e, BitVec.toNat_ushiftRight, Nat.shiftRight_eq_div_pow]
theorem pk_ushrN {n : Nat} (hn : n < 2 ^ 32) (s : Int32) (k : Nat) (hs : ((s.toUInt32 &&& Int32.toUInt32 31).toBitVec % 32).toNat = k) : ((nI n).toUInt32 >>> (s.toUInt32 &&& Int32.toUInt32 31)).toInt32 = nI (n / 2 ^ k) := by
  apply Int32.toBitVec_inj.mp
  apply BitVec.eq_of_toNat_eq
  rw [pk_ushr _ s k hs, pk_tn hn, pk_tn (Nat.lt_of_le_of_lt (Nat.div_le_self _ _) hn)]
theorem pk_nb (z : Int32) : narrow .byte (.int z.toInt8.toInt32) = .int z.toInt8.toInt32 := congrArg Value.int (by simp)
theorem pk_ns (z : Int32) : narrow .short (.int z.toInt16.toInt32) = .int z.toInt16.toInt32 := congrArg Value.int (by simp)
theorem pk_fb (r : Int32) : fits .byte (.int r.toInt8.toInt32) = true := by
  have ⟨a, b⟩ := lg_i2b_range r
  have h1 : (-128 : Int32).toInt = -128 := by decide
  have h2 : (127 : Int32).toInt = 127 := by decide
  simp only [fits, Bool.and_eq_true, decide_eq_true_eq, Int32.le_iff_toInt_le, h1, h2]
  omega
theorem pk_fs (r : Int32) : fits .short (.int r.toInt16.toInt32) = true := by
  have ⟨a, b⟩ := lg_i2s_range r
  have h1 : (-32768 : Int32).toInt = -32768 := by decide
  have h2 : (32767 : Int32).toInt = 32767 := by decide
  simp only [fits, Bool.and_eq_true, decide_eq_true_eq, Int32.le_iff_toInt_le, h1, h2]
  omega
theorem pk_charN {q : Nat} (hq : q < 65536) : narrow .char (.int (nI q)) = .int (nI q) ∧ fits .char (.int (nI q)) = true := by
  constructor
  · have e : (nI q).toUInt32.toUInt16.toUInt32.toInt32 = nI q := by
      apply Int32.toBitVec_inj.mp
      apply BitVec.eq_of_toNat_eq
      show (nI q).toUInt32.toUInt16.toUInt32.toNat = q % 2 ^ 32
      rw [UInt16.toNat_toUInt32, UInt32.toNat_toUInt16, show (nI q).toUInt32.toNat = q % 2 ^ 32 from rfl]
      omega
    exact congrArg Value.int e
  · have a : (0 : Int32) ≤ nI q := nI_pos' (by omega)
    have b : nI q ≤ 65535 := nI_le (b := 65535) (by omega) (by decide)
    show (decide ((0 : Int32) ≤ nI q) && decide (nI q ≤ 65535)) = true
    rw [decide_eq_true a, decide_eq_true b]
    rfl
theorem pk_char (x : Int32) : (x.toUInt32 % 65536).toInt32 = nI (x.toBitVec.toNat % 65536) := by
  apply Int32.toBitVec_inj.mp
  apply BitVec.eq_of_toNat_eq
  rw [pk_tn (by omega)]
  show (x.toUInt32 % 65536).toNat = _
  rw [UInt32.toNat_mod]
  rfl
theorem pk_nc (x : Int32) : narrow .char (.int (x.toUInt32 % 65536).toInt32) = .int (x.toUInt32 % 65536).toInt32 := by
  rw [pk_char]
  exact (pk_charN (Nat.mod_lt _ (by decide))).1
theorem pk_fc (x : Int32) : fits .char (.int (x.toUInt32 % 65536).toInt32) = true := by
  rw [pk_char]
  exact (pk_charN (Nat.mod_lt _ (by decide))).2
theorem pk_vb (z : Int32) : vp_nar .byte z.toInt8.toInt32 = z.toInt8.toInt32 := by rw [vp_nar_byte]; simp
theorem pk_vs (z : Int32) : vp_nar .short z.toInt16.toInt32 = z.toInt16.toInt32 := by rw [vp_nar_short]; simp
theorem pk_vc (z : Int32) : vp_nar .char (z.toUInt32 % 65536).toInt32 = (z.toUInt32 % 65536).toInt32 := Value.int.inj (pk_nc z)
theorem pk_lT {n : Nat} (h : n < 2 ^ 63) : (lN n).toInt = (n : Int) := lg_ofNat_toInt h
theorem pk_lLT {a b : Nat} (ha : a < 2 ^ 63) (hb : b < 2 ^ 63) : lN a < lN b ↔ a < b := by
  rw [Int64.lt_iff_toInt_lt, pk_lT ha, pk_lT hb]; omega
theorem pk_lLE {a b : Nat} (ha : a < 2 ^ 63) (hb : b < 2 ^ 63) : lN a ≤ lN b ↔ a ≤ b := by
  rw [Int64.le_iff_toInt_le, pk_lT ha, pk_lT hb]; omega
theorem pk_lEQ {a b : Nat} (ha : a < 2 ^ 63) (hb : b < 2 ^ 63) : lN a = lN b ↔ a = b := by
  rw [← Int64.toInt_inj, pk_lT ha, pk_lT hb]; omega
theorem pk_lOf {x : Int64} (h : ¬ x < 0) : ∃ k : Nat, k < 2 ^ 63 ∧ x = lN k := by
  rw [Int64.lt_iff_toInt_lt] at h
  have h0 : (0 : Int64).toInt = 0 := by decide
  have hx := Int64.toInt_lt x
  refine ⟨x.toInt.toNat, by omega, Int64.toInt_inj.mp ?_⟩
  rw [pk_lT (by omega)]
  omega
theorem pk_lDiv {a b : Nat} (ha : a < 2 ^ 63) (h0 : 0 < b) (hb : b < 2 ^ 63) : lN a / lN b = lN (a / b) := by
  apply Int64.toInt_inj.mp
  rw [lg_ldiv_nonneg (by rw [pk_lT ha]; omega) (by rw [pk_lT hb]; omega), pk_lT ha, pk_lT hb, pk_lT (Nat.lt_of_le_of_lt (Nat.div_le_self a b) ha)]
  rfl
theorem pk_lRem {a b : Nat} (ha : a < 2 ^ 63) (h0 : 0 < b) (hb : b < 2 ^ 63) : lN a - lN a / lN b * lN b = lN (a % b) := by
  rw [pk_lDiv ha h0 hb, lN_mul, lN_sub (Nat.div_mul_le_self a b)]
  exact congrArg lN (by have := Nat.div_add_mod' a b; omega)
theorem pk_loop {σ : Type} (W : Nat → Nat → σ → Prop) (I : Nat → σ → Prop) (e i0 : Nat) (s : σ) (hi : i0 ≤ e) (h0 : I i0 s) (hx : ∀ n s, I e s → W (n + 1) e s)
    (hs : ∀ n i s, i < e → I i s → (∀ s', I (i + 1) s' → W n (i + 1) s') → W (n + 1) i s) : ∃ n, W n i0 s :=
  ⟨e + 1, loop_i W I e hx hs (e + 1) i0 s hi (by omega) h0⟩
theorem pk_loopD {σ : Type} (W : Nat → Nat → σ → Prop) (I : Nat → σ → Prop) (hx : ∀ n s, I 0 s → W (n + 1) 0 s)
    (hs : ∀ n i s, I (i + 1) s → (∀ s', I i s' → W n i s') → W (n + 1) (i + 1) s) : ∀ (e : Nat) (s : σ), I e s → W (e + 1) e s := by
  intro e
  induction e with
  | zero => exact fun s h => hx 0 s h
  | succ e ih => exact fun s h => hs (e + 1) e s h (fun s' h' => ih s' h')
theorem lp1 {A1 : Type} (W : Nat → A1 → Prop) (I : A1 → Prop) (μ : A1 → Nat) (hs : ∀ (n : Nat) (a1 : A1), I a1 → (∀ (b1 : A1), I b1 → μ b1 < μ a1 → W n b1) → W (n + 1) a1) (a1 : A1) (h : I a1) : ∃ n, W n a1 :=
  loop_m (σ := A1) (fun n s => W n s) (fun s => I s) (fun s => μ s) (fun n s hI hk => hs n s hI (fun b1 h9 hm => hk b1 h9 hm)) a1 h
theorem lp2 {A1 A2 : Type} (W : Nat → A1 → A2 → Prop) (I : A1 → A2 → Prop) (μ : A1 → A2 → Nat) (hs : ∀ (n : Nat) (a1 : A1) (a2 : A2), I a1 a2 → (∀ (b1 : A1) (b2 : A2), I b1 b2 → μ b1 b2 < μ a1 a2 → W n b1 b2) → W (n + 1) a1 a2) (a1 : A1) (a2 : A2) (h : I a1 a2) : ∃ n, W n a1 a2 :=
  loop_m (σ := A1 × A2) (fun n s => W n s.1 s.2) (fun s => I s.1 s.2) (fun s => μ s.1 s.2) (fun n s hI hk => hs n s.1 s.2 hI (fun b1 b2 h9 hm => hk (b1, b2) h9 hm)) (a1, a2) h
theorem lp3 {A1 A2 A3 : Type} (W : Nat → A1 → A2 → A3 → Prop) (I : A1 → A2 → A3 → Prop) (μ : A1 → A2 → A3 → Nat) (hs : ∀ (n : Nat) (a1 : A1) (a2 : A2) (a3 : A3), I a1 a2 a3 → (∀ (b1 : A1) (b2 : A2) (b3 : A3), I b1 b2 b3 → μ b1 b2 b3 < μ a1 a2 a3 → W n b1 b2 b3) → W (n + 1) a1 a2 a3) (a1 : A1) (a2 : A2) (a3 : A3) (h : I a1 a2 a3) : ∃ n, W n a1 a2 a3 :=
  loop_m (σ := A1 × A2 × A3) (fun n s => W n s.1 s.2.1 s.2.2) (fun s => I s.1 s.2.1 s.2.2) (fun s => μ s.1 s.2.1 s.2.2) (fun n s hI hk => hs n s.1 s.2.1 s.2.2 hI (fun b1 b2 b3 h9 hm => hk (b1, b2, b3) h9 hm)) (a1, a2, a3) h
theorem lp4 {A1 A2 A3 A4 : Type} (W : Nat → A1 → A2 → A3 → A4 → Prop) (I : A1 → A2 → A3 → A4 → Prop) (μ : A1 → A2 → A3 → A4 → Nat) (hs : ∀ (n : Nat) (a1 : A1) (a2 : A2) (a3 : A3) (a4 : A4), I a1 a2 a3 a4 → (∀ (b1 : A1) (b2 : A2) (b3 : A3) (b4 : A4), I b1 b2 b3 b4 → μ b1 b2 b3 b4 < μ a1 a2 a3 a4 → W n b1 b2 b3 b4) → W (n + 1) a1 a2 a3 a4) (a1 : A1) (a2 : A2) (a3 : A3) (a4 : A4) (h : I a1 a2 a3 a4) : ∃ n, W n a1 a2 a3 a4 :=
  loop_m (σ := A1 × A2 × A3 × A4) (fun n s => W n s.1 s.2.1 s.2.2.1 s.2.2.2) (fun s => I s.1 s.2.1 s.2.2.1 s.2.2.2) (fun s => μ s.1 s.2.1 s.2.2.1 s.2.2.2) (fun n s hI hk => hs n s.1 s.2.1 s.2.2.1 s.2.2.2 hI (fun b1 b2 b3 b4 h9 hm => hk (b1, b2, b3, b4) h9 hm)) (a1, a2, a3, a4) h
theorem lp5 {A1 A2 A3 A4 A5 : Type} (W : Nat → A1 → A2 → A3 → A4 → A5 → Prop) (I : A1 → A2 → A3 → A4 → A5 → Prop) (μ : A1 → A2 → A3 → A4 → A5 → Nat) (hs : ∀ (n : Nat) (a1 : A1) (a2 : A2) (a3 : A3) (a4 : A4) (a5 : A5), I a1 a2 a3 a4 a5 → (∀ (b1 : A1) (b2 : A2) (b3 : A3) (b4 : A4) (b5 : A5), I b1 b2 b3 b4 b5 → μ b1 b2 b3 b4 b5 < μ a1 a2 a3 a4 a5 → W n b1 b2 b3 b4 b5) → W (n + 1) a1 a2 a3 a4 a5) (a1 : A1) (a2 : A2) (a3 : A3) (a4 : A4) (a5 : A5) (h : I a1 a2 a3 a4 a5) : ∃ n, W n a1 a2 a3 a4 a5 :=
  loop_m (σ := A1 × A2 × A3 × A4 × A5) (fun n s => W n s.1 s.2.1 s.2.2.1 s.2.2.2.1 s.2.2.2.2) (fun s => I s.1 s.2.1 s.2.2.1 s.2.2.2.1 s.2.2.2.2) (fun s => μ s.1 s.2.1 s.2.2.1 s.2.2.2.1 s.2.2.2.2) (fun n s hI hk => hs n s.1 s.2.1 s.2.2.1 s.2.2.2.1 s.2.2.2.2 hI (fun b1 b2 b3 b4 b5 h9 hm => hk (b1, b2, b3, b4, b5) h9 hm)) (a1, a2, a3, a4, a5) h
theorem lp6 {A1 A2 A3 A4 A5 A6 : Type} (W : Nat → A1 → A2 → A3 → A4 → A5 → A6 → Prop) (I : A1 → A2 → A3 → A4 → A5 → A6 → Prop) (μ : A1 → A2 → A3 → A4 → A5 → A6 → Nat) (hs : ∀ (n : Nat) (a1 : A1) (a2 : A2) (a3 : A3) (a4 : A4) (a5 : A5) (a6 : A6), I a1 a2 a3 a4 a5 a6 → (∀ (b1 : A1) (b2 : A2) (b3 : A3) (b4 : A4) (b5 : A5) (b6 : A6), I b1 b2 b3 b4 b5 b6 → μ b1 b2 b3 b4 b5 b6 < μ a1 a2 a3 a4 a5 a6 → W n b1 b2 b3 b4 b5 b6) → W (n + 1) a1 a2 a3 a4 a5 a6) (a1 : A1) (a2 : A2) (a3 : A3) (a4 : A4) (a5 : A5) (a6 : A6) (h : I a1 a2 a3 a4 a5 a6) : ∃ n, W n a1 a2 a3 a4 a5 a6 :=
  loop_m (σ := A1 × A2 × A3 × A4 × A5 × A6) (fun n s => W n s.1 s.2.1 s.2.2.1 s.2.2.2.1 s.2.2.2.2.1 s.2.2.2.2.2) (fun s => I s.1 s.2.1 s.2.2.1 s.2.2.2.1 s.2.2.2.2.1 s.2.2.2.2.2) (fun s => μ s.1 s.2.1 s.2.2.1 s.2.2.2.1 s.2.2.2.2.1 s.2.2.2.2.2) (fun n s hI hk => hs n s.1 s.2.1 s.2.2.1 s.2.2.2.1 s.2.2.2.2.1 s.2.2.2.2.2 hI (fun b1 b2 b3 b4 b5 b6 h9 hm => hk (b1, b2, b3, b4, b5, b6) h9 hm)) (a1, a2, a3, a4, a5, a6) h
theorem lp7 {A1 A2 A3 A4 A5 A6 A7 : Type} (W : Nat → A1 → A2 → A3 → A4 → A5 → A6 → A7 → Prop) (I : A1 → A2 → A3 → A4 → A5 → A6 → A7 → Prop) (μ : A1 → A2 → A3 → A4 → A5 → A6 → A7 → Nat) (hs : ∀ (n : Nat) (a1 : A1) (a2 : A2) (a3 : A3) (a4 : A4) (a5 : A5) (a6 : A6) (a7 : A7), I a1 a2 a3 a4 a5 a6 a7 → (∀ (b1 : A1) (b2 : A2) (b3 : A3) (b4 : A4) (b5 : A5) (b6 : A6) (b7 : A7), I b1 b2 b3 b4 b5 b6 b7 → μ b1 b2 b3 b4 b5 b6 b7 < μ a1 a2 a3 a4 a5 a6 a7 → W n b1 b2 b3 b4 b5 b6 b7) → W (n + 1) a1 a2 a3 a4 a5 a6 a7) (a1 : A1) (a2 : A2) (a3 : A3) (a4 : A4) (a5 : A5) (a6 : A6) (a7 : A7) (h : I a1 a2 a3 a4 a5 a6 a7) : ∃ n, W n a1 a2 a3 a4 a5 a6 a7 :=
  loop_m (σ := A1 × A2 × A3 × A4 × A5 × A6 × A7) (fun n s => W n s.1 s.2.1 s.2.2.1 s.2.2.2.1 s.2.2.2.2.1 s.2.2.2.2.2.1 s.2.2.2.2.2.2) (fun s => I s.1 s.2.1 s.2.2.1 s.2.2.2.1 s.2.2.2.2.1 s.2.2.2.2.2.1 s.2.2.2.2.2.2) (fun s => μ s.1 s.2.1 s.2.2.1 s.2.2.2.1 s.2.2.2.2.1 s.2.2.2.2.2.1 s.2.2.2.2.2.2) (fun n s hI hk => hs n s.1 s.2.1 s.2.2.1 s.2.2.2.1 s.2.2.2.2.1 s.2.2.2.2.2.1 s.2.2.2.2.2.2 hI (fun b1 b2 b3 b4 b5 b6 b7 h9 hm => hk (b1, b2, b3, b4, b5, b6, b7) h9 hm)) (a1, a2, a3, a4, a5, a6, a7) h
theorem lp8 {A1 A2 A3 A4 A5 A6 A7 A8 : Type} (W : Nat → A1 → A2 → A3 → A4 → A5 → A6 → A7 → A8 → Prop) (I : A1 → A2 → A3 → A4 → A5 → A6 → A7 → A8 → Prop) (μ : A1 → A2 → A3 → A4 → A5 → A6 → A7 → A8 → Nat) (hs : ∀ (n : Nat) (a1 : A1) (a2 : A2) (a3 : A3) (a4 : A4) (a5 : A5) (a6 : A6) (a7 : A7) (a8 : A8), I a1 a2 a3 a4 a5 a6 a7 a8 → (∀ (b1 : A1) (b2 : A2) (b3 : A3) (b4 : A4) (b5 : A5) (b6 : A6) (b7 : A7) (b8 : A8), I b1 b2 b3 b4 b5 b6 b7 b8 → μ b1 b2 b3 b4 b5 b6 b7 b8 < μ a1 a2 a3 a4 a5 a6 a7 a8 → W n b1 b2 b3 b4 b5 b6 b7 b8) → W (n + 1) a1 a2 a3 a4 a5 a6 a7 a8) (a1 : A1) (a2 : A2) (a3 : A3) (a4 : A4) (a5 : A5) (a6 : A6) (a7 : A7) (a8 : A8) (h : I a1 a2 a3 a4 a5 a6 a7 a8) : ∃ n, W n a1 a2 a3 a4 a5 a6 a7 a8 :=
  loop_m (σ := A1 × A2 × A3 × A4 × A5 × A6 × A7 × A8) (fun n s => W n s.1 s.2.1 s.2.2.1 s.2.2.2.1 s.2.2.2.2.1 s.2.2.2.2.2.1 s.2.2.2.2.2.2.1 s.2.2.2.2.2.2.2) (fun s => I s.1 s.2.1 s.2.2.1 s.2.2.2.1 s.2.2.2.2.1 s.2.2.2.2.2.1 s.2.2.2.2.2.2.1 s.2.2.2.2.2.2.2) (fun s => μ s.1 s.2.1 s.2.2.1 s.2.2.2.1 s.2.2.2.2.1 s.2.2.2.2.2.1 s.2.2.2.2.2.2.1 s.2.2.2.2.2.2.2) (fun n s hI hk => hs n s.1 s.2.1 s.2.2.1 s.2.2.2.1 s.2.2.2.2.1 s.2.2.2.2.2.1 s.2.2.2.2.2.2.1 s.2.2.2.2.2.2.2 hI (fun b1 b2 b3 b4 b5 b6 b7 b8 h9 hm => hk (b1, b2, b3, b4, b5, b6, b7, b8) h9 hm)) (a1, a2, a3, a4, a5, a6, a7, a8) h
theorem lp9 {A1 A2 A3 A4 A5 A6 A7 A8 A9 : Type} (W : Nat → A1 → A2 → A3 → A4 → A5 → A6 → A7 → A8 → A9 → Prop) (I : A1 → A2 → A3 → A4 → A5 → A6 → A7 → A8 → A9 → Prop) (μ : A1 → A2 → A3 → A4 → A5 → A6 → A7 → A8 → A9 → Nat) (hs : ∀ (n : Nat) (a1 : A1) (a2 : A2) (a3 : A3) (a4 : A4) (a5 : A5) (a6 : A6) (a7 : A7) (a8 : A8) (a9 : A9), I a1 a2 a3 a4 a5 a6 a7 a8 a9 → (∀ (b1 : A1) (b2 : A2) (b3 : A3) (b4 : A4) (b5 : A5) (b6 : A6) (b7 : A7) (b8 : A8) (b9 : A9), I b1 b2 b3 b4 b5 b6 b7 b8 b9 → μ b1 b2 b3 b4 b5 b6 b7 b8 b9 < μ a1 a2 a3 a4 a5 a6 a7 a8 a9 → W n b1 b2 b3 b4 b5 b6 b7 b8 b9) → W (n + 1) a1 a2 a3 a4 a5 a6 a7 a8 a9) (a1 : A1) (a2 : A2) (a3 : A3) (a4 : A4) (a5 : A5) (a6 : A6) (a7 : A7) (a8 : A8) (a9 : A9) (h : I a1 a2 a3 a4 a5 a6 a7 a8 a9) : ∃ n, W n a1 a2 a3 a4 a5 a6 a7 a8 a9 :=
  loop_m (σ := A1 × A2 × A3 × A4 × A5 × A6 × A7 × A8 × A9) (fun n s => W n s.1 s.2.1 s.2.2.1 s.2.2.2.1 s.2.2.2.2.1 s.2.2.2.2.2.1 s.2.2.2.2.2.2.1 s.2.2.2.2.2.2.2.1 s.2.2.2.2.2.2.2.2) (fun s => I s.1 s.2.1 s.2.2.1 s.2.2.2.1 s.2.2.2.2.1 s.2.2.2.2.2.1 s.2.2.2.2.2.2.1 s.2.2.2.2.2.2.2.1 s.2.2.2.2.2.2.2.2) (fun s => μ s.1 s.2.1 s.2.2.1 s.2.2.2.1 s.2.2.2.2.1 s.2.2.2.2.2.1 s.2.2.2.2.2.2.1 s.2.2.2.2.2.2.2.1 s.2.2.2.2.2.2.2.2) (fun n s hI hk => hs n s.1 s.2.1 s.2.2.1 s.2.2.2.1 s.2.2.2.2.1 s.2.2.2.2.2.1 s.2.2.2.2.2.2.1 s.2.2.2.2.2.2.2.1 s.2.2.2.2.2.2.2.2 hI (fun b1 b2 b3 b4 b5 b6 b7 b8 b9 h9 hm => hk (b1, b2, b3, b4, b5, b6, b7, b8, b9) h9 hm)) (a1, a2, a3, a4, a5, a6, a7, a8, a9) h
theorem lp10 {A1 A2 A3 A4 A5 A6 A7 A8 A9 A10 : Type} (W : Nat → A1 → A2 → A3 → A4 → A5 → A6 → A7 → A8 → A9 → A10 → Prop) (I : A1 → A2 → A3 → A4 → A5 → A6 → A7 → A8 → A9 → A10 → Prop) (μ : A1 → A2 → A3 → A4 → A5 → A6 → A7 → A8 → A9 → A10 → Nat) (hs : ∀ (n : Nat) (a1 : A1) (a2 : A2) (a3 : A3) (a4 : A4) (a5 : A5) (a6 : A6) (a7 : A7) (a8 : A8) (a9 : A9) (a10 : A10), I a1 a2 a3 a4 a5 a6 a7 a8 a9 a10 → (∀ (b1 : A1) (b2 : A2) (b3 : A3) (b4 : A4) (b5 : A5) (b6 : A6) (b7 : A7) (b8 : A8) (b9 : A9) (b10 : A10), I b1 b2 b3 b4 b5 b6 b7 b8 b9 b10 → μ b1 b2 b3 b4 b5 b6 b7 b8 b9 b10 < μ a1 a2 a3 a4 a5 a6 a7 a8 a9 a10 → W n b1 b2 b3 b4 b5 b6 b7 b8 b9 b10) → W (n + 1) a1 a2 a3 a4 a5 a6 a7 a8 a9 a10) (a1 : A1) (a2 : A2) (a3 : A3) (a4 : A4) (a5 : A5) (a6 : A6) (a7 : A7) (a8 : A8) (a9 : A9) (a10 : A10) (h : I a1 a2 a3 a4 a5 a6 a7 a8 a9 a10) : ∃ n, W n a1 a2 a3 a4 a5 a6 a7 a8 a9 a10 :=
  loop_m (σ := A1 × A2 × A3 × A4 × A5 × A6 × A7 × A8 × A9 × A10) (fun n s => W n s.1 s.2.1 s.2.2.1 s.2.2.2.1 s.2.2.2.2.1 s.2.2.2.2.2.1 s.2.2.2.2.2.2.1 s.2.2.2.2.2.2.2.1 s.2.2.2.2.2.2.2.2.1 s.2.2.2.2.2.2.2.2.2) (fun s => I s.1 s.2.1 s.2.2.1 s.2.2.2.1 s.2.2.2.2.1 s.2.2.2.2.2.1 s.2.2.2.2.2.2.1 s.2.2.2.2.2.2.2.1 s.2.2.2.2.2.2.2.2.1 s.2.2.2.2.2.2.2.2.2) (fun s => μ s.1 s.2.1 s.2.2.1 s.2.2.2.1 s.2.2.2.2.1 s.2.2.2.2.2.1 s.2.2.2.2.2.2.1 s.2.2.2.2.2.2.2.1 s.2.2.2.2.2.2.2.2.1 s.2.2.2.2.2.2.2.2.2) (fun n s hI hk => hs n s.1 s.2.1 s.2.2.1 s.2.2.2.1 s.2.2.2.2.1 s.2.2.2.2.2.1 s.2.2.2.2.2.2.1 s.2.2.2.2.2.2.2.1 s.2.2.2.2.2.2.2.2.1 s.2.2.2.2.2.2.2.2.2 hI (fun b1 b2 b3 b4 b5 b6 b7 b8 b9 b10 h9 hm => hk (b1, b2, b3, b4, b5, b6, b7, b8, b9, b10) h9 hm)) (a1, a2, a3, a4, a5, a6, a7, a8, a9, a10) h
theorem lp11 {A1 A2 A3 A4 A5 A6 A7 A8 A9 A10 A11 : Type} (W : Nat → A1 → A2 → A3 → A4 → A5 → A6 → A7 → A8 → A9 → A10 → A11 → Prop) (I : A1 → A2 → A3 → A4 → A5 → A6 → A7 → A8 → A9 → A10 → A11 → Prop) (μ : A1 → A2 → A3 → A4 → A5 → A6 → A7 → A8 → A9 → A10 → A11 → Nat) (hs : ∀ (n : Nat) (a1 : A1) (a2 : A2) (a3 : A3) (a4 : A4) (a5 : A5) (a6 : A6) (a7 : A7) (a8 : A8) (a9 : A9) (a10 : A10) (a11 : A11), I a1 a2 a3 a4 a5 a6 a7 a8 a9 a10 a11 → (∀ (b1 : A1) (b2 : A2) (b3 : A3) (b4 : A4) (b5 : A5) (b6 : A6) (b7 : A7) (b8 : A8) (b9 : A9) (b10 : A10) (b11 : A11), I b1 b2 b3 b4 b5 b6 b7 b8 b9 b10 b11 → μ b1 b2 b3 b4 b5 b6 b7 b8 b9 b10 b11 < μ a1 a2 a3 a4 a5 a6 a7 a8 a9 a10 a11 → W n b1 b2 b3 b4 b5 b6 b7 b8 b9 b10 b11) → W (n + 1) a1 a2 a3 a4 a5 a6 a7 a8 a9 a10 a11) (a1 : A1) (a2 : A2) (a3 : A3) (a4 : A4) (a5 : A5) (a6 : A6) (a7 : A7) (a8 : A8) (a9 : A9) (a10 : A10) (a11 : A11) (h : I a1 a2 a3 a4 a5 a6 a7 a8 a9 a10 a11) : ∃ n, W n a1 a2 a3 a4 a5 a6 a7 a8 a9 a10 a11 :=
  loop_m (σ := A1 × A2 × A3 × A4 × A5 × A6 × A7 × A8 × A9 × A10 × A11) (fun n s => W n s.1 s.2.1 s.2.2.1 s.2.2.2.1 s.2.2.2.2.1 s.2.2.2.2.2.1 s.2.2.2.2.2.2.1 s.2.2.2.2.2.2.2.1 s.2.2.2.2.2.2.2.2.1 s.2.2.2.2.2.2.2.2.2.1 s.2.2.2.2.2.2.2.2.2.2) (fun s => I s.1 s.2.1 s.2.2.1 s.2.2.2.1 s.2.2.2.2.1 s.2.2.2.2.2.1 s.2.2.2.2.2.2.1 s.2.2.2.2.2.2.2.1 s.2.2.2.2.2.2.2.2.1 s.2.2.2.2.2.2.2.2.2.1 s.2.2.2.2.2.2.2.2.2.2) (fun s => μ s.1 s.2.1 s.2.2.1 s.2.2.2.1 s.2.2.2.2.1 s.2.2.2.2.2.1 s.2.2.2.2.2.2.1 s.2.2.2.2.2.2.2.1 s.2.2.2.2.2.2.2.2.1 s.2.2.2.2.2.2.2.2.2.1 s.2.2.2.2.2.2.2.2.2.2) (fun n s hI hk => hs n s.1 s.2.1 s.2.2.1 s.2.2.2.1 s.2.2.2.2.1 s.2.2.2.2.2.1 s.2.2.2.2.2.2.1 s.2.2.2.2.2.2.2.1 s.2.2.2.2.2.2.2.2.1 s.2.2.2.2.2.2.2.2.2.1 s.2.2.2.2.2.2.2.2.2.2 hI (fun b1 b2 b3 b4 b5 b6 b7 b8 b9 b10 b11 h9 hm => hk (b1, b2, b3, b4, b5, b6, b7, b8, b9, b10, b11) h9 hm)) (a1, a2, a3, a4, a5, a6, a7, a8, a9, a10, a11) h
theorem lp12 {A1 A2 A3 A4 A5 A6 A7 A8 A9 A10 A11 A12 : Type} (W : Nat → A1 → A2 → A3 → A4 → A5 → A6 → A7 → A8 → A9 → A10 → A11 → A12 → Prop) (I : A1 → A2 → A3 → A4 → A5 → A6 → A7 → A8 → A9 → A10 → A11 → A12 → Prop) (μ : A1 → A2 → A3 → A4 → A5 → A6 → A7 → A8 → A9 → A10 → A11 → A12 → Nat) (hs : ∀ (n : Nat) (a1 : A1) (a2 : A2) (a3 : A3) (a4 : A4) (a5 : A5) (a6 : A6) (a7 : A7) (a8 : A8) (a9 : A9) (a10 : A10) (a11 : A11) (a12 : A12), I a1 a2 a3 a4 a5 a6 a7 a8 a9 a10 a11 a12 → (∀ (b1 : A1) (b2 : A2) (b3 : A3) (b4 : A4) (b5 : A5) (b6 : A6) (b7 : A7) (b8 : A8) (b9 : A9) (b10 : A10) (b11 : A11) (b12 : A12), I b1 b2 b3 b4 b5 b6 b7 b8 b9 b10 b11 b12 → μ b1 b2 b3 b4 b5 b6 b7 b8 b9 b10 b11 b12 < μ a1 a2 a3 a4 a5 a6 a7 a8 a9 a10 a11 a12 → W n b1 b2 b3 b4 b5 b6 b7 b8 b9 b10 b11 b12) → W (n + 1) a1 a2 a3 a4 a5 a6 a7 a8 a9 a10 a11 a12) (a1 : A1) (a2 : A2) (a3 : A3) (a4 : A4) (a5 : A5) (a6 : A6) (a7 : A7) (a8 : A8) (a9 : A9) (a10 : A10) (a11 : A11) (a12 : A12) (h : I a1 a2 a3 a4 a5 a6 a7 a8 a9 a10 a11 a12) : ∃ n, W n a1 a2 a3 a4 a5 a6 a7 a8 a9 a10 a11 a12 :=
  loop_m (σ := A1 × A2 × A3 × A4 × A5 × A6 × A7 × A8 × A9 × A10 × A11 × A12) (fun n s => W n s.1 s.2.1 s.2.2.1 s.2.2.2.1 s.2.2.2.2.1 s.2.2.2.2.2.1 s.2.2.2.2.2.2.1 s.2.2.2.2.2.2.2.1 s.2.2.2.2.2.2.2.2.1 s.2.2.2.2.2.2.2.2.2.1 s.2.2.2.2.2.2.2.2.2.2.1 s.2.2.2.2.2.2.2.2.2.2.2) (fun s => I s.1 s.2.1 s.2.2.1 s.2.2.2.1 s.2.2.2.2.1 s.2.2.2.2.2.1 s.2.2.2.2.2.2.1 s.2.2.2.2.2.2.2.1 s.2.2.2.2.2.2.2.2.1 s.2.2.2.2.2.2.2.2.2.1 s.2.2.2.2.2.2.2.2.2.2.1 s.2.2.2.2.2.2.2.2.2.2.2) (fun s => μ s.1 s.2.1 s.2.2.1 s.2.2.2.1 s.2.2.2.2.1 s.2.2.2.2.2.1 s.2.2.2.2.2.2.1 s.2.2.2.2.2.2.2.1 s.2.2.2.2.2.2.2.2.1 s.2.2.2.2.2.2.2.2.2.1 s.2.2.2.2.2.2.2.2.2.2.1 s.2.2.2.2.2.2.2.2.2.2.2) (fun n s hI hk => hs n s.1 s.2.1 s.2.2.1 s.2.2.2.1 s.2.2.2.2.1 s.2.2.2.2.2.1 s.2.2.2.2.2.2.1 s.2.2.2.2.2.2.2.1 s.2.2.2.2.2.2.2.2.1 s.2.2.2.2.2.2.2.2.2.1 s.2.2.2.2.2.2.2.2.2.2.1 s.2.2.2.2.2.2.2.2.2.2.2 hI (fun b1 b2 b3 b4 b5 b6 b7 b8 b9 b10 b11 b12 h9 hm => hk (b1, b2, b3, b4, b5, b6, b7, b8, b9, b10, b11, b12) h9 hm)) (a1, a2, a3, a4, a5, a6, a7, a8, a9, a10, a11, a12) h
theorem lp13 {A1 A2 A3 A4 A5 A6 A7 A8 A9 A10 A11 A12 A13 : Type} (W : Nat → A1 → A2 → A3 → A4 → A5 → A6 → A7 → A8 → A9 → A10 → A11 → A12 → A13 → Prop) (I : A1 → A2 → A3 → A4 → A5 → A6 → A7 → A8 → A9 → A10 → A11 → A12 → A13 → Prop) (μ : A1 → A2 → A3 → A4 → A5 → A6 → A7 → A8 → A9 → A10 → A11 → A12 → A13 → Nat) (hs : ∀ (n : Nat) (a1 : A1) (a2 : A2) (a3 : A3) (a4 : A4) (a5 : A5) (a6 : A6) (a7 : A7) (a8 : A8) (a9 : A9) (a10 : A10) (a11 : A11) (a12 : A12) (a13 : A13), I a1 a2 a3 a4 a5 a6 a7 a8 a9 a10 a11 a12 a13 → (∀ (b1 : A1) (b2 : A2) (b3 : A3) (b4 : A4) (b5 : A5) (b6 : A6) (b7 : A7) (b8 : A8) (b9 : A9) (b10 : A10) (b11 : A11) (b12 : A12) (b13 : A13), I b1 b2 b3 b4 b5 b6 b7 b8 b9 b10 b11 b12 b13 → μ b1 b2 b3 b4 b5 b6 b7 b8 b9 b10 b11 b12 b13 < μ a1 a2 a3 a4 a5 a6 a7 a8 a9 a10 a11 a12 a13 → W n b1 b2 b3 b4 b5 b6 b7 b8 b9 b10 b11 b12 b13) → W (n + 1) a1 a2 a3 a4 a5 a6 a7 a8 a9 a10 a11 a12 a13) (a1 : A1) (a2 : A2) (a3 : A3) (a4 : A4) (a5 : A5) (a6 : A6) (a7 : A7) (a8 : A8) (a9 : A9) (a10 : A10) (a11 : A11) (a12 : A12) (a13 : A13) (h : I a1 a2 a3 a4 a5 a6 a7 a8 a9 a10 a11 a12 a13) : ∃ n, W n a1 a2 a3 a4 a5 a6 a7 a8 a9 a10 a11 a12 a13 :=
  loop_m (σ := A1 × A2 × A3 × A4 × A5 × A6 × A7 × A8 × A9 × A10 × A11 × A12 × A13) (fun n s => W n s.1 s.2.1 s.2.2.1 s.2.2.2.1 s.2.2.2.2.1 s.2.2.2.2.2.1 s.2.2.2.2.2.2.1 s.2.2.2.2.2.2.2.1 s.2.2.2.2.2.2.2.2.1 s.2.2.2.2.2.2.2.2.2.1 s.2.2.2.2.2.2.2.2.2.2.1 s.2.2.2.2.2.2.2.2.2.2.2.1 s.2.2.2.2.2.2.2.2.2.2.2.2) (fun s => I s.1 s.2.1 s.2.2.1 s.2.2.2.1 s.2.2.2.2.1 s.2.2.2.2.2.1 s.2.2.2.2.2.2.1 s.2.2.2.2.2.2.2.1 s.2.2.2.2.2.2.2.2.1 s.2.2.2.2.2.2.2.2.2.1 s.2.2.2.2.2.2.2.2.2.2.1 s.2.2.2.2.2.2.2.2.2.2.2.1 s.2.2.2.2.2.2.2.2.2.2.2.2) (fun s => μ s.1 s.2.1 s.2.2.1 s.2.2.2.1 s.2.2.2.2.1 s.2.2.2.2.2.1 s.2.2.2.2.2.2.1 s.2.2.2.2.2.2.2.1 s.2.2.2.2.2.2.2.2.1 s.2.2.2.2.2.2.2.2.2.1 s.2.2.2.2.2.2.2.2.2.2.1 s.2.2.2.2.2.2.2.2.2.2.2.1 s.2.2.2.2.2.2.2.2.2.2.2.2) (fun n s hI hk => hs n s.1 s.2.1 s.2.2.1 s.2.2.2.1 s.2.2.2.2.1 s.2.2.2.2.2.1 s.2.2.2.2.2.2.1 s.2.2.2.2.2.2.2.1 s.2.2.2.2.2.2.2.2.1 s.2.2.2.2.2.2.2.2.2.1 s.2.2.2.2.2.2.2.2.2.2.1 s.2.2.2.2.2.2.2.2.2.2.2.1 s.2.2.2.2.2.2.2.2.2.2.2.2 hI (fun b1 b2 b3 b4 b5 b6 b7 b8 b9 b10 b11 b12 b13 h9 hm => hk (b1, b2, b3, b4, b5, b6, b7, b8, b9, b10, b11, b12, b13) h9 hm)) (a1, a2, a3, a4, a5, a6, a7, a8, a9, a10, a11, a12, a13) h
theorem lp14 {A1 A2 A3 A4 A5 A6 A7 A8 A9 A10 A11 A12 A13 A14 : Type} (W : Nat → A1 → A2 → A3 → A4 → A5 → A6 → A7 → A8 → A9 → A10 → A11 → A12 → A13 → A14 → Prop) (I : A1 → A2 → A3 → A4 → A5 → A6 → A7 → A8 → A9 → A10 → A11 → A12 → A13 → A14 → Prop) (μ : A1 → A2 → A3 → A4 → A5 → A6 → A7 → A8 → A9 → A10 → A11 → A12 → A13 → A14 → Nat) (hs : ∀ (n : Nat) (a1 : A1) (a2 : A2) (a3 : A3) (a4 : A4) (a5 : A5) (a6 : A6) (a7 : A7) (a8 : A8) (a9 : A9) (a10 : A10) (a11 : A11) (a12 : A12) (a13 : A13) (a14 : A14), I a1 a2 a3 a4 a5 a6 a7 a8 a9 a10 a11 a12 a13 a14 → (∀ (b1 : A1) (b2 : A2) (b3 : A3) (b4 : A4) (b5 : A5) (b6 : A6) (b7 : A7) (b8 : A8) (b9 : A9) (b10 : A10) (b11 : A11) (b12 : A12) (b13 : A13) (b14 : A14), I b1 b2 b3 b4 b5 b6 b7 b8 b9 b10 b11 b12 b13 b14 → μ b1 b2 b3 b4 b5 b6 b7 b8 b9 b10 b11 b12 b13 b14 < μ a1 a2 a3 a4 a5 a6 a7 a8 a9 a10 a11 a12 a13 a14 → W n b1 b2 b3 b4 b5 b6 b7 b8 b9 b10 b11 b12 b13 b14) → W (n + 1) a1 a2 a3 a4 a5 a6 a7 a8 a9 a10 a11 a12 a13 a14) (a1 : A1) (a2 : A2) (a3 : A3) (a4 : A4) (a5 : A5) (a6 : A6) (a7 : A7) (a8 : A8) (a9 : A9) (a10 : A10) (a11 : A11) (a12 : A12) (a13 : A13) (a14 : A14) (h : I a1 a2 a3 a4 a5 a6 a7 a8 a9 a10 a11 a12 a13 a14) : ∃ n, W n a1 a2 a3 a4 a5 a6 a7 a8 a9 a10 a11 a12 a13 a14 :=
  loop_m (σ := A1 × A2 × A3 × A4 × A5 × A6 × A7 × A8 × A9 × A10 × A11 × A12 × A13 × A14) (fun n s => W n s.1 s.2.1 s.2.2.1 s.2.2.2.1 s.2.2.2.2.1 s.2.2.2.2.2.1 s.2.2.2.2.2.2.1 s.2.2.2.2.2.2.2.1 s.2.2.2.2.2.2.2.2.1 s.2.2.2.2.2.2.2.2.2.1 s.2.2.2.2.2.2.2.2.2.2.1 s.2.2.2.2.2.2.2.2.2.2.2.1 s.2.2.2.2.2.2.2.2.2.2.2.2.1 s.2.2.2.2.2.2.2.2.2.2.2.2.2) (fun s => I s.1 s.2.1 s.2.2.1 s.2.2.2.1 s.2.2.2.2.1 s.2.2.2.2.2.1 s.2.2.2.2.2.2.1 s.2.2.2.2.2.2.2.1 s.2.2.2.2.2.2.2.2.1 s.2.2.2.2.2.2.2.2.2.1 s.2.2.2.2.2.2.2.2.2.2.1 s.2.2.2.2.2.2.2.2.2.2.2.1 s.2.2.2.2.2.2.2.2.2.2.2.2.1 s.2.2.2.2.2.2.2.2.2.2.2.2.2) (fun s => μ s.1 s.2.1 s.2.2.1 s.2.2.2.1 s.2.2.2.2.1 s.2.2.2.2.2.1 s.2.2.2.2.2.2.1 s.2.2.2.2.2.2.2.1 s.2.2.2.2.2.2.2.2.1 s.2.2.2.2.2.2.2.2.2.1 s.2.2.2.2.2.2.2.2.2.2.1 s.2.2.2.2.2.2.2.2.2.2.2.1 s.2.2.2.2.2.2.2.2.2.2.2.2.1 s.2.2.2.2.2.2.2.2.2.2.2.2.2) (fun n s hI hk => hs n s.1 s.2.1 s.2.2.1 s.2.2.2.1 s.2.2.2.2.1 s.2.2.2.2.2.1 s.2.2.2.2.2.2.1 s.2.2.2.2.2.2.2.1 s.2.2.2.2.2.2.2.2.1 s.2.2.2.2.2.2.2.2.2.1 s.2.2.2.2.2.2.2.2.2.2.1 s.2.2.2.2.2.2.2.2.2.2.2.1 s.2.2.2.2.2.2.2.2.2.2.2.2.1 s.2.2.2.2.2.2.2.2.2.2.2.2.2 hI (fun b1 b2 b3 b4 b5 b6 b7 b8 b9 b10 b11 b12 b13 b14 h9 hm => hk (b1, b2, b3, b4, b5, b6, b7, b8, b9, b10, b11, b12, b13, b14) h9 hm)) (a1, a2, a3, a4, a5, a6, a7, a8, a9, a10, a11, a12, a13, a14) h
theorem lp15 {A1 A2 A3 A4 A5 A6 A7 A8 A9 A10 A11 A12 A13 A14 A15 : Type} (W : Nat → A1 → A2 → A3 → A4 → A5 → A6 → A7 → A8 → A9 → A10 → A11 → A12 → A13 → A14 → A15 → Prop) (I : A1 → A2 → A3 → A4 → A5 → A6 → A7 → A8 → A9 → A10 → A11 → A12 → A13 → A14 → A15 → Prop) (μ : A1 → A2 → A3 → A4 → A5 → A6 → A7 → A8 → A9 → A10 → A11 → A12 → A13 → A14 → A15 → Nat) (hs : ∀ (n : Nat) (a1 : A1) (a2 : A2) (a3 : A3) (a4 : A4) (a5 : A5) (a6 : A6) (a7 : A7) (a8 : A8) (a9 : A9) (a10 : A10) (a11 : A11) (a12 : A12) (a13 : A13) (a14 : A14) (a15 : A15), I a1 a2 a3 a4 a5 a6 a7 a8 a9 a10 a11 a12 a13 a14 a15 → (∀ (b1 : A1) (b2 : A2) (b3 : A3) (b4 : A4) (b5 : A5) (b6 : A6) (b7 : A7) (b8 : A8) (b9 : A9) (b10 : A10) (b11 : A11) (b12 : A12) (b13 : A13) (b14 : A14) (b15 : A15), I b1 b2 b3 b4 b5 b6 b7 b8 b9 b10 b11 b12 b13 b14 b15 → μ b1 b2 b3 b4 b5 b6 b7 b8 b9 b10 b11 b12 b13 b14 b15 < μ a1 a2 a3 a4 a5 a6 a7 a8 a9 a10 a11 a12 a13 a14 a15 → W n b1 b2 b3 b4 b5 b6 b7 b8 b9 b10 b11 b12 b13 b14 b15) → W (n + 1) a1 a2 a3 a4 a5 a6 a7 a8 a9 a10 a11 a12 a13 a14 a15) (a1 : A1) (a2 : A2) (a3 : A3) (a4 : A4) (a5 : A5) (a6 : A6) (a7 : A7) (a8 : A8) (a9 : A9) (a10 : A10) (a11 : A11) (a12 : A12) (a13 : A13) (a14 : A14) (a15 : A15) (h : I a1 a2 a3 a4 a5 a6 a7 a8 a9 a10 a11 a12 a13 a14 a15) : ∃ n, W n a1 a2 a3 a4 a5 a6 a7 a8 a9 a10 a11 a12 a13 a14 a15 :=
  loop_m (σ := A1 × A2 × A3 × A4 × A5 × A6 × A7 × A8 × A9 × A10 × A11 × A12 × A13 × A14 × A15) (fun n s => W n s.1 s.2.1 s.2.2.1 s.2.2.2.1 s.2.2.2.2.1 s.2.2.2.2.2.1 s.2.2.2.2.2.2.1 s.2.2.2.2.2.2.2.1 s.2.2.2.2.2.2.2.2.1 s.2.2.2.2.2.2.2.2.2.1 s.2.2.2.2.2.2.2.2.2.2.1 s.2.2.2.2.2.2.2.2.2.2.2.1 s.2.2.2.2.2.2.2.2.2.2.2.2.1 s.2.2.2.2.2.2.2.2.2.2.2.2.2.1 s.2.2.2.2.2.2.2.2.2.2.2.2.2.2) (fun s => I s.1 s.2.1 s.2.2.1 s.2.2.2.1 s.2.2.2.2.1 s.2.2.2.2.2.1 s.2.2.2.2.2.2.1 s.2.2.2.2.2.2.2.1 s.2.2.2.2.2.2.2.2.1 s.2.2.2.2.2.2.2.2.2.1 s.2.2.2.2.2.2.2.2.2.2.1 s.2.2.2.2.2.2.2.2.2.2.2.1 s.2.2.2.2.2.2.2.2.2.2.2.2.1 s.2.2.2.2.2.2.2.2.2.2.2.2.2.1 s.2.2.2.2.2.2.2.2.2.2.2.2.2.2) (fun s => μ s.1 s.2.1 s.2.2.1 s.2.2.2.1 s.2.2.2.2.1 s.2.2.2.2.2.1 s.2.2.2.2.2.2.1 s.2.2.2.2.2.2.2.1 s.2.2.2.2.2.2.2.2.1 s.2.2.2.2.2.2.2.2.2.1 s.2.2.2.2.2.2.2.2.2.2.1 s.2.2.2.2.2.2.2.2.2.2.2.1 s.2.2.2.2.2.2.2.2.2.2.2.2.1 s.2.2.2.2.2.2.2.2.2.2.2.2.2.1 s.2.2.2.2.2.2.2.2.2.2.2.2.2.2) (fun n s hI hk => hs n s.1 s.2.1 s.2.2.1 s.2.2.2.1 s.2.2.2.2.1 s.2.2.2.2.2.1 s.2.2.2.2.2.2.1 s.2.2.2.2.2.2.2.1 s.2.2.2.2.2.2.2.2.1 s.2.2.2.2.2.2.2.2.2.1 s.2.2.2.2.2.2.2.2.2.2.1 s.2.2.2.2.2.2.2.2.2.2.2.1 s.2.2.2.2.2.2.2.2.2.2.2.2.1 s.2.2.2.2.2.2.2.2.2.2.2.2.2.1 s.2.2.2.2.2.2.2.2.2.2.2.2.2.2 hI (fun b1 b2 b3 b4 b5 b6 b7 b8 b9 b10 b11 b12 b13 b14 b15 h9 hm => hk (b1, b2, b3, b4, b5, b6, b7, b8, b9, b10, b11, b12, b13, b14, b15) h9 hm)) (a1, a2, a3, a4, a5, a6, a7, a8, a9, a10, a11, a12, a13, a14, a15) h
theorem lp16 {A1 A2 A3 A4 A5 A6 A7 A8 A9 A10 A11 A12 A13 A14 A15 A16 : Type} (W : Nat → A1 → A2 → A3 → A4 → A5 → A6 → A7 → A8 → A9 → A10 → A11 → A12 → A13 → A14 → A15 → A16 → Prop) (I : A1 → A2 → A3 → A4 → A5 → A6 → A7 → A8 → A9 → A10 → A11 → A12 → A13 → A14 → A15 → A16 → Prop) (μ : A1 → A2 → A3 → A4 → A5 → A6 → A7 → A8 → A9 → A10 → A11 → A12 → A13 → A14 → A15 → A16 → Nat) (hs : ∀ (n : Nat) (a1 : A1) (a2 : A2) (a3 : A3) (a4 : A4) (a5 : A5) (a6 : A6) (a7 : A7) (a8 : A8) (a9 : A9) (a10 : A10) (a11 : A11) (a12 : A12) (a13 : A13) (a14 : A14) (a15 : A15) (a16 : A16), I a1 a2 a3 a4 a5 a6 a7 a8 a9 a10 a11 a12 a13 a14 a15 a16 → (∀ (b1 : A1) (b2 : A2) (b3 : A3) (b4 : A4) (b5 : A5) (b6 : A6) (b7 : A7) (b8 : A8) (b9 : A9) (b10 : A10) (b11 : A11) (b12 : A12) (b13 : A13) (b14 : A14) (b15 : A15) (b16 : A16), I b1 b2 b3 b4 b5 b6 b7 b8 b9 b10 b11 b12 b13 b14 b15 b16 → μ b1 b2 b3 b4 b5 b6 b7 b8 b9 b10 b11 b12 b13 b14 b15 b16 < μ a1 a2 a3 a4 a5 a6 a7 a8 a9 a10 a11 a12 a13 a14 a15 a16 → W n b1 b2 b3 b4 b5 b6 b7 b8 b9 b10 b11 b12 b13 b14 b15 b16) → W (n + 1) a1 a2 a3 a4 a5 a6 a7 a8 a9 a10 a11 a12 a13 a14 a15 a16) (a1 : A1) (a2 : A2) (a3 : A3) (a4 : A4) (a5 : A5) (a6 : A6) (a7 : A7) (a8 : A8) (a9 : A9) (a10 : A10) (a11 : A11) (a12 : A12) (a13 : A13) (a14 : A14) (a15 : A15) (a16 : A16) (h : I a1 a2 a3 a4 a5 a6 a7 a8 a9 a10 a11 a12 a13 a14 a15 a16) : ∃ n, W n a1 a2 a3 a4 a5 a6 a7 a8 a9 a10 a11 a12 a13 a14 a15 a16 :=
  loop_m (σ := A1 × A2 × A3 × A4 × A5 × A6 × A7 × A8 × A9 × A10 × A11 × A12 × A13 × A14 × A15 × A16) (fun n s => W n s.1 s.2.1 s.2.2.1 s.2.2.2.1 s.2.2.2.2.1 s.2.2.2.2.2.1 s.2.2.2.2.2.2.1 s.2.2.2.2.2.2.2.1 s.2.2.2.2.2.2.2.2.1 s.2.2.2.2.2.2.2.2.2.1 s.2.2.2.2.2.2.2.2.2.2.1 s.2.2.2.2.2.2.2.2.2.2.2.1 s.2.2.2.2.2.2.2.2.2.2.2.2.1 s.2.2.2.2.2.2.2.2.2.2.2.2.2.1 s.2.2.2.2.2.2.2.2.2.2.2.2.2.2.1 s.2.2.2.2.2.2.2.2.2.2.2.2.2.2.2) (fun s => I s.1 s.2.1 s.2.2.1 s.2.2.2.1 s.2.2.2.2.1 s.2.2.2.2.2.1 s.2.2.2.2.2.2.1 s.2.2.2.2.2.2.2.1 s.2.2.2.2.2.2.2.2.1 s.2.2.2.2.2.2.2.2.2.1 s.2.2.2.2.2.2.2.2.2.2.1 s.2.2.2.2.2.2.2.2.2.2.2.1 s.2.2.2.2.2.2.2.2.2.2.2.2.1 s.2.2.2.2.2.2.2.2.2.2.2.2.2.1 s.2.2.2.2.2.2.2.2.2.2.2.2.2.2.1 s.2.2.2.2.2.2.2.2.2.2.2.2.2.2.2) (fun s => μ s.1 s.2.1 s.2.2.1 s.2.2.2.1 s.2.2.2.2.1 s.2.2.2.2.2.1 s.2.2.2.2.2.2.1 s.2.2.2.2.2.2.2.1 s.2.2.2.2.2.2.2.2.1 s.2.2.2.2.2.2.2.2.2.1 s.2.2.2.2.2.2.2.2.2.2.1 s.2.2.2.2.2.2.2.2.2.2.2.1 s.2.2.2.2.2.2.2.2.2.2.2.2.1 s.2.2.2.2.2.2.2.2.2.2.2.2.2.1 s.2.2.2.2.2.2.2.2.2.2.2.2.2.2.1 s.2.2.2.2.2.2.2.2.2.2.2.2.2.2.2) (fun n s hI hk => hs n s.1 s.2.1 s.2.2.1 s.2.2.2.1 s.2.2.2.2.1 s.2.2.2.2.2.1 s.2.2.2.2.2.2.1 s.2.2.2.2.2.2.2.1 s.2.2.2.2.2.2.2.2.1 s.2.2.2.2.2.2.2.2.2.1 s.2.2.2.2.2.2.2.2.2.2.1 s.2.2.2.2.2.2.2.2.2.2.2.1 s.2.2.2.2.2.2.2.2.2.2.2.2.1 s.2.2.2.2.2.2.2.2.2.2.2.2.2.1 s.2.2.2.2.2.2.2.2.2.2.2.2.2.2.1 s.2.2.2.2.2.2.2.2.2.2.2.2.2.2.2 hI (fun b1 b2 b3 b4 b5 b6 b7 b8 b9 b10 b11 b12 b13 b14 b15 b16 h9 hm => hk (b1, b2, b3, b4, b5, b6, b7, b8, b9, b10, b11, b12, b13, b14, b15, b16) h9 hm)) (a1, a2, a3, a4, a5, a6, a7, a8, a9, a10, a11, a12, a13, a14, a15, a16) h
theorem pk_least (P : Nat → Prop) (h : ∃ k, P k) : ∃ k, P k ∧ ∀ j, j < k → ¬ P j := by
  obtain ⟨k, hk⟩ := h
  induction k using Nat.strongRecOn with
  | ind k ih =>
    by_cases e : ∃ j, j < k ∧ P j
    · obtain ⟨j, hj, pj⟩ := e
      exact ih j hj pj
    · exact ⟨k, hk, fun j hj pj => e ⟨j, hj, pj⟩⟩
theorem rp1 {ρ A1 : Type} (W : Nat → (ρ → Prop) → A1 → Prop) (ok : A1 → Prop) (μ : A1 → Nat) (val : A1 → ρ)
    (hs : ∀ (d : Nat) (post : ρ → Prop) (a1 : A1), ok a1 → post (val a1) → (∀ (post' : ρ → Prop) (b1 : A1), ok b1 → μ b1 < μ a1 → post' (val b1) → W d post' b1) → W (d + 1) post a1) :
    ∀ (d : Nat) (post : ρ → Prop) (a1 : A1), ok a1 → μ a1 < d → post (val a1) → W d post a1 := by
  intro d
  induction d with
  | zero => intro post a1 _ h; omega
  | succ d ih =>
    intro post a1 ho hm hp
    exact hs d post a1 ho hp (fun post' b1 ho' hm' hp' => ih post' b1 ho' (by omega) hp')
theorem rp2 {ρ A1 A2 : Type} (W : Nat → (ρ → Prop) → A1 → A2 → Prop) (ok : A1 → A2 → Prop) (μ : A1 → A2 → Nat) (val : A1 → A2 → ρ)
    (hs : ∀ (d : Nat) (post : ρ → Prop) (a1 : A1) (a2 : A2), ok a1 a2 → post (val a1 a2) → (∀ (post' : ρ → Prop) (b1 : A1) (b2 : A2), ok b1 b2 → μ b1 b2 < μ a1 a2 → post' (val b1 b2) → W d post' b1 b2) → W (d + 1) post a1 a2) :
    ∀ (d : Nat) (post : ρ → Prop) (a1 : A1) (a2 : A2), ok a1 a2 → μ a1 a2 < d → post (val a1 a2) → W d post a1 a2 := by
  intro d
  induction d with
  | zero => intro post a1 a2 _ h; omega
  | succ d ih =>
    intro post a1 a2 ho hm hp
    exact hs d post a1 a2 ho hp (fun post' b1 b2 ho' hm' hp' => ih post' b1 b2 ho' (by omega) hp')
theorem rp3 {ρ A1 A2 A3 : Type} (W : Nat → (ρ → Prop) → A1 → A2 → A3 → Prop) (ok : A1 → A2 → A3 → Prop) (μ : A1 → A2 → A3 → Nat) (val : A1 → A2 → A3 → ρ)
    (hs : ∀ (d : Nat) (post : ρ → Prop) (a1 : A1) (a2 : A2) (a3 : A3), ok a1 a2 a3 → post (val a1 a2 a3) → (∀ (post' : ρ → Prop) (b1 : A1) (b2 : A2) (b3 : A3), ok b1 b2 b3 → μ b1 b2 b3 < μ a1 a2 a3 → post' (val b1 b2 b3) → W d post' b1 b2 b3) → W (d + 1) post a1 a2 a3) :
    ∀ (d : Nat) (post : ρ → Prop) (a1 : A1) (a2 : A2) (a3 : A3), ok a1 a2 a3 → μ a1 a2 a3 < d → post (val a1 a2 a3) → W d post a1 a2 a3 := by
  intro d
  induction d with
  | zero => intro post a1 a2 a3 _ h; omega
  | succ d ih =>
    intro post a1 a2 a3 ho hm hp
    exact hs d post a1 a2 a3 ho hp (fun post' b1 b2 b3 ho' hm' hp' => ih post' b1 b2 b3 ho' (by omega) hp')
theorem rp4 {ρ A1 A2 A3 A4 : Type} (W : Nat → (ρ → Prop) → A1 → A2 → A3 → A4 → Prop) (ok : A1 → A2 → A3 → A4 → Prop) (μ : A1 → A2 → A3 → A4 → Nat) (val : A1 → A2 → A3 → A4 → ρ)
    (hs : ∀ (d : Nat) (post : ρ → Prop) (a1 : A1) (a2 : A2) (a3 : A3) (a4 : A4), ok a1 a2 a3 a4 → post (val a1 a2 a3 a4) → (∀ (post' : ρ → Prop) (b1 : A1) (b2 : A2) (b3 : A3) (b4 : A4), ok b1 b2 b3 b4 → μ b1 b2 b3 b4 < μ a1 a2 a3 a4 → post' (val b1 b2 b3 b4) → W d post' b1 b2 b3 b4) → W (d + 1) post a1 a2 a3 a4) :
    ∀ (d : Nat) (post : ρ → Prop) (a1 : A1) (a2 : A2) (a3 : A3) (a4 : A4), ok a1 a2 a3 a4 → μ a1 a2 a3 a4 < d → post (val a1 a2 a3 a4) → W d post a1 a2 a3 a4 := by
  intro d
  induction d with
  | zero => intro post a1 a2 a3 a4 _ h; omega
  | succ d ih =>
    intro post a1 a2 a3 a4 ho hm hp
    exact hs d post a1 a2 a3 a4 ho hp (fun post' b1 b2 b3 b4 ho' hm' hp' => ih post' b1 b2 b3 b4 ho' (by omega) hp')
theorem rp5 {ρ A1 A2 A3 A4 A5 : Type} (W : Nat → (ρ → Prop) → A1 → A2 → A3 → A4 → A5 → Prop) (ok : A1 → A2 → A3 → A4 → A5 → Prop) (μ : A1 → A2 → A3 → A4 → A5 → Nat) (val : A1 → A2 → A3 → A4 → A5 → ρ)
    (hs : ∀ (d : Nat) (post : ρ → Prop) (a1 : A1) (a2 : A2) (a3 : A3) (a4 : A4) (a5 : A5), ok a1 a2 a3 a4 a5 → post (val a1 a2 a3 a4 a5) → (∀ (post' : ρ → Prop) (b1 : A1) (b2 : A2) (b3 : A3) (b4 : A4) (b5 : A5), ok b1 b2 b3 b4 b5 → μ b1 b2 b3 b4 b5 < μ a1 a2 a3 a4 a5 → post' (val b1 b2 b3 b4 b5) → W d post' b1 b2 b3 b4 b5) → W (d + 1) post a1 a2 a3 a4 a5) :
    ∀ (d : Nat) (post : ρ → Prop) (a1 : A1) (a2 : A2) (a3 : A3) (a4 : A4) (a5 : A5), ok a1 a2 a3 a4 a5 → μ a1 a2 a3 a4 a5 < d → post (val a1 a2 a3 a4 a5) → W d post a1 a2 a3 a4 a5 := by
  intro d
  induction d with
  | zero => intro post a1 a2 a3 a4 a5 _ h; omega
  | succ d ih =>
    intro post a1 a2 a3 a4 a5 ho hm hp
    exact hs d post a1 a2 a3 a4 a5 ho hp (fun post' b1 b2 b3 b4 b5 ho' hm' hp' => ih post' b1 b2 b3 b4 b5 ho' (by omega) hp')
theorem rp6 {ρ A1 A2 A3 A4 A5 A6 : Type} (W : Nat → (ρ → Prop) → A1 → A2 → A3 → A4 → A5 → A6 → Prop) (ok : A1 → A2 → A3 → A4 → A5 → A6 → Prop) (μ : A1 → A2 → A3 → A4 → A5 → A6 → Nat) (val : A1 → A2 → A3 → A4 → A5 → A6 → ρ)
    (hs : ∀ (d : Nat) (post : ρ → Prop) (a1 : A1) (a2 : A2) (a3 : A3) (a4 : A4) (a5 : A5) (a6 : A6), ok a1 a2 a3 a4 a5 a6 → post (val a1 a2 a3 a4 a5 a6) → (∀ (post' : ρ → Prop) (b1 : A1) (b2 : A2) (b3 : A3) (b4 : A4) (b5 : A5) (b6 : A6), ok b1 b2 b3 b4 b5 b6 → μ b1 b2 b3 b4 b5 b6 < μ a1 a2 a3 a4 a5 a6 → post' (val b1 b2 b3 b4 b5 b6) → W d post' b1 b2 b3 b4 b5 b6) → W (d + 1) post a1 a2 a3 a4 a5 a6) :
    ∀ (d : Nat) (post : ρ → Prop) (a1 : A1) (a2 : A2) (a3 : A3) (a4 : A4) (a5 : A5) (a6 : A6), ok a1 a2 a3 a4 a5 a6 → μ a1 a2 a3 a4 a5 a6 < d → post (val a1 a2 a3 a4 a5 a6) → W d post a1 a2 a3 a4 a5 a6 := by
  intro d
  induction d with
  | zero => intro post a1 a2 a3 a4 a5 a6 _ h; omega
  | succ d ih =>
    intro post a1 a2 a3 a4 a5 a6 ho hm hp
    exact hs d post a1 a2 a3 a4 a5 a6 ho hp (fun post' b1 b2 b3 b4 b5 b6 ho' hm' hp' => ih post' b1 b2 b3 b4 b5 b6 ho' (by omega) hp')
theorem rec_p {σ ρ : Type} (W : Nat → (ρ → Prop) → σ → Prop) (ok : σ → Prop) (μ : σ → Nat) (val : σ → ρ)
    (hs : ∀ d s post, ok s → post (val s) → (∀ s' post', ok s' → μ s' < μ s → post' (val s') → W d post' s') → W (d + 1) post s) :
    ∀ d s post, ok s → μ s < d → post (val s) → W d post s := by
  intro d
  induction d with
  | zero => intro s post _ h; omega
  | succ d ih =>
    intro s post ho hm hp
    exact hs d s post ho hp (fun s' post' ho' hm' hp' => ih s' post' ho' (by omega) hp')
theorem rec_q {σ ρ : Type} (W : Nat → (ρ → Prop) → σ → Prop) (ok : σ → Prop) (μ : σ → Nat) (Q : σ → ρ → Prop)
    (hs : ∀ d s post, ok s → (∀ r, Q s r → post r) → (∀ s' post', ok s' → μ s' < μ s → (∀ r, Q s' r → post' r) → W d post' s') → W (d + 1) post s) :
    ∀ d s post, ok s → μ s < d → (∀ r, Q s r → post r) → W d post s := by
  intro d
  induction d with
  | zero => intro s post _ h; omega
  | succ d ih =>
    intro s post ho hm hp
    exact hs d s post ho hp (fun s' post' ho' hm' hp' => ih s' post' ho' (by omega) hp')
def bx_sum (f : Nat → Int32) : Nat → Int32
  | 0 => 0
  | n + 1 => bx_sum f n + f n
theorem ek_u {A : Prop} {B : Nat → Prop} {k N : Nat} (hk : k < N) (h : B k) : (some k = none → A) ∧ (∀ y : Nat, some k = some y → (y < N ∧ B y)) :=
  ⟨fun z => absurd z (Option.some_ne_none k), fun _ e => (by cases e; exact ⟨hk, h⟩)⟩
theorem ek_nu {A : Prop} {B : Nat → Prop} (h : A) : ((none : Option Nat) = none → A) ∧ (∀ y : Nat, (none : Option Nat) = some y → B y) :=
  ⟨fun _ => h, fun _ e => (by cases e)⟩
theorem ek_if {c d A B : Prop} (e : c ↔ d) (f : d → A) (g : ¬ d → B) : (c → A) ∧ (¬ c → B) :=
  ⟨fun z => f (e.mp z), fun z => g (fun y => z (e.mpr y))⟩
theorem ek_v {α : Sort _} {P : α → Prop} {a b : α} (e : a = b) (h : P b) : P a := e ▸ h
theorem co_some {x : Option Nat} {A : Prop} {B : Nat → Prop} (i : Nat) (h : B i) (hx : x = some i := by rfl) : (x = none → A) ∧ (∀ y : Nat, x = some y → B y) := by
  subst hx
  exact ⟨fun e => (nomatch e), fun y e => Option.some.inj e ▸ h⟩
theorem co_none {x : Option Nat} {A : Prop} {B : Nat → Prop} (h : A) (hx : x = none := by rfl) : (x = none → A) ∧ (∀ y : Nat, x = some y → B y) := by
  subst hx
  exact ⟨fun _ => h, fun y e => (nomatch e)⟩
theorem co_any {x : Option Nat} {A : Prop} {B : Nat → Prop} (hn : x = none → A) (hs : ∀ i : Nat, x = some i → B i) : (x = none → A) ∧ (∀ y : Nat, x = some y → B y) := ⟨hn, hs⟩
theorem co_2 {P : Nat → Prop} (h0 : P 0) (h1 : P 1) {i : Nat} (hi : i < 2) : P i :=
  match i, hi with
  | 0, _ => h0
  | 1, _ => h1
theorem co_3 {P : Nat → Prop} (h0 : P 0) (h1 : P 1) (h2 : P 2) {i : Nat} (hi : i < 3) : P i :=
  match i, hi with
  | 0, _ => h0
  | 1, _ => h1
  | 2, _ => h2
theorem co_4 {P : Nat → Prop} (h0 : P 0) (h1 : P 1) (h2 : P 2) (h3 : P 3) {i : Nat} (hi : i < 4) : P i :=
  match i, hi with
  | 0, _ => h0
  | 1, _ => h1
  | 2, _ => h2
  | 3, _ => h3
theorem co_dec {N : Nat} {P : Nat → Prop} [DecidablePred P] (h : (List.range N).all (fun i => decide (P i)) = true) {i : Nat} (hi : i < N) : P i := by
  have := List.all_eq_true.mp h i (List.mem_range.mpr hi)
  exact of_decide_eq_true this
theorem co_tab {α : Type} {l : List α} {d : α} {P : α → Prop} (h : ∀ a, a ∈ l → P a) {i : Nat} (hi : i < l.length) : P (l.getD i d) := by
  rw [List.getD_eq_getElem?_getD, List.getElem?_eq_getElem hi]
  exact h _ (List.getElem_mem hi)
theorem pk_mu {x : Int32} {L : Nat} (h0 : ¬ x < 0) (h : ¬ nI L ≤ x) (hL : L < 2 ^ 31) : ∃ j : Nat, j < L ∧ x = nI j ∧ x + 1 = nI (j + 1) ∧ x.toNatClampNeg = j ∧ L - (x + 1).toNatClampNeg < L - x.toNatClampNeg := by
  obtain ⟨j, hj, rfl⟩ := nI_of h0
  have hl : j < L := Nat.not_le.mp fun q => h (nI_le q hj)
  refine ⟨j, hl, rfl, nI_1 j, nI_clamp hj, ?_⟩
  rw [nI_1, nI_clamp (by omega), nI_clamp hj]
  omega
theorem op_s {α : Type} {r : Option α} {A : Prop} {B : α → Prop} {y : α} (h : r = some y) (b : B y) : (r = none → A) ∧ ∀ z, r = some z → B z :=
  ⟨fun e => (by rw [h] at e; cases e), fun z e => (by rw [h] at e; cases e; exact b)⟩
def l_holds {α : Type} (a : Nat → Option Nat) (LP : List Nat) (p : Nat → α) (c : Nat) (b : Nat → α) : Prop :=
  ∀ j, j < c → ∃ y, a j = some y ∧ y ∈ LP ∧ p y = b j
theorem l_holds_0 {α : Type} {a : Nat → Option Nat} {LP : List Nat} {p b : Nat → α} : l_holds a LP p 0 b := fun j h => absurd h (Nat.not_lt_zero j)
theorem l_in_new (LP : List Nat) (q : Nat) : q ∈ LP ++ [q] := List.mem_append.mpr (Or.inr (List.mem_singleton.mpr rfl))
def l_sum (b : Nat → Int32) : Nat → Int32
  | 0 => 0
  | k + 1 => l_sum b k + b k
theorem sb_shr0 (x : Int32) : x >>> ((0 : Int32) &&& 31) = x := by
  rw [show ((0 : Int32) &&& 31) = 0 by decide]
  simp
theorem sb_shl0 (x : Int32) : x <<< ((0 : Int32) &&& 31) = x := by
  rw [show ((0 : Int32) &&& 31) = 0 by decide]
  simp
theorem sb_cl0 : (0 : Int32).toNatClampNeg = 0 := by decide
theorem sb_m1 {p : Nat} (h : 0 < p) : nI p + (-1) = nI (p - 1) := by
  obtain ⟨q, rfl⟩ : ∃ q, p = q + 1 := ⟨p - 1, by omega⟩
  exact pk_m1 q
def sb_b (c : Nat) : Int32 := (nI c).toInt8.toInt32
theorem sb_byte : ∀ c, c < 256 → sb_b c &&& 255 = nI c ∧ ((nI c).toUInt32 % 65536).toInt32 = nI c ∧ nI c ≤ 255 := by decide +kernel
def sb_Fit (a : Nat → Int32) : Prop := ∀ j, fits .byte (.int (a j)) = true
def sb_Lat (t : Nat → Nat) (n : Nat) (a : Nat → Int32) : Prop := ∀ j, j < n → t j < 256 ∧ a j = sb_b (t j)
theorem sb_fitB (c : Nat) : fits .byte (.int (sb_b c)) = true := pk_fb _
theorem sb_fit0 : sb_Fit (fun _ => 0) := fun _ => by
  show fits .byte (.int 0) = true
  decide
theorem sb_fitU {a : Nat → Int32} {k : Nat} {x : Int32} (h : sb_Fit a) (hx : fits .byte (.int x) = true) : sb_Fit (upd a k x) := by
  intro j
  by_cases e : j = k
  · subst e
    rw [pk_us]
    exact hx
  · rw [pk_un e]
    exact h j
def sb_cat (t : Nat → Nat) (n : Nat) (s : Nat → Nat) : Nat → Nat := fun j => if j < n then t j else s (j - n)
theorem sb_cat_lo {t s : Nat → Nat} {n j : Nat} (h : j < n) : sb_cat t n s j = t j := if_pos h
theorem sb_cat_hi {t s : Nat → Nat} {n j : Nat} : sb_cat t n s (n + j) = s j := by
  show (if n + j < n then t (n + j) else s (n + j - n)) = s j
  rw [if_neg (by omega), Nat.add_sub_cancel_left]
theorem sb_latPut {t s : Nat → Nat} {n w : Nat} {a a' : Nat → Int32} (h : sb_Lat t n a) (hk : ∀ j, j < n → a' j = a j) (hs : ∀ i, i < w → s i < 256 ∧ a' (n + i) = sb_b (s i)) : sb_Lat (sb_cat t n s) (n + w) a' := by
  intro j hj
  by_cases e : j < n
  · rw [sb_cat_lo e, hk j e]
    exact h j e
  · obtain ⟨i, rfl⟩ : ∃ i, j = n + i := ⟨j - n, by omega⟩
    rw [sb_cat_hi]
    exact hs i (by omega)
theorem sb_latKeep {t : Nat → Nat} {n : Nat} {a a' : Nat → Int32} (h : sb_Lat t n a) (hk : ∀ j, j < n → a' j = a j) : sb_Lat t n a' := fun j hj => by
  rw [hk j hj]
  exact h j hj
def sb_cap (q m : Nat) : Nat := if q ≤ m then m else if 2 * m + 2 < q then q else 2 * m + 2
def sb_Room (q m mc ms : Nat) : Prop := q ≤ m ∨ (1 ≤ mc ∧ sb_cap q m ≤ ms ∧ sb_cap q m ≤ 65536)
theorem sb_cap_ge (q m : Nat) : q ≤ sb_cap q m := by
  unfold sb_cap
  split
  · omega
  · split <;> omega
theorem sb_cap_gem (q m : Nat) : m ≤ sb_cap q m := by
  unfold sb_cap
  split
  · omega
  · split <;> omega
theorem sb_cap_le {q m mc ms : Nat} (hm : m ≤ 65536) (hr : sb_Room q m mc ms) : sb_cap q m ≤ 65536 := by
  rcases hr with h | h
  · rw [sb_cap, if_pos h]
    exact hm
  · exact h.2.2
theorem sb_at {P : Int32 → Prop} {x y : Int32} (e : x = y) (h : P y) : P x := e ▸ h
def sb_dg (w : Nat) : Nat := if w < 10 then 1 else if w < 100 then 2 else if w < 1000 then 3 else if w < 10000 then 4 else if w < 100000 then 5 else if w < 1000000 then 6 else if w < 10000000 then 7 else if w < 100000000 then 8 else if w < 1000000000 then 9 else 10
def sb_dec (v : Nat) : Nat → Nat := fun i => 48 + v / 10 ^ (sb_dg v - 1 - i) % 10
theorem sb_dg_in (w : Nat) : 1 ≤ sb_dg w ∧ sb_dg w ≤ 10 := by
  unfold sb_dg
  constructor <;> (repeat' split) <;> omega
theorem sb_dg100 {w : Nat} (h : 100 ≤ w) (hw : w < 2 ^ 31) : sb_dg w = sb_dg (w / 100) + 2 := by
  rw [sb_dg, sb_dg, if_neg (show ¬ w < 10 by omega), if_neg (show ¬ w < 100 by omega)]
  by_cases h3 : w < 1000
  · rw [if_pos h3, if_pos (show w / 100 < 10 by omega)]
  rw [if_neg h3, if_neg (show ¬ w / 100 < 10 by omega)]
  by_cases h4 : w < 10000
  · rw [if_pos h4, if_pos (show w / 100 < 100 by omega)]
  rw [if_neg h4, if_neg (show ¬ w / 100 < 100 by omega)]
  by_cases h5 : w < 100000
  · rw [if_pos h5, if_pos (show w / 100 < 1000 by omega)]
  rw [if_neg h5, if_neg (show ¬ w / 100 < 1000 by omega)]
  by_cases h6 : w < 1000000
  · rw [if_pos h6, if_pos (show w / 100 < 10000 by omega)]
  rw [if_neg h6, if_neg (show ¬ w / 100 < 10000 by omega)]
  by_cases h7 : w < 10000000
  · rw [if_pos h7, if_pos (show w / 100 < 100000 by omega)]
  rw [if_neg h7, if_neg (show ¬ w / 100 < 100000 by omega)]
  by_cases h8 : w < 100000000
  · rw [if_pos h8, if_pos (show w / 100 < 1000000 by omega)]
  rw [if_neg h8, if_neg (show ¬ w / 100 < 1000000 by omega)]
  by_cases h9 : w < 1000000000
  · rw [if_pos h9, if_pos (show w / 100 < 10000000 by omega)]
  rw [if_neg h9, if_neg (show ¬ w / 100 < 10000000 by omega)]
  rw [if_pos (show w / 100 < 100000000 by omega)]
theorem sb_negT {w : Nat} (h : w < 2 ^ 31) : (-nI w).toInt = -(w : Int) := by
  rw [Int32.toInt_neg, nI_toInt h]
  exact Int.bmod_eq_of_le (by omega) (by omega)
theorem sb_nle {a b : Nat} (ha : a < 2 ^ 31) (hb : b < 2 ^ 31) : -nI a ≤ -nI b ↔ b ≤ a := by
  rw [Int32.le_iff_toInt_le, sb_negT ha, sb_negT hb]
  omega
theorem sb_nlt {a b : Nat} (ha : a < 2 ^ 31) (hb : b < 2 ^ 31) : -nI a < -nI b ↔ b < a := by
  rw [Int32.lt_iff_toInt_lt, sb_negT ha, sb_negT hb]
  omega
theorem sb_cmp {A B : Prop} {x : Int32} (v c : Nat) (f : c ≤ v → A) (g : v < c → B) (hv : v < 2 ^ 31) (hx : x = -nI c := by rfl) (hc : c < 2 ^ 31 := by omega) : (-nI v ≤ x → A) ∧ (¬ -nI v ≤ x → B) := by
  subst hx
  rw [sb_nle hv hc]
  exact ⟨f, fun z => g (by omega)⟩
theorem sb_ndiv {w : Nat} (hw : w < 2 ^ 31) : (-nI w) / 100 = -nI (w / 100) := by
  apply Int32.toInt_inj.mp
  have h100 : (100 : Int32).toInt = 100 := by decide
  rw [Int32.toInt_div, sb_negT hw, h100, sb_negT (by omega), Int.neg_tdiv, Int.tdiv_eq_ediv_of_nonneg (by omega), Int.bmod_eq_of_le (by omega) (by omega)]
  omega
theorem sb_nrem {w : Nat} (hw : w < 2 ^ 31) : (-nI (w / 100)) * 100 - (-nI w) = nI (w % 100) := by
  have h := pk_rem (a := w) (d := 100) hw (by decide) (by decide)
  rw [pk_div hw (by decide) (by decide)] at h
  rw [← h]
  show (-nI (w / 100)) * nI 100 - (-nI w) = nI w - nI (w / 100) * nI 100
  rw [Int32.neg_mul, Int32.sub_neg, Int32.add_comm, ← Int32.sub_eq_add_neg]
end
section
/-! sums of naturals; the k-th least cost by counting -/
def rk_sm : Nat → (Nat → Nat) → Nat
  | 0, _ => 0
  | n + 1, f => rk_sm n f + f n
theorem rk_sm_le {f g : Nat → Nat} : ∀ n, (∀ i, i < n → f i ≤ g i) → rk_sm n f ≤ rk_sm n g
  | 0, _ => Nat.le_refl _
  | n + 1, h => Nat.add_le_add (rk_sm_le n fun i hi => h i (by omega)) (h n (by omega))
theorem rk_sm_eq {f g : Nat → Nat} : ∀ n, (∀ i, i < n → f i = g i) → rk_sm n f = rk_sm n g
  | 0, _ => rfl
  | n + 1, h => by
    show rk_sm n f + f n = rk_sm n g + g n
    rw [rk_sm_eq n fun i hi => h i (by omega), h n (by omega)]
theorem rk_sm_z {f : Nat → Nat} : ∀ n, (∀ i, i < n → f i = 0) → rk_sm n f = 0
  | 0, _ => rfl
  | n + 1, h => by
    show rk_sm n f + f n = 0
    rw [rk_sm_z n fun i hi => h i (by omega), h n (by omega)]
theorem rk_sm_ext {f : Nat → Nat} (p : Nat) : ∀ d, (∀ w, p ≤ w → w < p + d → f w = 0) → rk_sm (p + d) f = rk_sm p f
  | 0, _ => rfl
  | d + 1, h => by
    show rk_sm (p + d) f + f (p + d) = rk_sm p f
    rw [rk_sm_ext p d fun w h1 h2 => h w h1 (by omega), h (p + d) (by omega) (by omega)]
    rfl
theorem rk_sm_to {f : Nat → Nat} {p q : Nat} (hq : p ≤ q) (h : ∀ w, p ≤ w → w < q → f w = 0) : rk_sm q f = rk_sm p f := by
  obtain ⟨d, rfl⟩ : ∃ d, q = p + d := ⟨q - p, by omega⟩
  exact rk_sm_ext p d h
theorem rk_sm_upd {f g : Nat → Nat} {i0 : Nat} (h0 : g i0 = f i0 + 1) : ∀ n, i0 < n → (∀ i, i < n → i ≠ i0 → g i = f i) → rk_sm n g = rk_sm n f + 1
  | 0, h, _ => absurd h (by omega)
  | n + 1, hi, h => by
    show rk_sm n g + g n = rk_sm n f + f n + 1
    by_cases e : i0 = n
    · subst e
      rw [h0, rk_sm_eq i0 fun i hi => h i (by omega) (by omega)]
      omega
    · rw [rk_sm_upd h0 n (by omega) fun i h1 h2 => h i (by omega) h2, h n (by omega) (by omega)]
      omega
theorem rk_sm_pos {f : Nat → Nat} : ∀ n, 0 < rk_sm n f → ∃ i, i < n ∧ 0 < f i
  | 0, h => absurd h (Nat.lt_irrefl 0)
  | n + 1, h => by
    by_cases e : 0 < f n
    · exact ⟨n, by omega, e⟩
    · have h' : 0 < rk_sm n f + f n := h
      obtain ⟨i, hi, hf⟩ := rk_sm_pos (f := f) n (by omega)
      exact ⟨i, by omega, hf⟩
theorem rk_sm_ge {f : Nat → Nat} : ∀ n i, i < n → f i ≤ rk_sm n f
  | 0, _, h => absurd h (by omega)
  | n + 1, i, h => by
    show f i ≤ rk_sm n f + f n
    by_cases e : i = n
    · subst e; omega
    · have := rk_sm_ge (f := f) n i (by omega)
      omega
/-- how many there are at most eight of, and the k-th cost: the number of t with at most k of cost t or less -/
def rk_mn (N : Nat → Nat) : Nat := min 8 (N 1000)
def rk_cs (N : Nat → Nat) (k : Nat) : Nat := rk_sm 1000 (fun t => if N t ≤ k then 1 else 0)
def rk_good (N : Nat → Nat) : Prop := (∀ s t, s ≤ t → N s ≤ N t) ∧ ∀ t, N t ≤ N 1000
theorem rk_mn8 (N : Nat → Nat) : rk_mn N ≤ 8 := Nat.min_le_left _ _
theorem rk_mnN {N : Nat → Nat} {k : Nat} (h : k < rk_mn N) : k < N 1000 := Nat.lt_of_lt_of_le h (Nat.min_le_right _ _)
theorem rk_cs_aux {N : Nat → Nat} (h : ∀ s t, s ≤ t → N s ≤ N t) (k : Nat) : ∀ n t, rk_sm n (fun t => if N t ≤ k then 1 else 0) ≤ t ↔ (n ≤ t ∨ k < N t)
  | 0, t => by
    show 0 ≤ t ↔ _
    constructor
    · intro _; exact Or.inl (Nat.zero_le t)
    · intro _; exact Nat.zero_le t
  | n + 1, t => by
    show rk_sm n (fun t => if N t ≤ k then 1 else 0) + (if N n ≤ k then 1 else 0) ≤ t ↔ _
    have ih := rk_cs_aux h k n
    by_cases c : N n ≤ k
    · rw [if_pos c]
      have up : rk_sm n (fun t => if N t ≤ k then 1 else 0) ≤ n := (ih n).mpr (Or.inl (Nat.le_refl n))
      have lo : n ≤ rk_sm n (fun t => if N t ≤ k then 1 else 0) := by
        rcases (ih _).mp (Nat.le_refl _) with h1 | h1
        · exact h1
        · rcases Nat.lt_or_ge n (rk_sm n (fun t => if N t ≤ k then 1 else 0)) with h2 | h2
          · exact Nat.le_of_lt h2
          · have := h _ n h2
            omega
      have e : rk_sm n (fun t => if N t ≤ k then 1 else 0) = n := Nat.le_antisymm up lo
      rw [e]
      constructor
      · intro z; exact Or.inl z
      · intro z
        rcases z with z | z
        · exact z
        · rcases Nat.lt_or_ge n t with h2 | h2
          · exact h2
          · have := h t n h2
            omega
    · rw [if_neg c, Nat.add_zero, ih t]
      constructor
      · intro z
        rcases z with z | z
        · rcases Nat.lt_or_ge n t with h2 | h2
          · exact Or.inl h2
          · have e : n = t := Nat.le_antisymm z h2
            subst e
            exact Or.inr (by omega)
        · exact Or.inr z
      · intro z
        rcases z with z | z
        · exact Or.inl (by omega)
        · exact Or.inr z
theorem rk_cs_iff {N : Nat → Nat} (g : rk_good N) {k : Nat} (hk : k < N 1000) (t : Nat) : rk_cs N k ≤ t ↔ k < N t := by
  unfold rk_cs
  rw [rk_cs_aux g.1 k 1000 t]
  constructor
  · intro z
    rcases z with z | z
    · exact Nat.lt_of_lt_of_le hk (g.1 _ _ z)
    · exact z
  · intro z; exact Or.inr z
theorem rk_cs_eq {N : Nat → Nat} (g : rk_good N) {k d : Nat} (hk : k < N 1000) (h : ∀ t, d ≤ t ↔ k < N t) : rk_cs N k = d :=
  Nat.le_antisymm ((rk_cs_iff g hk d).mpr ((h d).mp (Nat.le_refl d))) ((h _).mpr ((rk_cs_iff g hk _).mp (Nat.le_refl _)))
theorem rk_cs_mono {N : Nat → Nat} (g : rk_good N) {k l : Nat} (hl : l < N 1000) (h : k ≤ l) : rk_cs N k ≤ rk_cs N l :=
  (rk_cs_iff g (Nat.lt_of_le_of_lt h hl) _).mpr (Nat.lt_of_le_of_lt h ((rk_cs_iff g hl _).mp (Nat.le_refl _)))
theorem rk_cs_1000 {N : Nat → Nat} (g : rk_good N) {k : Nat} (hk : k < N 1000) : rk_cs N k ≤ 1000 := (rk_cs_iff g hk 1000).mpr hk
/-- one more cost -/
def rk_add (M : Nat → Nat) (c : Nat) : Nat → Nat := fun t => M t + if c ≤ t then 1 else 0
theorem rk_add_p {M : Nat → Nat} {c t : Nat} (h : c ≤ t) : rk_add M c t = M t + 1 := by unfold rk_add; rw [if_pos h]
theorem rk_add_n {M : Nat → Nat} {c t : Nat} (h : ¬ c ≤ t) : rk_add M c t = M t := by unfold rk_add; rw [if_neg h]; rfl
theorem rk_add_good {M : Nat → Nat} (g : rk_good M) {c : Nat} (hc : c ≤ 1000) : rk_good (rk_add M c) := by
  refine ⟨fun s t h => ?_, fun t => ?_⟩
  · have := g.1 s t h
    by_cases a : c ≤ s
    · rw [rk_add_p a, rk_add_p (Nat.le_trans a h)]; omega
    · rw [rk_add_n a]
      by_cases b : c ≤ t
      · rw [rk_add_p b]; omega
      · rw [rk_add_n b]; omega
  · have := g.2 t
    rw [rk_add_p hc]
    by_cases b : c ≤ t
    · rw [rk_add_p b]; omega
    · rw [rk_add_n b]; omega
theorem rk_mn_add {M : Nat → Nat} {c : Nat} (hc : c ≤ 1000) : rk_mn (rk_add M c) = if 8 ≤ rk_mn M then 8 else rk_mn M + 1 := by
  unfold rk_mn
  rw [rk_add_p hc]
  split <;> omega
theorem rk_ins {M : Nat → Nat} (g : rk_good M) {c p : Nat} (hc : c ≤ 1000) (hp : p ≤ rk_mn M) (h1 : ∀ k, k < p → rk_cs M k ≤ c) (h2 : ∀ k, p ≤ k → k < rk_mn M → c < rk_cs M k) :
    (∀ k, k < p → rk_cs (rk_add M c) k = rk_cs M k) ∧ (p < 8 → rk_cs (rk_add M c) p = c) ∧ (∀ k, p ≤ k → k < rk_mn M → rk_cs (rk_add M c) (k + 1) = rk_cs M k) := by
  have gA := rk_add_good g hc
  have hm : rk_mn M ≤ M 1000 := Nat.min_le_right _ _
  have hA : rk_add M c 1000 = M 1000 + 1 := rk_add_p hc
  refine ⟨fun k hk => ?_, fun hp8 => ?_, fun k hpk hk => ?_⟩
  · refine rk_cs_eq gA (by omega) fun t => ?_
    rw [rk_cs_iff g (by omega) t]
    by_cases a : c ≤ t
    · rw [rk_add_p a]
      have := (rk_cs_iff g (k := k) (by omega) t).mp (Nat.le_trans (h1 k hk) a)
      omega
    · rw [rk_add_n a]
  · refine rk_cs_eq gA (by omega) fun t => ?_
    by_cases a : c ≤ t
    · rw [rk_add_p a]
      have : p ≤ M t := by
        by_cases z : p = 0
        · omega
        · have := (rk_cs_iff g (k := p - 1) (by omega) t).mp (Nat.le_trans (h1 (p - 1) (by omega)) a)
          omega
      omega
    · rw [rk_add_n a]
      constructor
      · intro z; exact absurd z a
      · intro z
        have q1 := g.2 t
        have q2 : p < rk_mn M := by unfold rk_mn; omega
        have q3 := h2 p (Nat.le_refl p) q2
        have q4 := (rk_cs_iff g (k := p) (by omega) t).mpr z
        omega
  · refine rk_cs_eq gA (by omega) fun t => ?_
    rw [rk_cs_iff g (by omega) t]
    by_cases a : c ≤ t
    · rw [rk_add_p a]; omega
    · rw [rk_add_n a]
      have q3 := h2 k hpk hk
      have q4 := rk_cs_iff g (k := k) (by omega) t
      constructor
      · intro z; have := q4.mpr z; omega
      · intro z; have := q4.mpr (by omega); omega
end
section
/-! the grammar: kind, symbol, first, second, price, row, second as the component keeps it -/
abbrev rk_G : Type := (Nat → Nat) × (Nat → Nat) × (Nat → Nat) × (Nat → Nat) × (Nat → Nat) × (Nat → Nat) × (Nat → Nat)
def rk_k (G : rk_G) : Nat → Nat := G.1
def rk_s (G : rk_G) : Nat → Nat := G.2.1
def rk_f (G : rk_G) : Nat → Nat := G.2.2.1
def rk_e (G : rk_G) : Nat → Nat := G.2.2.2.1
def rk_p (G : rk_G) : Nat → Nat := G.2.2.2.2.1
def rk_r (G : rk_G) : Nat → Nat := G.2.2.2.2.2.1
def rk_c (G : rk_G) : Nat → Nat := G.2.2.2.2.2.2
def rk_ok (G : rk_G) : Prop := ∀ k, rk_k G k ≤ 2 ∧ rk_s G k ≤ 2 ∧ rk_f G k ≤ 2 ∧ rk_e G k ≤ 2 ∧ rk_p G k ≤ 50 ∧ rk_r G k ≤ 2 ∧ rk_c G k ≤ 3 ∧ (rk_k G k = 2 → rk_c G k = 3) ∧ (rk_k G k = 1 → rk_c G k = rk_e G k)
/-- way w = 8 * rule + place: its left parts, its right parts, its costs -/
def rk_nl (G : rk_G) (F : Nat → Nat → Nat → Nat → Nat) (i j a w : Nat) : Nat :=
  if rk_s G (w / 8) = a then
    if rk_k G (w / 8) = 2 then (if w % 8 = 0 ∧ j = i + 1 ∧ rk_r G i = rk_f G (w / 8) then 1 else 0)
    else if rk_k G (w / 8) = 1 then (if i < w % 8 ∧ w % 8 < j then rk_mn (F i (w % 8) (rk_f G (w / 8))) else 0)
    else 0
  else 0
def rk_nr (G : rk_G) (F : Nat → Nat → Nat → Nat → Nat) (j w : Nat) : Nat := if rk_k G (w / 8) = 1 then rk_mn (F (w % 8) j (rk_e G (w / 8))) else 1
def rk_cw (G : rk_G) (F : Nat → Nat → Nat → Nat → Nat) (i j w x y : Nat) : Nat :=
  if rk_k G (w / 8) = 1 then rk_p G (w / 8) + rk_cs (F i (w % 8) (rk_f G (w / 8))) x + rk_cs (F (w % 8) j (rk_e G (w / 8))) y else rk_p G (w / 8)
def rk_ways (G : rk_G) (F : Nat → Nat → Nat → Nat → Nat) (i j a t w : Nat) : Nat :=
  rk_sm (rk_nl G F i j a w) fun x => rk_sm (rk_nr G F j w) fun y => if rk_cw G F i j w x y ≤ t then 1 else 0
def rk_st (G : rk_G) (F : Nat → Nat → Nat → Nat → Nat) (i j a t : Nat) : Nat := rk_sm 64 (rk_ways G F i j a t)
def rk_tb (G : rk_G) : Nat → Nat → Nat → Nat → Nat → Nat
  | 0 => fun _ _ _ _ => 0
  | d + 1 => fun i j a t => if j ≤ i + d then rk_tb G d i j a t else rk_st G (rk_tb G d) i j a t
def rk_N (G : rk_G) : Nat → Nat → Nat → Nat → Nat := rk_tb G 5
theorem rk_nl_0 {G : rk_G} {F : Nat → Nat → Nat → Nat → Nat} {i j a w : Nat} (h : ¬ (rk_s G (w / 8) = a ∧ ((rk_k G (w / 8) = 2 ∧ w % 8 = 0 ∧ j = i + 1 ∧ rk_r G i = rk_f G (w / 8)) ∨ (rk_k G (w / 8) = 1 ∧ i < w % 8 ∧ w % 8 < j)))) : rk_nl G F i j a w = 0 := by
  unfold rk_nl
  by_cases h1 : rk_s G (w / 8) = a
  · rw [if_pos h1]
    by_cases h2 : rk_k G (w / 8) = 2
    · rw [if_pos h2]
      exact if_neg fun z => h ⟨h1, Or.inl ⟨h2, z⟩⟩
    · rw [if_neg h2]
      by_cases h3 : rk_k G (w / 8) = 1
      · rw [if_pos h3]
        exact if_neg fun z => h ⟨h1, Or.inr ⟨h3, z⟩⟩
      · exact if_neg h3
  · exact if_neg h1
theorem rk_nl_2 {G : rk_G} {F : Nat → Nat → Nat → Nat → Nat} {i j a w : Nat} (h1 : rk_s G (w / 8) = a) (h2 : rk_k G (w / 8) = 2) (h3 : w % 8 = 0) (h4 : j = i + 1) (h5 : rk_r G i = rk_f G (w / 8)) : rk_nl G F i j a w = 1 := by
  unfold rk_nl
  rw [if_pos h1, if_pos h2, if_pos ⟨h3, h4, h5⟩]
theorem rk_nl_1 {G : rk_G} {F : Nat → Nat → Nat → Nat → Nat} {i j a w : Nat} (h1 : rk_s G (w / 8) = a) (h2 : rk_k G (w / 8) = 1) (h3 : i < w % 8) (h4 : w % 8 < j) : rk_nl G F i j a w = rk_mn (F i (w % 8) (rk_f G (w / 8))) := by
  unfold rk_nl
  rw [if_pos h1, if_neg (by omega), if_pos h2, if_pos ⟨h3, h4⟩]
theorem rk_nr_1 {G : rk_G} {F : Nat → Nat → Nat → Nat → Nat} {j w : Nat} (h2 : rk_k G (w / 8) = 1) : rk_nr G F j w = rk_mn (F (w % 8) j (rk_e G (w / 8))) := if_pos h2
theorem rk_nr_2 {G : rk_G} {F : Nat → Nat → Nat → Nat → Nat} {j w : Nat} (h2 : ¬ rk_k G (w / 8) = 1) : rk_nr G F j w = 1 := if_neg h2
theorem rk_cw_1 {G : rk_G} {F : Nat → Nat → Nat → Nat → Nat} {i j w x y : Nat} (h2 : rk_k G (w / 8) = 1) : rk_cw G F i j w x y = rk_p G (w / 8) + rk_cs (F i (w % 8) (rk_f G (w / 8))) x + rk_cs (F (w % 8) j (rk_e G (w / 8))) y := if_pos h2
theorem rk_cw_2 {G : rk_G} {F : Nat → Nat → Nat → Nat → Nat} {i j w x y : Nat} (h2 : ¬ rk_k G (w / 8) = 1) : rk_cw G F i j w x y = rk_p G (w / 8) := if_neg h2
theorem rk_nl_pos {G : rk_G} {F : Nat → Nat → Nat → Nat → Nat} {i j a w : Nat} (h : 0 < rk_nl G F i j a w) : rk_s G (w / 8) = a ∧ ((rk_k G (w / 8) = 2 ∧ w % 8 = 0 ∧ j = i + 1 ∧ rk_r G i = rk_f G (w / 8)) ∨ (rk_k G (w / 8) = 1 ∧ i < w % 8 ∧ w % 8 < j)) := by
  apply Classical.byContradiction
  intro z
  rw [rk_nl_0 z] at h
  exact absurd h (by decide)
theorem rk_ways_cg {G : rk_G} {F F' : Nat → Nat → Nat → Nat → Nat} {i j : Nat} (h : ∀ m, i < m → m < j → ∀ b, F i m b = F' i m b ∧ F m j b = F' m j b) (a t w : Nat) : rk_ways G F i j a t w = rk_ways G F' i j a t w := by
  unfold rk_ways
  by_cases z : rk_s G (w / 8) = a ∧ ((rk_k G (w / 8) = 2 ∧ w % 8 = 0 ∧ j = i + 1 ∧ rk_r G i = rk_f G (w / 8)) ∨ (rk_k G (w / 8) = 1 ∧ i < w % 8 ∧ w % 8 < j))
  · obtain ⟨h1, h2 | h2⟩ := z
    · have n1 : ¬ rk_k G (w / 8) = 1 := by omega
      rw [rk_nl_2 h1 h2.1 h2.2.1 h2.2.2.1 h2.2.2.2, rk_nl_2 h1 h2.1 h2.2.1 h2.2.2.1 h2.2.2.2, rk_nr_2 n1, rk_nr_2 n1]
      refine rk_sm_eq 1 fun x _ => rk_sm_eq 1 fun y _ => ?_
      rw [rk_cw_2 n1, rk_cw_2 n1]
    · have e := h (w % 8) h2.2.1 h2.2.2
      rw [rk_nl_1 h1 h2.1 h2.2.1 h2.2.2, rk_nl_1 h1 h2.1 h2.2.1 h2.2.2, rk_nr_1 h2.1, rk_nr_1 h2.1, (e _).1, (e _).2]
      refine rk_sm_eq _ fun x _ => rk_sm_eq _ fun y _ => ?_
      rw [rk_cw_1 h2.1, rk_cw_1 h2.1, (e _).1, (e _).2]
  · rw [rk_nl_0 z, rk_nl_0 z]
    rfl
theorem rk_tb_up {G : rk_G} {i j : Nat} (a : Nat) {e : Nat} (hj : j ≤ i + e) : ∀ d, rk_tb G (e + d) i j a = rk_tb G e i j a
  | 0 => rfl
  | d + 1 => by
    rw [← rk_tb_up a hj d]
    funext t
    have q : j ≤ i + (e + d) := by omega
    exact if_pos q
theorem rk_tb_5 {G : rk_G} {i j : Nat} (a : Nat) {e : Nat} (hj : j ≤ i + e) (he : e ≤ 5) : rk_tb G e i j a = rk_N G i j a := by
  have q := rk_tb_up (G := G) a hj (5 - e)
  rw [show e + (5 - e) = 5 by omega] at q
  exact q.symm
theorem rk_N_st (G : rk_G) {i j : Nat} (hi : i < j) (hj : j ≤ i + 5) (a t : Nat) : rk_N G i j a t = rk_st G (rk_N G) i j a t := by
  obtain ⟨e, rfl⟩ : ∃ e, j = i + (e + 1) := ⟨j - i - 1, by omega⟩
  rw [← rk_tb_5 a (Nat.le_refl (i + (e + 1))) (by omega)]
  show (if i + (e + 1) ≤ i + e then rk_tb G e i (i + (e + 1)) a t else rk_st G (rk_tb G e) i (i + (e + 1)) a t) = _
  rw [if_neg (by omega)]
  unfold rk_st
  refine rk_sm_eq 64 fun w _ => rk_ways_cg (fun m h1 h2 b => ⟨?_, ?_⟩) a t w
  · exact rk_tb_5 b (by omega) (by omega)
  · exact rk_tb_5 b (by omega) (by omega)
theorem rk_st_mono (G : rk_G) (F : Nat → Nat → Nat → Nat → Nat) (i j a : Nat) {s t : Nat} (h : s ≤ t) : rk_st G F i j a s ≤ rk_st G F i j a t := by
  refine rk_sm_le 64 fun w _ => rk_sm_le _ fun x _ => rk_sm_le _ fun y _ => ?_
  by_cases c : rk_cw G F i j w x y ≤ s
  · rw [if_pos c, if_pos (Nat.le_trans c h)]; exact Nat.le_refl 1
  · rw [if_neg c]; exact Nat.zero_le _
theorem rk_st_top (G : rk_G) (F : Nat → Nat → Nat → Nat → Nat) (i j a : Nat) {B : Nat} (h : ∀ w x y, w < 64 → x < rk_nl G F i j a w → y < rk_nr G F j w → rk_cw G F i j w x y ≤ B) (t : Nat) : rk_st G F i j a t ≤ rk_st G F i j a B := by
  refine rk_sm_le 64 fun w hw => rk_sm_le _ fun x hx => rk_sm_le _ fun y hy => ?_
  rw [if_pos (h w x y hw hx hy)]
  split
  · exact Nat.le_refl 1
  · exact Nat.zero_le 1
def rk_Bd (G : rk_G) (d i j a : Nat) : Prop := rk_good (rk_N G i j a) ∧ ∀ k, k < rk_mn (rk_N G i j a) → rk_cs (rk_N G i j a) k + 50 ≤ 100 * d
theorem rk_cw_le {G : rk_G} (ok : rk_ok G) {i j a : Nat} (hj : i < j) (ih : ∀ m b, i < m → m < j → rk_Bd G (m - i) i m b ∧ rk_Bd G (j - m) m j b) {w x y : Nat} (hx : x < rk_nl G (rk_N G) i j a w) (hy : y < rk_nr G (rk_N G) j w) : rk_cw G (rk_N G) i j w x y + 50 ≤ 100 * (j - i) := by
  have hp := (ok (w / 8)).2.2.2.2.1
  obtain ⟨h1, h2 | h2⟩ := rk_nl_pos (Nat.lt_of_le_of_lt (Nat.zero_le x) hx)
  · rw [rk_cw_2 (by omega)]; omega
  · rw [rk_nl_1 h1 h2.1 h2.2.1 h2.2.2] at hx
    rw [rk_nr_1 h2.1] at hy
    rw [rk_cw_1 h2.1]
    have q1 := (ih (w % 8) (rk_f G (w / 8)) h2.2.1 h2.2.2).1.2 x hx
    have q2 := (ih (w % 8) (rk_e G (w / 8)) h2.2.1 h2.2.2).2.2 y hy
    omega
theorem rk_bd_step {G : rk_G} (ok : rk_ok G) {i j : Nat} (a : Nat) (hi : i < j) (hj : j ≤ i + 5) (ih : ∀ m b, i < m → m < j → rk_Bd G (m - i) i m b ∧ rk_Bd G (j - m) m j b) : rk_Bd G (j - i) i j a := by
  have e : ∀ t, rk_N G i j a t = rk_st G (rk_N G) i j a t := fun t => rk_N_st G hi hj a t
  have hB : ∀ t, rk_N G i j a t ≤ rk_N G i j a (100 * (j - i) - 50) := fun t => by
    rw [e, e]
    refine rk_st_top G _ i j a (fun w x y _ hx hy => ?_) t
    have := rk_cw_le ok hi ih hx hy
    omega
  have hm : ∀ s t, s ≤ t → rk_N G i j a s ≤ rk_N G i j a t := fun s t h => by
    rw [e, e]; exact rk_st_mono G _ i j a h
  have g : rk_good (rk_N G i j a) := ⟨hm, fun t => Nat.le_trans (hB t) (hm _ _ (by omega))⟩
  refine ⟨g, fun k hk => ?_⟩
  have := (rk_cs_iff g (rk_mnN hk) (100 * (j - i) - 50)).mpr (Nat.lt_of_lt_of_le (rk_mnN hk) (hB 1000))
  omega
theorem rk_bd {G : rk_G} (ok : rk_ok G) : ∀ d, d ≤ 5 → ∀ i j a, i < j → j ≤ i + d → rk_Bd G (j - i) i j a
  | 0, _, i, j, _, h1, h2 => absurd h1 (by omega)
  | d + 1, hd, i, j, a, h1, h2 => rk_bd_step ok a h1 (by omega) fun m b g1 g2 => ⟨rk_bd ok d (by omega) i m b g1 (by omega), rk_bd ok d (by omega) m j b g2 (by omega)⟩
theorem rk_N_good {G : rk_G} (ok : rk_ok G) {i j : Nat} (a : Nat) (hi : i < j) (hj : j ≤ i + 5) : rk_good (rk_N G i j a) := (rk_bd ok 5 (Nat.le_refl 5) i j a hi hj).1
theorem rk_cs_bd {G : rk_G} (ok : rk_ok G) {i j a k : Nat} (hi : i < j) (hj : j ≤ i + 5) (hk : k < rk_mn (rk_N G i j a)) : rk_cs (rk_N G i j a) k + 50 ≤ 100 * (j - i) := (rk_bd ok 5 (Nat.le_refl 5) i j a hi hj).2 k hk
theorem rk_cw_bd {G : rk_G} (ok : rk_ok G) {i j a : Nat} (hi : i < j) (hj : j ≤ i + 5) {w x y : Nat} (hx : x < rk_nl G (rk_N G) i j a w) (hy : y < rk_nr G (rk_N G) j w) : rk_cw G (rk_N G) i j w x y + 50 ≤ 100 * (j - i) :=
  rk_cw_le ok hi (fun m b g1 g2 => ⟨rk_bd ok 5 (Nat.le_refl 5) i m b g1 (by omega), rk_bd ok 5 (Nat.le_refl 5) m j b g2 (by omega)⟩) hx hy
theorem rk_cw_mono {G : rk_G} (ok : rk_ok G) {i j a : Nat} (hi : i < j) (hj : j ≤ i + 5) {w x y x' y' : Nat} (hx : x' < rk_nl G (rk_N G) i j a w) (hy : y' < rk_nr G (rk_N G) j w) (h1 : x ≤ x') (h2 : y ≤ y') : rk_cw G (rk_N G) i j w x y ≤ rk_cw G (rk_N G) i j w x' y' := by
  obtain ⟨g1, g2 | g2⟩ := rk_nl_pos (Nat.lt_of_le_of_lt (Nat.zero_le x') hx)
  · rw [rk_cw_2 (by omega), rk_cw_2 (by omega)]; exact Nat.le_refl _
  · rw [rk_nl_1 g1 g2.1 g2.2.1 g2.2.2] at hx
    rw [rk_nr_1 g2.1] at hy
    rw [rk_cw_1 g2.1, rk_cw_1 g2.1]
    have q1 := rk_cs_mono (rk_N_good ok (rk_f G (w / 8)) g2.2.1 (by omega)) (rk_mnN hx) h1
    have q2 := rk_cs_mono (rk_N_good ok (rk_e G (w / 8)) g2.2.2 (by omega)) (rk_mnN hy) h2
    omega
end
section
/-! the frontier law: the least candidate among (w, x, U w x), all x' < x used, is the least that is not used -/
def rk_SS (nl nr : Nat → Nat) (Q : Nat → Nat → Nat → Nat) : Nat := rk_sm 64 fun w => rk_sm (nl w) fun x => rk_sm (nr w) fun y => Q w x y
theorem rk_SS_le {nl nr : Nat → Nat} {Q Q' : Nat → Nat → Nat → Nat} (h : ∀ w x y, w < 64 → x < nl w → y < nr w → Q w x y ≤ Q' w x y) : rk_SS nl nr Q ≤ rk_SS nl nr Q' :=
  rk_sm_le 64 fun w hw => rk_sm_le _ fun x hx => rk_sm_le _ fun y hy => h w x y hw hx hy
theorem rk_SS_upd {nl nr : Nat → Nat} {Q Q' : Nat → Nat → Nat → Nat} {w0 x0 y0 : Nat} (hw : w0 < 64) (hx : x0 < nl w0) (hy : y0 < nr w0) (h0 : Q' w0 x0 y0 = Q w0 x0 y0 + 1)
    (h1 : ∀ y, y ≠ y0 → Q' w0 x0 y = Q w0 x0 y) (h2 : ∀ x y, x < nl w0 → x ≠ x0 → Q' w0 x y = Q w0 x y) (h3 : ∀ w x y, w < 64 → x < nl w → w ≠ w0 → Q' w x y = Q w x y) : rk_SS nl nr Q' = rk_SS nl nr Q + 1 :=
  rk_sm_upd (i0 := w0) (rk_sm_upd (i0 := x0) (rk_sm_upd (i0 := y0) h0 _ hy fun y _ h => h1 y h) _ hx fun x hx h => rk_sm_eq _ fun y _ => h2 x y hx h) 64 hw
    fun w hw h => rk_sm_eq _ fun x hx => rk_sm_eq _ fun y _ => h3 w x y hw hx h
def rk_Fr (nl nr : Nat → Nat) (U : Nat → Nat → Nat) (w x : Nat) : Prop := w < 64 ∧ x < nl w ∧ U w x < nr w ∧ ∀ x', x' < x → 0 < U w x'
/-- what was used costs no more than what was not -/
def rk_So (nl nr : Nat → Nat) (c : Nat → Nat → Nat → Nat) (U : Nat → Nat → Nat) : Prop :=
  ∀ w x y w' x' y', w < 64 → x < nl w → y < nr w → y < U w x → w' < 64 → x' < nl w' → y' < nr w' → U w' x' ≤ y' → c w x y ≤ c w' x' y'
def rk_Pk (nl nr : Nat → Nat) (U : Nat → Nat → Nat) : Nat := rk_SS nl nr fun w x y => if y < U w x then 1 else 0
def rk_Mo (nl nr : Nat → Nat) (c : Nat → Nat → Nat → Nat) : Prop := ∀ w x y x' y', w < 64 → x' < nl w → y' < nr w → x ≤ x' → y ≤ y' → c w x y ≤ c w x' y'
theorem rk_front {nl nr : Nat → Nat} {c : Nat → Nat → Nat → Nat} {U : Nat → Nat → Nat} (mo : rk_Mo nl nr c) {w x y : Nat} (hw : w < 64) (hx : x < nl w) (hy : y < nr w) (hu : U w x ≤ y) :
    ∃ x', rk_Fr nl nr U w x' ∧ c w x' (U w x') ≤ c w x y := by
  by_cases z : ∀ x', x' < x → 0 < U w x'
  · exact ⟨x, ⟨hw, hx, by omega, z⟩, mo w x _ x y hw hx hy (Nat.le_refl x) hu⟩
  · have z' : ∃ x', x' < x ∧ U w x' = 0 := by
      apply Classical.byContradiction
      intro q
      apply z
      intro x' hx'
      apply Classical.byContradiction
      intro q2
      exact q ⟨x', hx', by omega⟩
    obtain ⟨p, ⟨hp1, hp2⟩, hp3⟩ := pk_least (fun x' => x' < x ∧ U w x' = 0) z'
    refine ⟨p, ⟨hw, by omega, by omega, fun x' hx' => ?_⟩, ?_⟩
    · apply Classical.byContradiction
      intro q
      exact hp3 x' hx' ⟨by omega, by omega⟩
    · rw [hp2]
      exact mo w p 0 x y hw hx hy (by omega) (Nat.zero_le y)
theorem rk_none {nl nr : Nat → Nat} {c : Nat → Nat → Nat → Nat} {U : Nat → Nat → Nat} (mo : rk_Mo nl nr c) (h : ∀ w x, ¬ rk_Fr nl nr U w x) (t : Nat) :
    rk_SS nl nr (fun w x y => if c w x y ≤ t then 1 else 0) ≤ rk_Pk nl nr U := by
  refine rk_SS_le fun w x y hw hx hy => ?_
  by_cases q : y < U w x
  · rw [if_pos q]
    split
    · exact Nat.le_refl 1
    · exact Nat.zero_le 1
  · obtain ⟨x', hf, _⟩ := rk_front mo hw hx hy (Nat.le_of_not_lt q)
    exact absurd hf (h w x')
theorem rk_next1 {nl nr : Nat → Nat} {c : Nat → Nat → Nat → Nat} {U : Nat → Nat → Nat} (mo : rk_Mo nl nr c) {w0 x0 : Nat} (h : ∀ w x, rk_Fr nl nr U w x → c w0 x0 (U w0 x0) ≤ c w x (U w x)) {t : Nat} (ht : t < c w0 x0 (U w0 x0)) :
    rk_SS nl nr (fun w x y => if c w x y ≤ t then 1 else 0) ≤ rk_Pk nl nr U := by
  refine rk_SS_le fun w x y hw hx hy => ?_
  by_cases q : y < U w x
  · rw [if_pos q]
    split
    · exact Nat.le_refl 1
    · exact Nat.zero_le 1
  · obtain ⟨x', hf, hc⟩ := rk_front mo hw hx hy (Nat.le_of_not_lt q)
    have := h w x' hf
    rw [if_neg (by omega)]
    exact Nat.zero_le _
theorem rk_nextP {nl nr : Nat → Nat} {U U' : Nat → Nat → Nat} {w0 x0 : Nat} (hf : rk_Fr nl nr U w0 x0) (e0 : U' w0 x0 = U w0 x0 + 1) (e1 : ∀ w x, w < 64 → x < nl w → ¬ (w = w0 ∧ x = x0) → U' w x = U w x) :
    rk_Pk nl nr U' = rk_Pk nl nr U + 1 := by
  refine rk_SS_upd hf.1 hf.2.1 hf.2.2.1 ?_ (fun y hy => ?_) (fun x y hl hx => ?_) (fun w x y hw hx hn => ?_)
  · rw [e0, if_pos (by omega), if_neg (by omega)]
  · rw [e0]
    by_cases q : y < U w0 x0
    · rw [if_pos q, if_pos (by omega)]
    · rw [if_neg q, if_neg (by omega)]
  · rw [e1 w0 x hf.1 hl (fun z => hx z.2)]
  · rw [e1 w x hw hx (fun z => hn z.1)]
theorem rk_nextS {nl nr : Nat → Nat} {c : Nat → Nat → Nat → Nat} {U U' : Nat → Nat → Nat} (mo : rk_Mo nl nr c) (so : rk_So nl nr c U) {w0 x0 : Nat} (hf : rk_Fr nl nr U w0 x0) (h : ∀ w x, rk_Fr nl nr U w x → c w0 x0 (U w0 x0) ≤ c w x (U w x))
    (e0 : U' w0 x0 = U w0 x0 + 1) (e1 : ∀ w x, w < 64 → x < nl w → ¬ (w = w0 ∧ x = x0) → U' w x = U w x) : rk_So nl nr c U' := by
  intro w x y w' x' y' hw hx hy hu hw' hx' hy' hu'
  have hle : U w' x' ≤ y' := by
    by_cases q : w' = w0 ∧ x' = x0
    · obtain ⟨rfl, rfl⟩ := q; omega
    · rw [e1 w' x' hw' hx' q] at hu'; exact hu'
  by_cases p : y < U w x
  · exact so w x y w' x' y' hw hx hy p hw' hx' hy' hle
  · have q : w = w0 ∧ x = x0 := by
      apply Classical.byContradiction
      intro q
      rw [e1 w x hw hx q] at hu
      exact p hu
    obtain ⟨rfl, rfl⟩ := q
    have ey : y = U w x := by omega
    rw [ey]
    obtain ⟨x1, hf1, hc1⟩ := rk_front mo hw' hx' hy' hle
    exact Nat.le_trans (h w' x1 hf1) hc1
/-- the next cost of a node -/
theorem rk_nextN {nl nr : Nat → Nat} {c : Nat → Nat → Nat → Nat} {U U' : Nat → Nat → Nat} {N : Nat → Nat} (g : rk_good N) (hN : ∀ t, N t = rk_SS nl nr (fun w x y => if c w x y ≤ t then 1 else 0)) (mo : rk_Mo nl nr c) (so : rk_So nl nr c U)
    {w0 x0 L : Nat} (hL : rk_Pk nl nr U = L) (hf : rk_Fr nl nr U w0 x0) (h : ∀ w x, rk_Fr nl nr U w x → c w0 x0 (U w0 x0) ≤ c w x (U w x))
    (e0 : U' w0 x0 = U w0 x0 + 1) (e1 : ∀ w x, w < 64 → x < nl w → ¬ (w = w0 ∧ x = x0) → U' w x = U w x) (h1 : c w0 x0 (U w0 x0) ≤ 1000) (h8 : L < 8) :
    L < rk_mn N ∧ rk_cs N L = c w0 x0 (U w0 x0) := by
  have up : ∀ t, c w0 x0 (U w0 x0) ≤ t → L < N t := by
    intro t ht
    have q := rk_nextP hf e0 e1
    have q2 : rk_Pk nl nr U' ≤ N t := by
      rw [hN]
      refine rk_SS_le fun w x y hw hx hy => ?_
      by_cases p : y < U' w x
      · have : c w x y ≤ t := by
          by_cases p2 : y < U w x
          · exact Nat.le_trans (so w x y w0 x0 (U w0 x0) hw hx hy p2 hf.1 hf.2.1 hf.2.2.1 (Nat.le_refl _)) ht
          · have q : w = w0 ∧ x = x0 := by
              apply Classical.byContradiction
              intro q
              rw [e1 w x hw hx q] at p
              exact p2 p
            obtain ⟨rfl, rfl⟩ := q
            have ey : y = U w x := by omega
            rw [ey]; exact ht
        rw [if_pos this, if_pos p]
        exact Nat.le_refl 1
      · rw [if_neg p]; exact Nat.zero_le _
    omega
  have hm : L < N 1000 := up 1000 h1
  refine ⟨by unfold rk_mn; omega, rk_cs_eq g hm fun t => ⟨up t, fun z => ?_⟩⟩
  apply Classical.byContradiction
  intro q
  have := rk_next1 mo h (t := t) (by omega)
  rw [← hN, hL] at this
  omega
end
section
/-! the two states by the grammar; small rows -/
def rk_a (f : Nat → Nat) : Nat → Int32 := fun k => nI (f k)
theorem rk_at {f : Nat → Nat} {k : Nat} (hk : k < 2 ^ 31) : rk_a f (nI k).toNatClampNeg = nI (f k) := congrArg (rk_a f) (nI_clamp hk)
def rk_nd (i j a : Nat) : Nat := 18 * i + 3 * j + a
theorem rk_nd_lt {i j a : Nat} (hi : i < j) (hj : j ≤ 5) (ha : a < 3) : rk_nd i j a < 108 := by unfold rk_nd; omega
theorem rk_nd_inj {i j a i' j' a' : Nat} (hj : j ≤ 5) (ha : a < 3) (hj' : j' ≤ 5) (ha' : a' < 3) (h : rk_nd i j a = rk_nd i' j' a') : i = i' ∧ j = j' ∧ a = a' := by unfold rk_nd at h; omega
theorem rk_nd_i {i j a : Nat} (hj : j ≤ 5) (ha : a < 3) : rk_nd i j a / 18 = i := by unfold rk_nd; omega
theorem rk_nd_j {i j a : Nat} (hj : j ≤ 5) (ha : a < 3) : rk_nd i j a / 3 % 6 = j := by unfold rk_nd; omega
theorem rk_nd_a {i j a : Nat} (ha : a < 3) : rk_nd i j a % 3 = a := by unfold rk_nd; omega
abbrev rx_Z : Type := Int32 × Int32 × Int32 × Int32 × Int32 × Int32 × (Nat → Int32) × (Nat → Int32) × (Nat → Int32) × (Nat → Int32) × (Nat → Int32) × (Nat → Int32)
abbrev rx_S (G : rk_G) (R n : Nat) (z : rx_Z) (ou tw : Nat → Int32) : SX := ((nI R), (nI n), z.1, z.2.1, z.2.2.1, z.2.2.2.1, z.2.2.2.2.1, z.2.2.2.2.2.1, (rk_a (rk_s G)), (rk_a (rk_f G)), (rk_a (rk_c G)), (rk_a (rk_p G)), (rk_a (rk_r G)), z.2.2.2.2.2.2.1, z.2.2.2.2.2.2.2.1, z.2.2.2.2.2.2.2.2.1, z.2.2.2.2.2.2.2.2.2.1, z.2.2.2.2.2.2.2.2.2.2.1, z.2.2.2.2.2.2.2.2.2.2.2, ou, tw)
abbrev ry_S (G : rk_G) (n : Nat) (li : Int32) (co ma us ls op : Nat → Int32) : SY := ((nI n), li, (rk_a (rk_k G)), (rk_a (rk_s G)), (rk_a (rk_f G)), (rk_a (rk_e G)), (rk_a (rk_p G)), (rk_a (rk_r G)), co, ma, us, ls, op)
theorem rk_i8 (c k : Nat) : (8 : Int32) * nI c + nI k = nI (8 * c + k) := by
  rw [show (8 : Int32) = nI 8 from rfl, pk_mul, nI_add]
theorem rk_8i (c k : Nat) : nI c * (8 : Int32) + nI k = nI (8 * c + k) := by
  rw [show (8 : Int32) = nI 8 from rfl, pk_mul, nI_add, Nat.mul_comm]
theorem rk_i8p (c k : Nat) : (8 : Int32) * nI c + nI (k + 1) - 1 = nI (8 * c + k) := by
  rw [rk_i8]; exact nI_pred (8 * c + k)
theorem rk_cell (i j a : Nat) : (18 : Int32) * nI i + (3 : Int32) * nI j + nI a = nI (rk_nd i j a) := by
  rw [show (18 : Int32) = nI 18 from rfl, show (3 : Int32) = nI 3 from rfl, pk_mul, pk_mul, nI_add, nI_add]; rfl
theorem rk_node (i j a : Nat) : (nI i * 6 + nI j) * 3 + nI a = nI (rk_nd i j a) := by
  rw [show (6 : Int32) = nI 6 from rfl, show (3 : Int32) = nI 3 from rfl, pk_mul, nI_add, pk_mul, nI_add]
  unfold rk_nd
  congr 1
  omega
theorem ry_cell {post : Int32 → Prop} {u : SY} {x1 x2 x3 : Int32} {i j a : Nat} (e1 : x1 = nI i) (e2 : x2 = nI j) (e3 : x3 = nI a) (h : post (nI (rk_nd i j a))) : wpY_cell post u x1 x2 x3 := by
  obtain ⟨u1, u2, u3, u4, u5, u6, u7, u8, u9, u10, u11, u12, u13⟩ := u
  subst e1 e2 e3
  show post _
  rw [rk_cell]
  exact h
theorem rx_node {post : Int32 → Prop} {x1 x2 x3 : Int32} {i j a : Nat} (e1 : x1 = nI i) (e2 : x2 = nI j) (e3 : x3 = nI a) (h : post (nI (rk_nd i j a))) : wpX_nodeOf post x1 x2 x3 := by
  subst e1 e2 e3
  show post _
  rw [rk_node]
  exact h
end
section
/-! the reference: insert -/
def ry_CI (ma co : Nat → Int32) (c : Nat) (M : Nat → Nat) : Prop := ma c = nI (rk_mn M) ∧ ∀ k, k < rk_mn M → co (8 * c + k) = nI (rk_cs M k)
def ry_Fm (c : Nat) (ma co ma' co' : Nat → Int32) : Prop := ∀ c', c' ≠ c → ma' c' = ma c' ∧ ∀ k, k < 8 → co' (8 * c' + k) = co (8 * c' + k)
theorem ry_Fm_rf {c : Nat} {ma co : Nat → Int32} : ry_Fm c ma co ma co := fun _ _ => ⟨rfl, fun _ _ => rfl⟩
theorem ry_Fm_tr {c : Nat} {ma co ma' co' ma'' co'' : Nat → Int32} (h : ry_Fm c ma co ma' co') (h' : ry_Fm c ma' co' ma'' co'') : ry_Fm c ma co ma'' co'' :=
  fun c' hc => ⟨((h' c' hc).1).trans (h c' hc).1, fun k hk => ((h' c' hc).2 k hk).trans ((h c' hc).2 k hk)⟩
theorem ry_CI_fm {c c' : Nat} {ma co ma' co' : Nat → Int32} {M : Nat → Nat} (h : ry_Fm c ma co ma' co') (hc : c' ≠ c) (I : ry_CI ma co c' M) : ry_CI ma' co' c' M :=
  ⟨((h c' hc).1).trans I.1, fun k hk => ((h c' hc).2 k (Nat.lt_of_lt_of_le hk (rk_mn8 M))).trans (I.2 k hk)⟩
def ry_In (co0 co : Nat → Int32) (c v : Nat) (M : Nat → Nat) (p : Nat) : Prop :=
  (∀ k, k < p → co (8 * c + k) = nI (rk_cs M k)) ∧ (∀ k, p ≤ k → k < rk_mn M → k + 1 < 8 → co (8 * c + (k + 1)) = nI (rk_cs M k)) ∧ (∀ k, p ≤ k → k < rk_mn M → v < rk_cs M k) ∧ (∀ c' k, c' ≠ c → k < 8 → co (8 * c' + k) = co0 (8 * c' + k))
section
variable {post : SY → Prop} {G : rk_G} {n : Nat} {li : Int32} {co0 ma us ls op : Nat → Int32} {c v : Nat} {M : Nat → Nat}
theorem ry_ins98 {co : Nat → Int32} (hc : c < 108) (hv : v ≤ 1000) (hm : ma c = nI (rk_mn M)) (h : post (ry_S G n li co (upd ma c (nI (rk_mn (rk_add M v)))) us ls op)) : wY_insert_98 post (nI c) (nI n) li (rk_a (rk_k G)) (rk_a (rk_s G)) (rk_a (rk_f G)) (rk_a (rk_e G)) (rk_a (rk_p G)) (rk_a (rk_r G)) co ma us ls op := by
  have hcl : (nI c).toNatClampNeg = c := nI_clamp (by omega)
  have i1 : vp_in (nI c) 108 := vp_in_nI hc (by decide)
  have h8 := rk_mn8 M
  rw [rk_mn_add hv] at h
  refine ⟨i1, pk_le 8 (rk_mn M) (fun q => ⟨i1, nm_r (e' := upd ma c (nI 8)) (by rw [hcl]; rfl) ?_⟩) (fun q => ⟨i1, i1, nm_r (e' := upd ma c (nI (rk_mn M + 1))) (by rw [hcl, hm, nI_1]) ?_⟩) rfl (by rw [hcl]; exact hm)⟩
  · rw [if_pos q] at h; exact h
  · rw [if_neg (by omega)] at h; exact h
theorem ry_insFin (g : rk_good M) (hc : c < 108) (hv : v ≤ 1000) (hm : ma c = nI (rk_mn M))
    (h : ∀ co' ma', ry_CI ma' co' c (rk_add M v) → ry_Fm c ma co0 ma' co' → post (ry_S G n li co' ma' us ls op))
    {p : Nat} (hp : p ≤ rk_mn M) {co : Nat → Int32} (I : ry_In co0 co c v M p) (hl : ∀ k, k < p → rk_cs M k ≤ v) : wY_insert_80 post (nI c) (nI v) (nI p) (nI n) li (rk_a (rk_k G)) (rk_a (rk_s G)) (rk_a (rk_f G)) (rk_a (rk_e G)) (rk_a (rk_p G)) (rk_a (rk_r G)) co ma us ls op := by
  have h8 := rk_mn8 M
  obtain ⟨I1, I2, I3, I4⟩ := I
  obtain ⟨j1, j2, j3⟩ := rk_ins g hv hp hl I3
  have hmn := rk_mn_add (M := M) hv
  refine pk_le 8 p (fun q => ?_) (fun q => ⟨pk_in (8 * c + p) 864 (by omega) (rk_i8 c p), nm_r (e' := upd co (8 * c + p) (nI v)) (by rw [rk_i8, nI_clamp (by omega)]) ?_⟩)
  · refine ry_ins98 hc hv hm (h _ _ ⟨pk_us, fun k hk => ?_⟩ fun c' hc' => ⟨pk_un hc', fun k hk => I4 c' k hc' hk⟩)
    rw [hmn] at hk
    rw [if_pos (by omega)] at hk
    rw [j1 k (by omega)]
    exact I1 k (by omega)
  · refine ry_ins98 hc hv hm (h _ _ ⟨pk_us, fun k hk => ?_⟩ fun c' hc' => ⟨pk_un hc', fun k hk => ?_⟩)
    · rw [hmn] at hk
      have hk8 : k ≤ rk_mn M ∧ k < 8 := by
        by_cases z : 8 ≤ rk_mn M
        · rw [if_pos z] at hk; omega
        · rw [if_neg z] at hk; omega
      by_cases e1 : k < p
      · rw [pk_un (by omega), j1 k e1]; exact I1 k e1
      · by_cases e2 : k = p
        · subst e2
          rw [pk_us, j2 q]
        · obtain ⟨k', rfl⟩ : ∃ k', k = k' + 1 := ⟨k - 1, by omega⟩
          rw [pk_un (by omega), j3 k' (by omega) (by omega)]
          exact I2 k' (by omega) (by omega) hk8.2
    · rw [pk_un (by omega)]; exact I4 c' k hc' hk
theorem ry_ins23 (g : rk_good M) (hc : c < 108) (hv : v ≤ 1000) (hm : ma c = nI (rk_mn M))
    (h : ∀ co' ma', ry_CI ma' co' c (rk_add M v) → ry_Fm c ma co0 ma' co' → post (ry_S G n li co' ma' us ls op)) :
    ∀ p, p ≤ rk_mn M → ∀ co, ry_In co0 co c v M p → wY_insert_23 post (nI c) (nI v) (nI n) li (p + 1) (nI p) (rk_a (rk_k G)) (rk_a (rk_s G)) (rk_a (rk_f G)) (rk_a (rk_e G)) (rk_a (rk_p G)) (rk_a (rk_r G)) co ma us ls op
  | 0, hp, co, I => br_t (by decide) (ry_insFin g hc hv hm h hp I fun k hk => absurd hk (by omega))
  | p + 1, hp, co, I => by
    have h8 := rk_mn8 M
    have i1 : vp_in ((8 : Int32) * nI c + nI (p + 1) - 1) 864 := pk_in (8 * c + p) 864 (by omega) (rk_i8p c p)
    have ecl : ((8 : Int32) * nI c + nI (p + 1) - 1).toNatClampNeg = 8 * c + p := pk_cl (8 * c + p) (rk_i8p c p)
    have hcs : rk_cs M p ≤ 1000 := rk_cs_1000 g (rk_mnN (k := p) (by omega))
    have hco := I.1 p (by omega)
    refine br_f (nI_nle (by omega) (by omega)) ⟨i1, pk_le (rk_cs M p) v (fun q => ?_) (fun q => ?_) (by rw [ecl]; exact hco) rfl⟩
    · exact ry_insFin g hc hv hm h hp I fun k hk => Nat.le_trans (rk_cs_mono g (rk_mnN (k := p) (by omega)) (by omega)) q
    · refine pk_le 8 (p + 1) (fun q8 => nm_r (pk_m1 p) ?_) (fun q8 => ⟨i1, pk_in (8 * c + (p + 1)) 864 (by omega) (rk_i8 c (p + 1)), nm_r (e' := upd co (8 * c + (p + 1)) (nI (rk_cs M p))) (by rw [ecl, rk_i8, nI_clamp (by omega), hco]) (nm_r (pk_m1 p) ?_)⟩)
      · refine ry_ins23 g hc hv hm h p (by omega) co ⟨fun k hk => I.1 k (by omega), fun k h1 h2 h3 => ?_, fun k h1 h2 => ?_, I.2.2.2⟩
        · exact absurd h3 (by omega)
        · by_cases e : k = p
          · subst e; exact q
          · exact I.2.2.1 k (by omega) h2
      · refine ry_ins23 g hc hv hm h p (by omega) _ ⟨fun k hk => ?_, fun k h1 h2 h3 => ?_, fun k h1 h2 => ?_, fun c' k h1 h2 => ?_⟩
        · rw [pk_un (by omega)]; exact I.1 k (by omega)
        · by_cases e : k = p
          · subst e; exact pk_us
          · rw [pk_un (by omega)]; exact I.2.1 k (by omega) h2 h3
        · by_cases e : k = p
          · subst e; exact q
          · exact I.2.2.1 k (by omega) h2
        · rw [pk_un (by omega)]; exact I.2.2.2 c' k h1 h2
theorem ry_insert (g : rk_good M) (hc : c < 108) (hv : v ≤ 1000) {co : Nat → Int32} (hI : ry_CI ma co c M)
    (h : ∀ co' ma', ry_CI ma' co' c (rk_add M v) → ry_Fm c ma co ma' co' → post (ry_S G n li co' ma' us ls op)) {x1 x2 : Int32} (e1 : x1 = nI c) (e2 : x2 = nI v) : wpY_insert post (ry_S G n li co ma us ls op) x1 x2 := by
  subst e1 e2
  have h8 := rk_mn8 M
  have hcl : (nI c).toNatClampNeg = c := nI_clamp (by omega)
  have i1 : vp_in (nI c) 108 := vp_in_nI hc (by decide)
  have I : ry_In co co c v M (rk_mn M) := ⟨hI.2, fun k h1 h2 => absurd h1 (by omega), fun k h1 h2 => absurd h1 (by omega), fun _ _ _ _ => rfl⟩
  have K := ry_ins23 (G := G) (n := n) (li := li) (us := us) (ls := ls) (op := op) g hc hv hI.1 h (rk_mn M) (Nat.le_refl _) co I
  refine ⟨i1, pk_le 8 (rk_mn M) (fun q => ⟨rk_mn M + 1, ?_⟩) (fun q => ⟨i1, nm_r (e' := nI (rk_mn M)) (by rw [← hI.1]; exact congrArg ma hcl) ⟨rk_mn M + 1, K⟩⟩) rfl (by rw [← hI.1]; exact congrArg ma hcl)⟩
  have e8 : rk_mn M = 8 := by omega
  rw [e8] at K ⊢
  exact K
end
end
section
/-! the reference: join, fill, work -/
def ry_q (p : Nat) (NL NR : Nat → Nat) (t x y : Nat) : Nat := if p + rk_cs NL x + rk_cs NR y ≤ t then 1 else 0
def ry_M (M0 : Nat → Nat) (p : Nat) (NL NR : Nat → Nat) (x y : Nat) : Nat → Nat := fun t => M0 t + rk_sm x (fun x' => rk_sm (rk_mn NR) (ry_q p NL NR t x')) + rk_sm y (ry_q p NL NR t x)
theorem ry_M_y {M0 NL NR : Nat → Nat} {p x y : Nat} : rk_add (ry_M M0 p NL NR x y) (p + rk_cs NL x + rk_cs NR y) = ry_M M0 p NL NR x (y + 1) := by
  funext t
  exact Nat.add_assoc _ _ _
theorem ry_M_x {M0 NL NR : Nat → Nat} {p x : Nat} : ry_M M0 p NL NR x (rk_mn NR) = ry_M M0 p NL NR (x + 1) 0 := by
  funext t
  exact Nat.add_assoc _ _ _
theorem ry_M_0 {M0 NL NR : Nat → Nat} {p : Nat} : ry_M M0 p NL NR 0 0 = M0 := rfl
section
variable {G : rk_G} {n : Nat} {li : Int32} {us ls op : Nat → Int32} {c cl cr p : Nat} {M0 NL NR : Nat → Nat} {ma0 co0 : Nat → Int32}
theorem ry_join17 {post : SY → Prop} {J3 : Int32 → Int32 → Int32 → (Nat → Int32) → (Nat → Int32) → (Nat → Int32) → (Nat → Int32) → (Nat → Int32) → (Nat → Int32) → (Nat → Int32) → (Nat → Int32) → (Nat → Int32) → (Nat → Int32) → (Nat → Int32) → Prop}
    (hc : c < 108) (hl : cl < 108) (hr : cr < 108) (nl : cl ≠ c) (nr : cr ≠ c) (Il : ry_CI ma0 co0 cl NL) (Ir : ry_CI ma0 co0 cr NR) (hb : ∀ x y, x < rk_mn NL → y < rk_mn NR → p + rk_cs NL x + rk_cs NR y ≤ 1000) {x : Nat} (hx : x < rk_mn NL)
    (K : ∀ co' ma', rk_good (ry_M M0 p NL NR (x + 1) 0) → ry_CI ma' co' c (ry_M M0 p NL NR (x + 1) 0) → ry_Fm c ma0 co0 ma' co' → J3 (nI (x + 1)) (nI n) li (rk_a (rk_k G)) (rk_a (rk_s G)) (rk_a (rk_f G)) (rk_a (rk_e G)) (rk_a (rk_p G)) (rk_a (rk_r G)) co' ma' us ls op) :
    ∀ d y, y + d = rk_mn NR → ∀ co ma, rk_good (ry_M M0 p NL NR x y) → ry_CI ma co c (ry_M M0 p NL NR x y) → ry_Fm c ma0 co0 ma co → wY_join_17 post J3 (nI c) (nI cl) (nI cr) (nI p) (nI x) (d + 1) (nI y) (nI n) li (rk_a (rk_k G)) (rk_a (rk_s G)) (rk_a (rk_f G)) (rk_a (rk_e G)) (rk_a (rk_p G)) (rk_a (rk_r G)) co ma us ls op
  | 0, y, hy, co, ma, g, I, F => by
    have e : y = rk_mn NR := by omega
    subst e
    have h8 := rk_mn8 NR
    have h8' := rk_mn8 NL
    have Ir' := ry_CI_fm F nr Ir
    refine ⟨vp_in_nI hr (by decide), br_t ?_ (nm_r (nI_1 x) (K co ma (ry_M_x ▸ g) (ry_M_x ▸ I) F))⟩
    show ma (nI cr).toNatClampNeg ≤ nI (rk_mn NR)
    rw [nI_clamp (by omega), Ir'.1]
    exact nI_le (Nat.le_refl _) (by omega)
  | d + 1, y, hy, co, ma, g, I, F => by
    have h8 := rk_mn8 NR
    have h8' := rk_mn8 NL
    have Ir' := ry_CI_fm F nr Ir
    have Il' := ry_CI_fm F nl Il
    have hy' : y < rk_mn NR := by omega
    refine ⟨vp_in_nI hr (by decide), br_f ?_ ⟨pk_in (8 * cl + x) 864 (by omega) (rk_i8 cl x), pk_in (8 * cr + y) 864 (by omega) (rk_i8 cr y), ?_⟩⟩
    · show ¬ ma (nI cr).toNatClampNeg ≤ nI y
      rw [nI_clamp (by omega), Ir'.1]
      exact nI_ge hy' (by omega)
    · refine ry_insert (G := G) (n := n) (li := li) (co := co) (ma := ma) (us := us) (ls := ls) (op := op) g hc (hb x y hx hy') I (fun co' ma' I' F' => ?_) rfl ?_
      · have g' := rk_add_good g (hb x y hx hy')
        rw [ry_M_y] at I' g'
        exact nm_r (nI_1 y) (ry_join17 hc hl hr nl nr Il Ir hb hx K d (y + 1) (by omega) co' ma' g' I' (ry_Fm_tr F F'))
      · rw [pk_cl (8 * cl + x) (rk_i8 cl x), pk_cl (8 * cr + y) (rk_i8 cr y), Il'.2 x hx, Ir'.2 y hy', nI_add, nI_add]
theorem ry_join3 {post : SY → Prop} (hc : c < 108) (hl : cl < 108) (hr : cr < 108) (nl : cl ≠ c) (nr : cr ≠ c) (Il : ry_CI ma0 co0 cl NL) (Ir : ry_CI ma0 co0 cr NR) (hb : ∀ x y, x < rk_mn NL → y < rk_mn NR → p + rk_cs NL x + rk_cs NR y ≤ 1000)
    (K : ∀ co' ma', ry_CI ma' co' c (ry_M M0 p NL NR (rk_mn NL) 0) → ry_Fm c ma0 co0 ma' co' → post (ry_S G n li co' ma' us ls op)) :
    ∀ d x, x + d = rk_mn NL → ∀ co ma, rk_good (ry_M M0 p NL NR x 0) → ry_CI ma co c (ry_M M0 p NL NR x 0) → ry_Fm c ma0 co0 ma co → wY_join_3 post (nI c) (nI cl) (nI cr) (nI p) (d + 1) (nI x) (nI n) li (rk_a (rk_k G)) (rk_a (rk_s G)) (rk_a (rk_f G)) (rk_a (rk_e G)) (rk_a (rk_p G)) (rk_a (rk_r G)) co ma us ls op
  | 0, x, hx, co, ma, g, I, F => by
    have e : x = rk_mn NL := by omega
    subst e
    have h8' := rk_mn8 NL
    have Il' := ry_CI_fm F nl Il
    refine ⟨vp_in_nI hl (by decide), br_t ?_ (K co ma I F)⟩
    show ma (nI cl).toNatClampNeg ≤ nI (rk_mn NL)
    rw [nI_clamp (by omega), Il'.1]
    exact nI_le (Nat.le_refl _) (by omega)
  | d + 1, x, hx, co, ma, g, I, F => by
    have h8' := rk_mn8 NL
    have Il' := ry_CI_fm F nl Il
    refine ⟨vp_in_nI hl (by decide), br_f ?_ ⟨rk_mn NR + 1, ?_⟩⟩
    · show ¬ ma (nI cl).toNatClampNeg ≤ nI x
      rw [nI_clamp (by omega), Il'.1]
      exact nI_ge (by omega) (by omega)
    · exact ry_join17 (M0 := M0) hc hl hr nl nr Il Ir hb (x := x) (by omega) (fun co' ma' g' I' F' => ry_join3 hc hl hr nl nr Il Ir hb K d (x + 1) (by omega) co' ma' g' I' F') (rk_mn NR) 0 (by omega) co ma g I F
theorem ry_join {post : SY → Prop} (hc : c < 108) (hl : cl < 108) (hr : cr < 108) (nl : cl ≠ c) (nr : cr ≠ c) (Il : ry_CI ma0 co0 cl NL) (Ir : ry_CI ma0 co0 cr NR) (hb : ∀ x y, x < rk_mn NL → y < rk_mn NR → p + rk_cs NL x + rk_cs NR y ≤ 1000)
    (g : rk_good M0) (I : ry_CI ma0 co0 c M0)
    (K : ∀ co' ma', ry_CI ma' co' c (ry_M M0 p NL NR (rk_mn NL) 0) → ry_Fm c ma0 co0 ma' co' → post (ry_S G n li co' ma' us ls op)) {x4 : Int32} (e4 : x4 = nI p) : wpY_join post (ry_S G n li co0 ma0 us ls op) (nI c) (nI cl) (nI cr) x4 := by
  subst e4
  exact ⟨rk_mn NL + 1, ry_join3 (M0 := M0) hc hl hr nl nr Il Ir hb K (rk_mn NL) 0 (by omega) co0 ma0 g I ry_Fm_rf⟩
end
/-! fill -/
def ry_PS (G : rk_G) (i j a w : Nat) : Nat → Nat := fun t => rk_sm w (rk_ways G (rk_N G) i j a t)
theorem ry_PS_good {G : rk_G} (ok : rk_ok G) {i j a w : Nat} (hi : i < j) (hj : j ≤ 5) : rk_good (ry_PS G i j a w) := by
  refine ⟨fun s t h => rk_sm_le w fun v _ => rk_sm_le _ fun x _ => rk_sm_le _ fun y _ => ?_, fun t => rk_sm_le w fun v _ => rk_sm_le _ fun x hx => rk_sm_le _ fun y hy => ?_⟩
  · by_cases z : rk_cw G (rk_N G) i j v x y ≤ s
    · rw [if_pos z, if_pos (Nat.le_trans z h)]; exact Nat.le_refl 1
    · rw [if_neg z]; exact Nat.zero_le _
  · have := rk_cw_bd ok hi (by omega) hx hy
    have q : rk_cw G (rk_N G) i j v x y ≤ 1000 := by omega
    rw [if_pos q]
    split
    · exact Nat.le_refl 1
    · exact Nat.zero_le 1
theorem ry_PS_to {G : rk_G} {i j a w w' : Nat} (h : w ≤ w') (hz : ∀ v, w ≤ v → v < w' → rk_nl G (rk_N G) i j a v = 0) : ry_PS G i j a w' = ry_PS G i j a w := by
  funext t
  refine rk_sm_to h fun v h1 h2 => ?_
  unfold rk_ways
  rw [hz v h1 h2]
  rfl
theorem ry_PS_64 {G : rk_G} {i j a : Nat} (hi : i < j) (hj : j ≤ 5) : ry_PS G i j a 64 = rk_N G i j a := by
  funext t
  exact (rk_N_st G hi (by omega) a t).symm
def ry_Fr (i j : Nat) (ma0 co0 ma co : Nat → Int32) : Prop := ∀ c', (∀ a, a < 3 → c' ≠ rk_nd i j a) → ma c' = ma0 c' ∧ ∀ k, k < 8 → co (8 * c' + k) = co0 (8 * c' + k)
def ry_FI (G : rk_G) (i j w : Nat) (ma0 co0 ma co : Nat → Int32) : Prop := (∀ a, a < 3 → ry_CI ma co (rk_nd i j a) (ry_PS G i j a w)) ∧ ry_Fr i j ma0 co0 ma co
theorem ry_FI_to {G : rk_G} {i j w w' : Nat} {ma0 co0 ma co : Nat → Int32} (I : ry_FI G i j w ma0 co0 ma co) (h : w ≤ w') (hz : ∀ a v, w ≤ v → v < w' → rk_nl G (rk_N G) i j a v = 0) : ry_FI G i j w' ma0 co0 ma co :=
  ⟨fun a ha => (ry_PS_to h (hz a)) ▸ I.1 a ha, I.2⟩
/-- one cell of the span grows, the others stay -/
theorem ry_FI_cell {G : rk_G} {i j w : Nat} {ma0 co0 ma co ma' co' : Nat → Int32} (hj : j ≤ 5) {b : Nat} (hb : b < 3) (I : ry_FI G i j w ma0 co0 ma co) (h1 : ry_CI ma' co' (rk_nd i j b) (ry_PS G i j b (w + 1))) (h2 : ry_Fm (rk_nd i j b) ma co ma' co')
    (hz : ∀ a, a ≠ b → rk_nl G (rk_N G) i j a w = 0) : ry_FI G i j (w + 1) ma0 co0 ma' co' := by
  refine ⟨fun a ha => ?_, fun c' hc' => ?_⟩
  · by_cases e : a = b
    · subst e; exact h1
    · have q : ry_PS G i j a (w + 1) = ry_PS G i j a w := ry_PS_to (Nat.le_succ w) fun v h3 h4 => by
        have : v = w := by omega
        subst this
        exact hz a e
      rw [q]
      exact ry_CI_fm h2 (fun z => e (rk_nd_inj hj ha hj hb z).2.2) (I.1 a ha)
  · have q1 := h2 c' (hc' b hb)
    have q2 := I.2 c' hc'
    exact ⟨q1.1.trans q2.1, fun k hk => (q1.2 k hk).trans (q2.2 k hk)⟩
theorem ry_CI_fr {i j c' : Nat} {ma co ma' co' : Nat → Int32} {M : Nat → Nat} (h : ry_Fr i j ma co ma' co') (hc : ∀ a, a < 3 → c' ≠ rk_nd i j a) (I : ry_CI ma co c' M) : ry_CI ma' co' c' M :=
  ⟨((h c' hc).1).trans I.1, fun k hk => ((h c' hc).2 k (Nat.lt_of_lt_of_le hk (rk_mn8 M))).trans (I.2 k hk)⟩
section
variable {G : rk_G} {n : Nat} {li : Int32} {us ls op : Nat → Int32} {ma0 co0 : Nat → Int32} {i j : Nat} {post : SY → Prop}
theorem ry_fill67n {J2 : Int32 → Int32 → Int32 → (Nat → Int32) → (Nat → Int32) → (Nat → Int32) → (Nat → Int32) → (Nat → Int32) → (Nat → Int32) → (Nat → Int32) → (Nat → Int32) → (Nat → Int32) → (Nat → Int32) → (Nat → Int32) → Prop}
    (ok : rk_ok G) {k q : Nat} {x : Int32} (hk : k < 8) (hn : rk_k G k ≠ 1) {co ma : Nat → Int32} (h : J2 (nI (k + 1)) (nI n) li (rk_a (rk_k G)) (rk_a (rk_s G)) (rk_a (rk_f G)) (rk_a (rk_e G)) (rk_a (rk_p G)) (rk_a (rk_r G)) co ma us ls op) : wY_fill_67 post J2 (nI i) (nI j) (nI k) (q + 1) x (nI n) li (rk_a (rk_k G)) (rk_a (rk_s G)) (rk_a (rk_f G)) (rk_a (rk_e G)) (rk_a (rk_p G)) (rk_a (rk_r G)) co ma us ls op := by
  have := (ok k).1
  refine br_c (fun _ => nm_r (nI_1 k) h) (fun _ => ⟨vp_in_nI hk (by decide), br_f ?_ (nm_r (nI_1 k) h)⟩)
  show ¬ rk_a (rk_k G) (nI k).toNatClampNeg = nI 1
  rw [rk_at (by omega), nI_eq (by omega) (by decide)]
  exact hn
theorem ry_fill67 {J2 : Int32 → Int32 → Int32 → (Nat → Int32) → (Nat → Int32) → (Nat → Int32) → (Nat → Int32) → (Nat → Int32) → (Nat → Int32) → (Nat → Int32) → (Nat → Int32) → (Nat → Int32) → (Nat → Int32) → (Nat → Int32) → Prop}
    (ok : rk_ok G) (hi : i < j) (hj : j ≤ 5) (H0 : ∀ m b, i < m → m < j → b < 3 → ry_CI ma0 co0 (rk_nd i m b) (rk_N G i m b) ∧ ry_CI ma0 co0 (rk_nd m j b) (rk_N G m j b))
    {k : Nat} (hk : k < 8) (hk1 : rk_k G k = 1)
    (K : ∀ co ma, ry_FI G i j (8 * (k + 1)) ma0 co0 ma co → J2 (nI (k + 1)) (nI n) li (rk_a (rk_k G)) (rk_a (rk_s G)) (rk_a (rk_f G)) (rk_a (rk_e G)) (rk_a (rk_p G)) (rk_a (rk_r G)) co ma us ls op) :
    ∀ d m, m + d = j → i < m → ∀ co ma, ry_FI G i j (8 * k + m) ma0 co0 ma co → wY_fill_67 post J2 (nI i) (nI j) (nI k) (d + 1) (nI m) (nI n) li (rk_a (rk_k G)) (rk_a (rk_s G)) (rk_a (rk_f G)) (rk_a (rk_e G)) (rk_a (rk_p G)) (rk_a (rk_r G)) co ma us ls op
  | 0, m, hm, him, co, ma, I => by
    have e : m = j := by omega
    subst e
    refine br_t (nI_le (Nat.le_refl _) (by omega)) (nm_r (nI_1 k) (K co ma (ry_FI_to I (by omega) fun a v h1 h2 => rk_nl_0 fun z => ?_)))
    have e1 : v / 8 = k := by omega
    rw [e1] at z
    obtain ⟨z1, z2 | z2⟩ := z
    · omega
    · omega
  | d + 1, m, hm, him, co, ma, I => by
    obtain ⟨o1, o2, o3, o4, o5, o6, o7, o8, o9⟩ := ok k
    have hmj : m < j := by omega
    have i8 : vp_in (nI k) 8 := vp_in_nI hk (by decide)
    have e1 : (8 * k + m) / 8 = k := by omega
    have e2 : (8 * k + m) % 8 = m := by omega
    have H := H0 m
    have Cl := (H (rk_f G k) him hmj (by omega)).1
    have Cr := (H (rk_e G k) him hmj (by omega)).2
    have nl : ∀ a b, a < 3 → b < 3 → rk_nd i m b ≠ rk_nd i j a := fun a b ha hb z => by
      have := (rk_nd_inj (by omega) hb hj ha z).2.1; omega
    have nr : ∀ a b, a < 3 → b < 3 → rk_nd m j b ≠ rk_nd i j a := fun a b ha hb z => by
      have := (rk_nd_inj hj hb hj ha z).1; omega
    have Cl' := ry_CI_fr I.2 (fun a ha => nl a _ ha (by omega)) Cl
    have Cr' := ry_CI_fr I.2 (fun a ha => nr a _ ha (by omega)) Cr
    refine br_f (nI_ge hmj (by omega)) ⟨i8, br_t ?_ ⟨i8, ry_cell (i := i) (j := j) (a := rk_s G k) rfl rfl (rk_at (f := rk_s G) (by omega)) ⟨i8, ry_cell (i := i) (j := m) (a := rk_f G k) rfl rfl (rk_at (f := rk_f G) (by omega)) ⟨i8, ry_cell (i := m) (j := j) (a := rk_e G k) rfl rfl (rk_at (f := rk_e G) (by omega)) ⟨i8, ?_⟩⟩⟩⟩⟩
    · show rk_a (rk_k G) (nI k).toNatClampNeg = nI 1
      rw [rk_at (by omega), hk1]
    · have hnl : rk_nl G (rk_N G) i j (rk_s G k) (8 * k + m) = rk_mn (rk_N G i m (rk_f G k)) := by
        have := rk_nl_1 (G := G) (F := rk_N G) (i := i) (j := j) (a := rk_s G k) (w := 8 * k + m) (by rw [e1]) (by rw [e1]; exact hk1) (by omega) (by omega)
        rw [e1, e2] at this; exact this
      have hnr : rk_nr G (rk_N G) j (8 * k + m) = rk_mn (rk_N G m j (rk_e G k)) := by
        have := rk_nr_1 (G := G) (F := rk_N G) (j := j) (w := 8 * k + m) (by rw [e1]; exact hk1)
        rw [e1, e2] at this; exact this
      have hcw : ∀ x y, rk_cw G (rk_N G) i j (8 * k + m) x y = rk_p G k + rk_cs (rk_N G i m (rk_f G k)) x + rk_cs (rk_N G m j (rk_e G k)) y := fun x y => by
        have := rk_cw_1 (G := G) (F := rk_N G) (i := i) (j := j) (w := 8 * k + m) (x := x) (y := y) (by rw [e1]; exact hk1)
        rw [e1, e2] at this; exact this
      have hPS : ry_M (ry_PS G i j (rk_s G k) (8 * k + m)) (rk_p G k) (rk_N G i m (rk_f G k)) (rk_N G m j (rk_e G k)) (rk_mn (rk_N G i m (rk_f G k))) 0 = ry_PS G i j (rk_s G k) (8 * k + m + 1) := by
        funext t
        show ry_PS G i j (rk_s G k) (8 * k + m) t + rk_sm (rk_mn (rk_N G i m (rk_f G k))) (fun x' => rk_sm (rk_mn (rk_N G m j (rk_e G k))) (ry_q (rk_p G k) (rk_N G i m (rk_f G k)) (rk_N G m j (rk_e G k)) t x')) + 0 = ry_PS G i j (rk_s G k) (8 * k + m) t + rk_ways G (rk_N G) i j (rk_s G k) t (8 * k + m)
        rw [Nat.add_zero]
        congr 1
        unfold rk_ways
        rw [hnl, hnr]
        refine rk_sm_eq _ fun x _ => rk_sm_eq _ fun y _ => ?_
        rw [hcw]
        rfl
      refine ry_join (G := G) (n := n) (li := li) (us := us) (ls := ls) (op := op) (ma0 := ma) (co0 := co) (M0 := ry_PS G i j (rk_s G k) (8 * k + m)) (rk_nd_lt hi hj (by omega)) (rk_nd_lt him (by omega) (by omega)) (rk_nd_lt hmj hj (by omega)) (nl _ _ (by omega) (by omega)) (nr _ _ (by omega) (by omega)) Cl' Cr' (fun x y hx hy => ?_) (ry_PS_good ok hi hj) (I.1 _ (by omega)) (fun co' ma' I' F' => ?_) (rk_at (f := rk_p G) (by omega))
      · have := rk_cs_bd ok him (by omega) hx
        have := rk_cs_bd ok hmj (by omega) hy
        omega
      · rw [hPS] at I'
        refine nm_r (nI_1 m) (ry_fill67 ok hi hj H0 hk hk1 K d (m + 1) (by omega) (by omega) co' ma' (ry_FI_cell (w := 8 * k + m) hj (b := rk_s G k) (by omega) I I' F' fun a ha => rk_nl_0 fun z => ?_))
        rw [e1] at z
        exact ha z.1.symm
theorem ry_fill2 (ok : rk_ok G) (hi : i < j) (hj : j ≤ 5) (H0 : ∀ m b, i < m → m < j → b < 3 → ry_CI ma0 co0 (rk_nd i m b) (rk_N G i m b) ∧ ry_CI ma0 co0 (rk_nd m j b) (rk_N G m j b))
    (K : ∀ co ma, ry_FI G i j 64 ma0 co0 ma co → post (ry_S G n li co ma us ls op)) :
    ∀ d k, k + d = 8 → ∀ co ma, ry_FI G i j (8 * k) ma0 co0 ma co → wY_fill_2 post (nI i) (nI j) (d + 1) (nI k) (nI n) li (rk_a (rk_k G)) (rk_a (rk_s G)) (rk_a (rk_f G)) (rk_a (rk_e G)) (rk_a (rk_p G)) (rk_a (rk_r G)) co ma us ls op
  | 0, k, hk, co, ma, I => by
    have e : k = 8 := by omega
    subst e
    exact br_t (by decide) (K co ma I)
  | d + 1, k, hk, co, ma, I => by
    obtain ⟨o1, o2, o3, o4, o5, o6, o7, o8, o9⟩ := ok k
    have o6' := (ok i).2.2.2.2.2.1
    have hk8 : k < 8 := by omega
    have i8 : vp_in (nI k) 8 := vp_in_nI hk8 (by decide)
    have IH := ry_fill2 ok hi hj H0 K d (k + 1) (by omega)
    have ek : ∀ v, 8 * k ≤ v → v < 8 * (k + 1) → v / 8 = k := fun v h1 h2 => by omega
    have skip : ∀ co ma, rk_k G k ≠ 1 → ¬ (rk_k G k = 2 ∧ j = i + 1 ∧ rk_r G i = rk_f G k) → ry_FI G i j (8 * k) ma0 co0 ma co → ry_FI G i j (8 * (k + 1)) ma0 co0 ma co := fun co ma h1 h2 I => ry_FI_to I (by omega) fun a v h3 h4 => rk_nl_0 fun z => by
      rw [ek v h3 h4] at z
      obtain ⟨_, z2 | z2⟩ := z
      · exact h2 ⟨z2.1, z2.2.2⟩
      · exact h1 z2.1
    have i5 : vp_in (nI i) 5 := vp_in_nI (by omega) (by decide)
    refine br_f (nI_ge (b := 8) hk8 (by decide)) ⟨i8, pk_eq (rk_k G k) 2 (fun q2 => pk_eq j (i + 1) (fun q3 => ⟨i5, i8, pk_eq (rk_r G i) (rk_f G k) (fun q4 => ⟨i8, ry_cell (i := i) (j := j) (a := rk_s G k) rfl rfl (rk_at (f := rk_s G) (by omega)) ⟨i8, ?_⟩⟩) (fun q4 => nm_r (nI_1 i) ⟨1, ?_⟩) (rk_at (f := rk_r G) (by omega)) (rk_at (f := rk_f G) (by omega))⟩) (fun q3 => nm_r (nI_1 i) ⟨1, ?_⟩) rfl (nI_1 i)) (fun q2 => nm_r (nI_1 i) ?_) (rk_at (f := rk_k G) (by omega)) rfl⟩
    · have hz1 : ∀ a v, 8 * k + 1 ≤ v → v < 8 * (k + 1) → rk_nl G (rk_N G) i j a v = 0 := fun a v h1 h2 => rk_nl_0 fun z => by
        rw [ek v (by omega) h2] at z
        obtain ⟨_, z2 | z2⟩ := z
        · omega
        · omega
      have e1 : (8 * k) / 8 = k := by omega
      have hPS : rk_add (ry_PS G i j (rk_s G k) (8 * k)) (rk_p G k) = ry_PS G i j (rk_s G k) (8 * k + 1) := by
        funext t
        show ry_PS G i j (rk_s G k) (8 * k) t + (if rk_p G k ≤ t then 1 else 0) = ry_PS G i j (rk_s G k) (8 * k) t + rk_ways G (rk_N G) i j (rk_s G k) t (8 * k)
        congr 1
        unfold rk_ways
        rw [rk_nl_2 (by rw [e1]) (by rw [e1]; exact q2) (by omega) q3 (by rw [e1]; exact q4), rk_nr_2 (by rw [e1]; omega)]
        have hcw : rk_cw G (rk_N G) i j (8 * k) 0 0 = rk_p G k := by
          have := rk_cw_2 (G := G) (F := rk_N G) (i := i) (j := j) (w := 8 * k) (x := 0) (y := 0) (by rw [e1]; omega)
          rw [e1] at this; exact this
        show _ = 0 + (0 + (if rk_cw G (rk_N G) i j (8 * k) 0 0 ≤ t then 1 else 0))
        rw [hcw]
        omega
      refine ry_insert (G := G) (n := n) (li := li) (us := us) (ls := ls) (op := op) (ma := ma) (co := co) (M := ry_PS G i j (rk_s G k) (8 * k)) (v := rk_p G k) (ry_PS_good ok hi hj) (rk_nd_lt hi hj (by omega)) (by omega) (I.1 _ (by omega)) (fun co' ma' I' F' => ?_) rfl (rk_at (f := rk_p G) (by omega))
      rw [hPS] at I'
      refine nm_r (nI_1 i) ⟨1, ry_fill67n ok hk8 (by omega) (IH co' ma' (ry_FI_to (ry_FI_cell hj (b := rk_s G k) (by omega) I I' F' fun a ha => rk_nl_0 fun z => ?_) (by omega) hz1))⟩
      rw [e1] at z
      exact ha z.1.symm
    · exact ry_fill67n ok hk8 (by omega) (IH co ma (skip co ma (by omega) (fun z => q4 z.2.2) I))
    · exact ry_fill67n ok hk8 (by omega) (IH co ma (skip co ma (by omega) (fun z => q3 z.2.1) I))
    · by_cases q1 : rk_k G k = 1
      · refine ⟨j - (i + 1) + 1, ry_fill67 ok hi hj H0 hk8 q1 IH (j - (i + 1)) (i + 1) (by omega) (by omega) co ma (ry_FI_to I (by omega) fun a v h1 h2 => rk_nl_0 fun z => ?_)⟩
        rw [ek v h1 (by omega)] at z
        obtain ⟨_, z2 | z2⟩ := z
        · exact q2 z2.1
        · omega
      · exact ⟨1, ry_fill67n ok hk8 q1 (IH co ma (skip co ma q1 (fun z => q2 z.1) I))⟩
theorem ry_fill (ok : rk_ok G) (hi : i < j) (hj : j ≤ 5) (H0 : ∀ m b, i < m → m < j → b < 3 → ry_CI ma0 co0 (rk_nd i m b) (rk_N G i m b) ∧ ry_CI ma0 co0 (rk_nd m j b) (rk_N G m j b))
    (hz : ∀ a, a < 3 → ma0 (rk_nd i j a) = nI 0)
    (K : ∀ co ma, (∀ a, a < 3 → ry_CI ma co (rk_nd i j a) (rk_N G i j a)) → ry_Fr i j ma0 co0 ma co → post (ry_S G n li co ma us ls op)) {x1 x2 : Int32} (e1 : x1 = nI i) (e2 : x2 = nI j) : wpY_fill post (ry_S G n li co0 ma0 us ls op) x1 x2 := by
  subst e1 e2
  refine ⟨9, ry_fill2 (G := G) (n := n) (li := li) (us := us) (ls := ls) (op := op) (ma0 := ma0) (co0 := co0) ok hi hj H0 (fun co ma I => K co ma (fun a ha => ?_) I.2) 8 0 rfl co0 ma0 ⟨fun a ha => ⟨hz a ha, fun k hk => ?_⟩, fun _ _ => ⟨rfl, fun _ _ => rfl⟩⟩⟩
  · have := I.1 a ha
    rw [ry_PS_64 hi hj] at this
    exact this
  · exact absurd hk (Nat.not_lt_zero k)
end
end
section
/-! the reference: work -/
def ry_T (G : rk_G) (n : Nat) (ma co : Nat → Int32) : Prop := ∀ i j a, i < j → j ≤ n → a < 3 → ry_CI ma co (rk_nd i j a) (rk_N G i j a)
def ry_W (G : rk_G) (n d i : Nat) (ma co : Nat → Int32) : Prop := ∀ i' j' a, i' < j' → j' ≤ n → a < 3 → ((j' < i' + d ∨ (j' = i' + d ∧ i' < i)) → ry_CI ma co (rk_nd i' j' a) (rk_N G i' j' a)) ∧ (¬ (j' < i' + d ∨ (j' = i' + d ∧ i' < i)) → ma (rk_nd i' j' a) = nI 0)
section
variable {G : rk_G} {n : Nat} {li : Int32} {us ls op : Nat → Int32} {post : SY → Prop}
theorem ry_work33 {J23 : Int32 → Int32 → Int32 → (Nat → Int32) → (Nat → Int32) → (Nat → Int32) → (Nat → Int32) → (Nat → Int32) → (Nat → Int32) → (Nat → Int32) → (Nat → Int32) → (Nat → Int32) → (Nat → Int32) → (Nat → Int32) → Prop}
    (ok : rk_ok G) (hn : n ≤ 5) {d : Nat} (hd : 0 < d) (hd5 : d ≤ 5) (K : ∀ co ma, ry_W G n (d + 1) 0 ma co → J23 (nI (d + 1)) (nI n) li (rk_a (rk_k G)) (rk_a (rk_s G)) (rk_a (rk_f G)) (rk_a (rk_e G)) (rk_a (rk_p G)) (rk_a (rk_r G)) co ma us ls op) :
    ∀ e i, i + e = 6 → ∀ co ma, ry_W G n d i ma co → wY_work_33 post J23 (nI d) (e + 1) (nI i) (nI n) li (rk_a (rk_k G)) (rk_a (rk_s G)) (rk_a (rk_f G)) (rk_a (rk_e G)) (rk_a (rk_p G)) (rk_a (rk_r G)) co ma us ls op := by
  intro e
  induction e with
  | zero =>
    intro i hi co ma I
    refine pk_lt n (i + d) (fun q => nm_r (nI_1 d) (K co ma fun i' j' a h1 h2 h3 => ?_)) (fun q => absurd q (by omega)) rfl (nI_add i d)
    have := I i' j' a h1 h2 h3
    exact ⟨fun z => this.1 (by omega), fun z => this.2 (by omega)⟩
  | succ e ih =>
    intro i hi co ma I
    refine pk_lt n (i + d) (fun q => nm_r (nI_1 d) (K co ma fun i' j' a h1 h2 h3 => ?_)) (fun q => ?_) rfl (nI_add i d)
    · have := I i' j' a h1 h2 h3
      exact ⟨fun z => this.1 (by omega), fun z => this.2 (by omega)⟩
    · refine ry_fill (G := G) (n := n) (li := li) (us := us) (ls := ls) (op := op) (ma0 := ma) (co0 := co) (i := i) (j := i + d) ok (by omega) (by omega) (fun m b h1 h2 h3 => ⟨(I i m b h1 (by omega) h3).1 (by omega), (I m (i + d) b h2 (by omega) h3).1 (by omega)⟩) (fun a ha => (I i (i + d) a (by omega) (by omega) ha).2 (by omega)) (fun co' ma' C F => ?_) rfl (nI_add i d)
      refine nm_r (nI_1 i) (ih (i + 1) (by omega) co' ma' fun i' j' a h1 h2 h3 => ?_)
      by_cases s : i' = i ∧ j' = i + d
      · obtain ⟨rfl, rfl⟩ := s
        exact ⟨fun _ => C a h3, fun z => absurd (Or.inr ⟨rfl, by omega⟩) z⟩
      · have ne : ∀ a', a' < 3 → rk_nd i' j' a ≠ rk_nd i (i + d) a' := fun a' ha' z => by
          have := rk_nd_inj (by omega) h3 (by omega) ha' z
          exact s ⟨this.1, this.2.1⟩
        have := I i' j' a h1 h2 h3
        exact ⟨fun z => ry_CI_fr F ne (this.1 (by omega)), fun z => ((F _ ne).1).trans (this.2 (by omega))⟩
theorem ry_work23 (ok : rk_ok G) (hn : n ≤ 5) (K : ∀ co ma, ry_T G n ma co → post (ry_S G n li co ma us ls op)) :
    ∀ e d, 0 < d → d + e = 6 → ∀ co ma, ry_W G n d 0 ma co → wY_work_23 post (e + 1) (nI d) (nI n) li (rk_a (rk_k G)) (rk_a (rk_s G)) (rk_a (rk_f G)) (rk_a (rk_e G)) (rk_a (rk_p G)) (rk_a (rk_r G)) co ma us ls op := by
  intro e
  induction e with
  | zero =>
    intro d hd he co ma I
    exact pk_lt n d (fun q => K co ma fun i j a h1 h2 h3 => (I i j a h1 h2 h3).1 (by omega)) (fun q => absurd q (by omega)) rfl rfl
  | succ e ih =>
    intro d hd he co ma I
    refine pk_lt n d (fun q => K co ma fun i j a h1 h2 h3 => (I i j a h1 h2 h3).1 (by omega)) (fun q => ⟨7, ?_⟩) rfl rfl
    exact ry_work33 ok hn hd (by omega) (fun co' ma' I' => ih (d + 1) (by omega) (by omega) co' ma' I') 6 0 rfl co ma I
theorem ry_work2 (ok : rk_ok G) (hn : n ≤ 5) {co : Nat → Int32} (K : ∀ co ma, ry_T G n ma co → post (ry_S G n li co ma us ls op)) :
    ∀ e c, c + e = 108 → ∀ ma, (∀ c', c' < c → ma c' = nI 0) → wY_work_2 post (nI n) li (e + 1) (nI c) (rk_a (rk_k G)) (rk_a (rk_s G)) (rk_a (rk_f G)) (rk_a (rk_e G)) (rk_a (rk_p G)) (rk_a (rk_r G)) co ma us ls op := by
  intro e
  induction e with
  | zero =>
    intro c hc ma h
    have e : c = 108 := by omega
    subst e
    refine br_t (by decide) ⟨6, ry_work23 ok hn K 5 1 (by omega) (by omega) co ma fun i j a h1 h2 h3 => ⟨fun z => absurd z (by omega), fun _ => h _ (rk_nd_lt h1 (by omega) h3)⟩⟩
  | succ e ih =>
    intro c hc ma h
    refine br_f (nI_ge (b := 108) (by omega) (by decide)) ⟨vp_in_nI (by omega) (by decide), nm_r (e' := upd ma c (nI 0)) (by rw [nI_clamp (by omega)]; rfl) (nm_r (nI_1 c) (ih (c + 1) (by omega) _ fun c' h' => ?_))⟩
    by_cases s : c' = c
    · subst s; exact pk_us
    · rw [pk_un s]; exact h c' (by omega)
theorem ry_work (ok : rk_ok G) (hn : n ≤ 5) {co ma : Nat → Int32} (K : ∀ co ma, ry_T G n ma co → post (ry_S G n li co ma us ls op)) : wpY_work post (ry_S G n li co ma us ls op) :=
  ⟨109, ry_work2 ok hn K 108 0 rfl ma fun _ h => absurd h (by omega)⟩
end
end
section
/-! the component: small methods, the scan's law -/
def rk_rs (G : rk_G) (R : Nat) : Prop := R < 256 ∧ ∀ k, k < 8 → (R / 2 ^ k % 2 = 0 ↔ rk_k G k = 0)
def rk_mc (w x : Nat) : Nat := w / 8 + 8 * (w % 8) + 64 * x
theorem rk_mc_inj {w x w' x' : Nat} (hw : w < 64) (hw' : w' < 64) (h : rk_mc w x = rk_mc w' x') : w = w' ∧ x = x' := by
  unfold rk_mc at h; omega
def rx_cnt (ma : Nat → Int32) (nd L v : Nat) : Nat := rk_sm L (fun k => if ma (8 * nd + k) = nI v then 1 else 0)
def rx_U (ma : Nat → Int32) (nd L w x : Nat) : Nat := rx_cnt ma nd L (rk_mc w x)
theorem rx_cnt_le (ma : Nat → Int32) (nd v : Nat) : ∀ L, rx_cnt ma nd L v ≤ L
  | 0 => Nat.le_refl 0
  | L + 1 => by
    have := rx_cnt_le ma nd v L
    show rx_cnt ma nd L v + (if ma (8 * nd + L) = nI v then 1 else 0) ≤ L + 1
    split <;> omega
theorem rx_cnt_0 (ma : Nat → Int32) (nd v : Nat) : rx_cnt ma nd 0 v = 0 := rfl
theorem rk_nb {v : Nat} (h : v < 128) : vp_nar .byte (nI v).toInt8.toInt32 = nI v := by
  rw [pk_vb]
  exact lg_i2b_small (by rw [nI_toInt (by omega)]; omega) (by rw [nI_toInt (by omega)]; omega)
theorem rk_ns {v : Nat} (h : v < 32768) : vp_nar .short (nI v).toInt16.toInt32 = nI v := by
  rw [pk_vs]
  exact lg_i2s_small (by rw [nI_toInt (by omega)]; omega) (by rw [nI_toInt (by omega)]; omega)
section
variable {G : rk_G} {R n : Nat} {bg aq nc nm mi mq : Int32} {ls ex co ma an ak ou tw : Nat → Int32}
theorem rx_has {post : Int32 → Prop} (hR : rk_rs G R) {k : Nat} (hk : k < 8) (h0 : rk_k G k = 0 → post 0) (h1 : rk_k G k ≠ 0 → post 1) : wpX_has post ((nI R), (nI n), bg, aq, nc, nm, mi, mq, (rk_a (rk_s G)), (rk_a (rk_f G)), (rk_a (rk_c G)), (rk_a (rk_p G)), (rk_a (rk_r G)), ls, ex, co, ma, an, ak, ou, tw) (nI k) := by
  refine br_f (nI_pos (by omega)) (br_f (nI_ge (b := 8) hk (by decide)) ?_)
  have hs : ((nI k &&& 31).toBitVec.smod 32).toNat = k := by
    have : ∀ k, k < 8 → ((nI k &&& 31).toBitVec.smod 32).toNat = k := by decide
    exact this k hk
  have hR1 := hR.1
  have e : (nI R >>> (nI k &&& 31)) &&& 1 = nI (R / 2 ^ k % 2) := by
    rw [pk_shrN (by omega) _ k hs, pk_andN (Nat.lt_of_le_of_lt (Nat.div_le_self _ _) (by omega)) (m := 1) 1 (by decide)]
  have hb := hR.2 k hk
  refine pk_eq (R / 2 ^ k % 2) 0 (fun q => h0 (hb.mp q)) (fun q => h1 fun z => q (hb.mpr z)) e rfl
theorem rx_used5 {post : Int32 → Prop} {nd L v : Nat} (hnd : nd < 108) (hL : ls nd = nI L) (h8 : L ≤ 8) (h : post (nI (rx_cnt ma nd L v))) :
    ∀ d k, k + d = L → wX_used_5 post (nI nd) (nI v) (nI R) (nI n) bg aq nc nm mi mq (rk_a (rk_s G)) (rk_a (rk_f G)) (rk_a (rk_c G)) (rk_a (rk_p G)) (rk_a (rk_r G)) ls ex co ma an ak ou tw (d + 1) (nI (rx_cnt ma nd k v)) (nI k)
  | 0, k, hk => by
    have e : k = L := by omega
    subst e
    refine ⟨vp_in_nI hnd (by decide), br_t ?_ h⟩
    rw [nI_clamp (by omega), hL]
    exact nI_le (Nat.le_refl _) (by omega)
  | d + 1, k, hk => by
    have ih := rx_used5 (v := v) hnd hL h8 h d (k + 1) (by omega)
    have ec : (nI nd * (8 : Int32) + nI k).toNatClampNeg = 8 * nd + k := pk_cl (8 * nd + k) (rk_8i nd k)
    refine ⟨vp_in_nI hnd (by decide), br_f ?_ ⟨pk_in (8 * nd + k) 864 (by omega) (rk_8i nd k), br_c (fun q => ?_) (fun q => ?_)⟩⟩
    · rw [nI_clamp (by omega), hL]
      exact nI_ge (by omega) (by omega)
    · rw [ec] at q
      have e : rx_cnt ma nd (k + 1) v = rx_cnt ma nd k v + 1 := by
        show rx_cnt ma nd k v + (if ma (8 * nd + k) = nI v then 1 else 0) = _
        rw [if_pos q]
      rw [e] at ih
      exact nm_r (nI_1 _) (nm_r (nI_1 _) ih)
    · rw [ec] at q
      have e : rx_cnt ma nd (k + 1) v = rx_cnt ma nd k v := by
        show rx_cnt ma nd k v + (if ma (8 * nd + k) = nI v then 1 else 0) = _
        rw [if_neg q]; rfl
      rw [e] at ih
      exact nm_r (nI_1 _) ih
theorem rx_used {post : Int32 → Prop} {nd L v : Nat} (hnd : nd < 108) (hL : ls nd = nI L) (h8 : L ≤ 8) (h : post (nI (rx_cnt ma nd L v))) : wpX_used post ((nI R), (nI n), bg, aq, nc, nm, mi, mq, (rk_a (rk_s G)), (rk_a (rk_f G)), (rk_a (rk_c G)), (rk_a (rk_p G)), (rk_a (rk_r G)), ls, ex, co, ma, an, ak, ou, tw) (nI nd) (nI v) :=
  ⟨L + 1, rx_used5 hnd hL h8 h L 0 (by omega)⟩
theorem rx_avail {post : Int32 → SX → Prop} {nd l L : Nat} (hnd : nd < 108) (hl : l < 100) (hL : ls nd = nI L) (h8 : L ≤ 8) (h1 : l < L → post 1 ((nI R), (nI n), bg, aq, nc, nm, (-1), mq, (rk_a (rk_s G)), (rk_a (rk_f G)), (rk_a (rk_c G)), (rk_a (rk_p G)), (rk_a (rk_r G)), ls, ex, co, ma, an, ak, ou, tw))
    (h2 : L ≤ l → ex nd = 0 → post 0 ((nI R), (nI n), bg, aq, nc, nm, (nI nd), (nI l), (rk_a (rk_s G)), (rk_a (rk_f G)), (rk_a (rk_c G)), (rk_a (rk_p G)), (rk_a (rk_r G)), ls, ex, co, ma, an, ak, ou, tw)) (h3 : L ≤ l → ¬ ex nd = 0 → post 0 ((nI R), (nI n), bg, aq, nc, nm, (-1), mq, (rk_a (rk_s G)), (rk_a (rk_f G)), (rk_a (rk_c G)), (rk_a (rk_p G)), (rk_a (rk_r G)), ls, ex, co, ma, an, ak, ou, tw)) : wpX_available post ((nI R), (nI n), bg, aq, nc, nm, (-1), mq, (rk_a (rk_s G)), (rk_a (rk_f G)), (rk_a (rk_c G)), (rk_a (rk_p G)), (rk_a (rk_r G)), ls, ex, co, ma, an, ak, ou, tw) (nI nd) (nI l) := by
  have i1 : vp_in (nI nd) 108 := vp_in_nI hnd (by decide)
  have ec : (nI nd).toNatClampNeg = nd := nI_clamp (by omega)
  refine ⟨i1, pk_le L l (fun q => ⟨i1, br_c (fun z => br_f (by decide) (h2 q ?_)) (fun z => h3 q ?_)⟩) (fun q => h1 q) (by rw [ec]; exact hL) rfl⟩
  · rw [ec] at z; exact z
  · rw [ec] at z; exact z
theorem rx_offer {post : SX → Prop} {q v : Nat} {x2 : Int32} (hq : q ≤ 100000) (hv : v ≤ 100000) (h1 : q ≤ v → post ((nI R), (nI n), bg, aq, (nI q), nm, mi, mq, (rk_a (rk_s G)), (rk_a (rk_f G)), (rk_a (rk_c G)), (rk_a (rk_p G)), (rk_a (rk_r G)), ls, ex, co, ma, an, ak, ou, tw)) (h2 : v < q → post ((nI R), (nI n), bg, aq, (nI v), x2, mi, mq, (rk_a (rk_s G)), (rk_a (rk_f G)), (rk_a (rk_c G)), (rk_a (rk_p G)), (rk_a (rk_r G)), ls, ex, co, ma, an, ak, ou, tw)) {x1 : Int32} (e1 : x1 = nI v) :
    wpX_offer post ((nI R), (nI n), bg, aq, (nI q), nm, mi, mq, (rk_a (rk_s G)), (rk_a (rk_f G)), (rk_a (rk_c G)), (rk_a (rk_p G)), (rk_a (rk_r G)), ls, ex, co, ma, an, ak, ou, tw) x1 x2 := by
  subst e1
  exact pk_le q v h1 h2 rfl rfl
end
/-! the scan over the frontier: seen are all (w', x') ahead of (w, x) -/
def rx_Sc (nl nr : Nat → Nat) (c : Nat → Nat → Nat → Nat) (U : Nat → Nat → Nat) (w x q : Nat) (nm : Int32) : Prop :=
  q ≤ 100000 ∧ (∀ w' x', (w' < w ∨ (w' = w ∧ x' < x)) → rk_Fr nl nr U w' x' → q ≤ c w' x' (U w' x')) ∧ (q < 100000 → ∃ w0 x0, rk_Fr nl nr U w0 x0 ∧ q = c w0 x0 (U w0 x0) ∧ nm = nI (rk_mc w0 x0))
section
variable {nl nr : Nat → Nat} {c : Nat → Nat → Nat → Nat} {U : Nat → Nat → Nat} {w x q : Nat} {nm : Int32}
theorem rx_Sc_0 : rx_Sc nl nr c U 0 0 100000 nm := ⟨Nat.le_refl _, fun w' x' h => absurd h (by omega), fun h => absurd h (by omega)⟩
theorem rx_Sc_skip (h : rx_Sc nl nr c U w x q nm) (hf : ¬ rk_Fr nl nr U w x) : rx_Sc nl nr c U w (x + 1) q nm :=
  ⟨h.1, fun w' x' hs hF => by
    by_cases e : w' = w ∧ x' = x
    · obtain ⟨rfl, rfl⟩ := e; exact absurd hF hf
    · exact h.2.1 w' x' (by omega) hF, h.2.2⟩
theorem rx_Sc_to {w' : Nat} (h : rx_Sc nl nr c U w x q nm) (hw : w ≤ w') (hf : ∀ v x', w ≤ v → v < w' → (v = w → x ≤ x') → ¬ rk_Fr nl nr U v x') (h0 : w = w' → x = 0) : rx_Sc nl nr c U w' 0 q nm :=
  ⟨h.1, fun v x' hs hF => by
    by_cases e : v < w ∨ (v = w ∧ x' < x)
    · exact h.2.1 v x' e hF
    · exact absurd hF (hf v x' (by omega) (by omega) (by omega)), h.2.2⟩
theorem rx_Sc_le (h : rx_Sc nl nr c U w x q nm) (hf : q ≤ c w x (U w x)) : rx_Sc nl nr c U w (x + 1) q nm :=
  ⟨h.1, fun w' x' hs hF => by
    by_cases e : w' = w ∧ x' = x
    · obtain ⟨rfl, rfl⟩ := e; exact hf
    · exact h.2.1 w' x' (by omega) hF, h.2.2⟩
theorem rx_Sc_lt (h : rx_Sc nl nr c U w x q nm) (hF : rk_Fr nl nr U w x) (hf : c w x (U w x) < q) : rx_Sc nl nr c U w (x + 1) (c w x (U w x)) (nI (rk_mc w x)) :=
  ⟨by have := h.1; omega, fun w' x' hs hF' => by
    by_cases e : w' = w ∧ x' = x
    · obtain ⟨rfl, rfl⟩ := e; exact Nat.le_refl _
    · exact Nat.le_trans (Nat.le_of_lt hf) (h.2.1 w' x' (by omega) hF'), fun _ => ⟨w, x, hF, rfl, rfl⟩⟩
end
end
section
/-! the component: a node's state; considerPlace -/
def rx_nd (G : rk_G) (ls ex co ma : Nat → Int32) (i j a L : Nat) : Prop :=
  ls (rk_nd i j a) = nI L ∧ L ≤ rk_mn (rk_N G i j a) ∧ (ex (rk_nd i j a) = 0 ∨ (ex (rk_nd i j a) = 1 ∧ L = rk_mn (rk_N G i j a))) ∧ (∀ k, k < L → co (8 * rk_nd i j a + k) = nI (rk_cs (rk_N G i j a) k))
    ∧ rk_Pk (rk_nl G (rk_N G) i j a) (rk_nr G (rk_N G) j) (rx_U ma (rk_nd i j a) L) = L ∧ rk_So (rk_nl G (rk_N G) i j a) (rk_nr G (rk_N G) j) (rk_cw G (rk_N G) i j) (rx_U ma (rk_nd i j a) L)
def rx_I (G : rk_G) (n : Nat) (ls ex co ma : Nat → Int32) : Prop := ∀ i j a, i < j → j ≤ n → a < 3 → ∃ L, rx_nd G ls ex co ma i j a L
/-- a part that must be asked first -/
def rx_Mi (n : Nat) (ls ex : Nat → Int32) (i j : Nat) (mi mq : Int32) : Prop :=
  ∃ i' j' a' q, i' < j' ∧ j' ≤ n ∧ j' + i < j + i' ∧ a' < 3 ∧ q < 8 ∧ mi = nI (rk_nd i' j' a') ∧ mq = nI q ∧ (∃ L, ls (rk_nd i' j' a') = nI L ∧ L ≤ q) ∧ ex (rk_nd i' j' a') = 0
abbrev rx_sc (G : rk_G) (ma : Nat → Int32) (i j a L w x q : Nat) (nm : Int32) : Prop := rx_Sc (rk_nl G (rk_N G) i j a) (rk_nr G (rk_N G) j) (rk_cw G (rk_N G) i j) (rx_U ma (rk_nd i j a) L) w x q nm
section
variable {G : rk_G} {R n : Nat} {bg aq : Int32} {ls ex co ma an ak ou tw : Nat → Int32} {i j a L : Nat} {post : SX → Prop}
theorem rx_cpExit {x1 x2 x3 x4 x5 x6 nc nm mi mq : Int32} (d : Nat) (hm : 0 ≤ mi ∨ x5 = 0) (h : post ((nI R), (nI n), bg, aq, nc, nm, mi, mq, (rk_a (rk_s G)), (rk_a (rk_f G)), (rk_a (rk_c G)), (rk_a (rk_p G)), (rk_a (rk_r G)), ls, ex, co, ma, an, ak, ou, tw)) : wX_considerPlace_6 post x1 x2 x3 x4 (d + 1) x5 x6 (nI R) (nI n) bg aq nc nm mi mq (rk_a (rk_s G)) (rk_a (rk_f G)) (rk_a (rk_c G)) (rk_a (rk_p G)) (rk_a (rk_r G)) ls ex co ma an ak ou tw :=
  br_c (fun _ => h) fun _ => br_c (fun _ => h) fun z => br_c (fun _ => h) fun z' => absurd hm fun q => by
    rcases q with q | q
    · exact z' q
    · exact z q
theorem rx_cpMiss {x1 x2 x3 x4 x6 x8 nc nm mi mq : Int32} (d : Nat) (hm : 0 ≤ mi) (h : post ((nI R), (nI n), bg, aq, nc, nm, mi, mq, (rk_a (rk_s G)), (rk_a (rk_f G)), (rk_a (rk_c G)), (rk_a (rk_p G)), (rk_a (rk_r G)), ls, ex, co, ma, an, ak, ou, tw)) : wX_considerPlace_117 post (wX_considerPlace_6 post x1 x2 x3 x4 (d + 1)) x1 x2 x3 x4 x6 x8 (nI R) (nI n) bg aq nc nm mi mq (rk_a (rk_s G)) (rk_a (rk_f G)) (rk_a (rk_c G)) (rk_a (rk_p G)) (rk_a (rk_r G)) ls ex co ma an ak ou tw :=
  br_c (fun _ => nm_e (rx_cpExit d (Or.inl hm) h)) fun _ => nm_e (rx_cpExit d (Or.inl hm) h)
theorem rx_place6 (ok : rk_ok G) (hn : n ≤ 5) (hi : i < j) (hj : j ≤ n) (ha : a < 3) (I : rx_I G n ls ex co ma) (hL : ls (rk_nd i j a) = nI L) (hL7 : L ≤ 7)
    {k m : Nat} (hk : k < 8) (hk1 : rk_k G k = 1) (hs : rk_s G k = a) (him : i < m) (hmj : m < j)
    (Km : ∀ nc nm mi mq, rx_Mi n ls ex i j mi mq → 0 ≤ mi → post ((nI R), (nI n), bg, aq, nc, nm, mi, mq, (rk_a (rk_s G)), (rk_a (rk_f G)), (rk_a (rk_c G)), (rk_a (rk_p G)), (rk_a (rk_r G)), ls, ex, co, ma, an, ak, ou, tw))
    (Ko : ∀ q nm mq, rx_sc G ma i j a L (8 * k + m + 1) 0 q nm → post ((nI R), (nI n), bg, aq, (nI q), nm, (-1), mq, (rk_a (rk_s G)), (rk_a (rk_f G)), (rk_a (rk_c G)), (rk_a (rk_p G)), (rk_a (rk_r G)), ls, ex, co, ma, an, ak, ou, tw)) :
    ∀ d x, x + d = 8 → ∀ q nm mq, rx_sc G ma i j a L (8 * k + m) x q nm → (∀ x', x' < x → 0 < rx_U ma (rk_nd i j a) L (8 * k + m) x') →
      wX_considerPlace_6 post (nI (rk_nd i j a)) (nI (k + 8 * m)) (nI (rk_nd i m (rk_f G k))) (nI (rk_nd m j (rk_e G k))) (d + 1) 1 (nI x) (nI R) (nI n) bg aq (nI q) nm (-1) mq (rk_a (rk_s G)) (rk_a (rk_f G)) (rk_a (rk_c G)) (rk_a (rk_p G)) (rk_a (rk_r G)) ls ex co ma an ak ou tw := by
  obtain ⟨o1, o2, o3, o4, o5, o6, o7, o8, o9⟩ := ok k
  have e1 : (8 * k + m) / 8 = k := by omega
  have e2 : (8 * k + m) % 8 = m := by omega
  have hnl : rk_nl G (rk_N G) i j a (8 * k + m) = rk_mn (rk_N G i m (rk_f G k)) := by
    have := rk_nl_1 (G := G) (F := rk_N G) (i := i) (j := j) (a := a) (w := 8 * k + m) (by rw [e1]; exact hs) (by rw [e1]; exact hk1) (by omega) (by omega)
    rw [e1, e2] at this; exact this
  have hnr : rk_nr G (rk_N G) j (8 * k + m) = rk_mn (rk_N G m j (rk_e G k)) := by
    have := rk_nr_1 (G := G) (F := rk_N G) (j := j) (w := 8 * k + m) (by rw [e1]; exact hk1)
    rw [e1, e2] at this; exact this
  have hcw : ∀ x y, rk_cw G (rk_N G) i j (8 * k + m) x y = rk_p G k + rk_cs (rk_N G i m (rk_f G k)) x + rk_cs (rk_N G m j (rk_e G k)) y := fun x y => by
    have := rk_cw_1 (G := G) (F := rk_N G) (i := i) (j := j) (w := 8 * k + m) (x := x) (y := y) (by rw [e1]; exact hk1)
    rw [e1, e2] at this; exact this
  have hmc : ∀ x, rk_mc (8 * k + m) x = k + 8 * m + 64 * x := fun x => by unfold rk_mc; rw [e1, e2]
  have hl8 := rk_mn8 (rk_N G i m (rk_f G k))
  have ln : rk_nd i m (rk_f G k) < 108 := rk_nd_lt him (by omega) (by omega)
  have rn : rk_nd m j (rk_e G k) < 108 := rk_nd_lt hmj (by omega) (by omega)
  have nn : rk_nd i j a < 108 := rk_nd_lt hi (by omega) ha
  obtain ⟨Ll, l1, l2, l3, l4, -⟩ := I i m (rk_f G k) him (by omega) (by omega)
  obtain ⟨Lr, r1, r2, r3, r4, -⟩ := I m j (rk_e G k) hmj hj (by omega)
  have hr8 := rk_mn8 (rk_N G m j (rk_e G k))
  intro d
  induction d with
  | zero =>
    intro x hx q nm mq S hU
    have e : x = 8 := by omega
    subst e
    refine br_t (by decide) (Ko q nm mq (rx_Sc_to S (by omega) (fun v x' h1 h2 h3 F => ?_) (fun z => absurd z (by omega))))
    have ev : v = 8 * k + m := by omega
    subst ev
    have := F.2.1
    have := h3 rfl
    omega
  | succ d ih =>
    intro x hx q nm mq S hU
    have hr : rx_U ma (rk_nd i j a) L (8 * k + m) x ≤ 7 := Nat.le_trans (rx_cnt_le ma (rk_nd i j a) _ L) hL7
    -- behind the tests: on with the next left tree, or the end
    have on : ∀ q nm mq, rx_sc G ma i j a L (8 * k + m) (x + 1) q nm → wX_considerPlace_117 post (wX_considerPlace_6 post (nI (rk_nd i j a)) (nI (k + 8 * m)) (nI (rk_nd i m (rk_f G k))) (nI (rk_nd m j (rk_e G k))) (d + 1)) (nI (rk_nd i j a)) (nI (k + 8 * m)) (nI (rk_nd i m (rk_f G k))) (nI (rk_nd m j (rk_e G k))) (nI x) (nI (rx_U ma (rk_nd i j a) L (8 * k + m) x)) (nI R) (nI n) bg aq (nI q) nm (-1) mq (rk_a (rk_s G)) (rk_a (rk_f G)) (rk_a (rk_c G)) (rk_a (rk_p G)) (rk_a (rk_r G)) ls ex co ma an ak ou tw := by
      intro q nm mq S'
      refine pk_le (rx_U ma (rk_nd i j a) L (8 * k + m) x) 0 (fun z => nm_e (rx_cpExit d (Or.inr rfl) (Ko q nm mq (rx_Sc_to S' (by omega) (fun v x' h1 h2 h3 F => ?_) (fun z => absurd z (by omega)))))) (fun z => nm_r (nI_1 x) (ih (x + 1) (by omega) q nm mq S' fun x' hx' => ?_)) rfl rfl
      · have ev : v = 8 * k + m := by omega
        subst ev
        have := F.2.2.2 x (by have := h3 rfl; omega)
        omega
      · by_cases ex' : x' = x
        · subst ex'; exact z
        · exact hU x' (by omega)
    refine br_f (nI_ge (b := 8) (by omega) (by decide)) (br_f (by decide) (br_f (by decide) (nm_r (e' := nI (rk_mc (8 * k + m) x)) ?_ (rx_used (L := L) nn hL (by omega) (rx_avail (l := x) (L := Ll) ln (by omega) l1 (by omega) (fun z => ?_) (fun z z2 => ?_) (fun z z2 => ?_))))))
    · rw [hmc, show (64 : Int32) = nI 64 from rfl, pk_mul, nI_add]
    · refine br_f (by decide) (br_f (nI_ge (b := 8) (by show rx_U ma (rk_nd i j a) L (8 * k + m) x < 8; omega) (by decide)) (rx_avail (l := rx_U ma (rk_nd i j a) L (8 * k + m) x) (L := Lr) rn (by omega) r1 (by omega) (fun y => ?_) (fun y y2 => ?_) (fun y y2 => ?_)))
      · have F : rk_Fr (rk_nl G (rk_N G) i j a) (rk_nr G (rk_N G) j) (rx_U ma (rk_nd i j a) L) (8 * k + m) x := ⟨by omega, by omega, by omega, hU⟩
        have cb := rk_cw_bd ok hi (by omega) F.2.1 F.2.2.1
        have a7 : nI (k + 8 * m) &&& 7 = nI k := by
          rw [pk_andN (by omega) (m := 7) 3 (by decide)]
          exact congrArg nI (by omega)
        refine br_f (by decide) ⟨pk_in k 8 hk a7, pk_in (8 * rk_nd i m (rk_f G k) + x) 864 (by omega) (rk_8i _ x), pk_in (8 * rk_nd m j (rk_e G k) + rx_U ma (rk_nd i j a) L (8 * k + m) x) 864 (by omega) (rk_8i _ _), nm_r (e' := nI (rk_cw G (rk_N G) i j (8 * k + m) x (rx_U ma (rk_nd i j a) L (8 * k + m) x))) ?_ (rx_offer (q := q) (v := rk_cw G (rk_N G) i j (8 * k + m) x (rx_U ma (rk_nd i j a) L (8 * k + m) x)) S.1 (by omega) (fun c1 => on q nm mq (rx_Sc_le S c1)) (fun c1 => on _ _ mq (rx_Sc_lt S F c1)) rfl)⟩
        show rk_a (rk_p G) (nI (k + 8 * m) &&& 7).toNatClampNeg + co (nI (rk_nd i m (rk_f G k)) * 8 + nI x).toNatClampNeg + co (nI (rk_nd m j (rk_e G k)) * 8 + nI (rx_U ma (rk_nd i j a) L (8 * k + m) x)).toNatClampNeg = _
        rw [a7, rk_at (by omega), pk_cl (8 * rk_nd i m (rk_f G k) + x) (rk_8i _ x), pk_cl (8 * rk_nd m j (rk_e G k) + rx_U ma (rk_nd i j a) L (8 * k + m) x) (rk_8i _ _), l4 x z, r4 _ y, nI_add, nI_add, hcw]
      · exact br_t rfl (rx_cpMiss d (nI_pos' (by omega)) (Km _ _ _ _ ⟨m, j, rk_e G k, _, hmj, hj, by omega, by omega, by omega, rfl, rfl, ⟨Lr, r1, y⟩, y2⟩ (nI_pos' (by omega))))
      · refine br_t rfl (on q nm mq (rx_Sc_skip S fun F => ?_))
        have := F.2.2.1
        rcases r3 with r3 | r3
        · exact y2 r3
        · omega
    · exact br_t rfl (rx_cpMiss d (nI_pos' (by omega)) (Km _ _ _ _ ⟨i, m, rk_f G k, x, him, by omega, by omega, by omega, by omega, rfl, rfl, ⟨Ll, l1, z⟩, z2⟩ (nI_pos' (by omega))))
    · refine br_t rfl (on q nm mq (rx_Sc_skip S fun F => ?_))
      have := F.2.1
      rcases l3 with l3 | l3
      · exact z2 l3
      · omega
end
end
section
/-! the component: consider, goOn -/
theorem rk_dA {i j a : Nat} (hi : i < j) (hj : j ≤ 5) (ha : a < 3) : nI (rk_nd i j a) - nI (rk_nd i j a) / 3 * 3 = nI a := by
  have := rk_nd_lt hi hj ha
  rw [show (3 : Int32) = nI 3 from rfl, pk_rem (by omega) (by decide) (by decide), rk_nd_a ha]
theorem rk_dI {i j a : Nat} (hi : i < j) (hj : j ≤ 5) (ha : a < 3) : nI (rk_nd i j a) / 18 = nI i := by
  have := rk_nd_lt hi hj ha
  rw [show (18 : Int32) = nI 18 from rfl, pk_div (by omega) (by decide) (by decide), rk_nd_i hj ha]
theorem rk_dJ {i j a : Nat} (hi : i < j) (hj : j ≤ 5) (ha : a < 3) : nI (rk_nd i j a) / 3 - nI (rk_nd i j a) / 3 / 6 * 6 = nI j := by
  have := rk_nd_lt hi hj ha
  rw [show (3 : Int32) = nI 3 from rfl, show (6 : Int32) = nI 6 from rfl, pk_div (by omega) (by decide) (by decide), pk_rem (by omega) (by decide) (by decide), rk_nd_j hj ha]
theorem rk_nl8 (G : rk_G) (F : Nat → Nat → Nat → Nat → Nat) (i j a w : Nat) : rk_nl G F i j a w ≤ 8 := by
  unfold rk_nl
  split
  · split
    · split <;> omega
    · split
      · split
        · exact rk_mn8 _
        · omega
      · omega
  · omega
theorem rx_cnt_cg {ma ma' : Nat → Int32} {nd nd' L : Nat} (h : ∀ k, k < L → ma' (8 * nd' + k) = ma (8 * nd + k)) (v : Nat) : rx_cnt ma' nd' L v = rx_cnt ma nd L v :=
  rk_sm_eq L fun k hk => by rw [h k hk]
theorem rx_nd_fr {G : rk_G} {ls ex co ma ls' ex' co' ma' : Nat → Int32} {i j a L : Nat} (h1 : ls' (rk_nd i j a) = ls (rk_nd i j a)) (h2 : ex' (rk_nd i j a) = ex (rk_nd i j a)) (h3 : ∀ k, k < 8 → co' (8 * rk_nd i j a + k) = co (8 * rk_nd i j a + k))
    (h4 : ∀ k, k < 8 → ma' (8 * rk_nd i j a + k) = ma (8 * rk_nd i j a + k)) (h : rx_nd G ls ex co ma i j a L) : rx_nd G ls' ex' co' ma' i j a L := by
  obtain ⟨g1, g2, g3, g4, g5, g6⟩ := h
  have h8 := rk_mn8 (rk_N G i j a)
  have e : rx_U ma' (rk_nd i j a) L = rx_U ma (rk_nd i j a) L := by
    funext w x
    exact rx_cnt_cg (fun k hk => h4 k (by omega)) _
  refine ⟨h1.trans g1, g2, ?_, fun k hk => (h3 k (by omega)).trans (g4 k hk), ?_, ?_⟩
  · rw [h2]; exact g3
  · rw [e]; exact g5
  · rw [e]; exact g6
section
variable {G : rk_G} {n : Nat} {ls ex co ma : Nat → Int32} {i j a L : Nat}
theorem rx_mo (ok : rk_ok G) (hi : i < j) (hj : j ≤ 5) (a : Nat) : rk_Mo (rk_nl G (rk_N G) i j a) (rk_nr G (rk_N G) j) (rk_cw G (rk_N G) i j) :=
  fun w x y x' y' _ hx hy h1 h2 => rk_cw_mono ok hi (by omega) hx hy h1 h2
/-- no more trees -/
theorem rx_I_ex (ok : rk_ok G) (hn : n ≤ 5) (hi : i < j) (hj : j ≤ n) (ha : a < 3) (I : rx_I G n ls ex co ma) (hL : rx_nd G ls ex co ma i j a L)
    (h : ∀ w x, ¬ rk_Fr (rk_nl G (rk_N G) i j a) (rk_nr G (rk_N G) j) (rx_U ma (rk_nd i j a) L) w x) : rx_I G n ls (upd ex (rk_nd i j a) 1) co ma := by
  intro i' j' a' h1 h2 h3
  by_cases e : rk_nd i' j' a' = rk_nd i j a
  · obtain ⟨rfl, rfl, rfl⟩ := rk_nd_inj (by omega) h3 (by omega) ha e
    obtain ⟨g1, g2, g3, g4, g5, g6⟩ := hL
    have q := rk_none (rx_mo ok hi (by omega) a') h 1000
    rw [g5] at q
    have q2 : rk_N G i' j' a' 1000 ≤ L := by
      rw [rk_N_st G hi (by omega)]; exact q
    refine ⟨L, g1, g2, Or.inr ⟨pk_us, ?_⟩, g4, g5, g6⟩
    unfold rk_mn at g2 ⊢
    omega
  · obtain ⟨L', g⟩ := I i' j' a' h1 h2 h3
    exact ⟨L', rx_nd_fr rfl (pk_un e) (fun _ _ => rfl) (fun _ _ => rfl) g⟩
/-- one more tree -/
theorem rx_I_mk (ok : rk_ok G) (hn : n ≤ 5) (hi : i < j) (hj : j ≤ n) (ha : a < 3) (I : rx_I G n ls ex co ma) (hL : rx_nd G ls ex co ma i j a L) (hL7 : L ≤ 7) (hex : ex (rk_nd i j a) = 0) {w0 x0 : Nat}
    (hF : rk_Fr (rk_nl G (rk_N G) i j a) (rk_nr G (rk_N G) j) (rx_U ma (rk_nd i j a) L) w0 x0)
    (h : ∀ w x, rk_Fr (rk_nl G (rk_N G) i j a) (rk_nr G (rk_N G) j) (rx_U ma (rk_nd i j a) L) w x → rk_cw G (rk_N G) i j w0 x0 (rx_U ma (rk_nd i j a) L w0 x0) ≤ rk_cw G (rk_N G) i j w x (rx_U ma (rk_nd i j a) L w x)) :
    rx_I G n (upd ls (rk_nd i j a) (nI (L + 1))) ex (upd co (8 * rk_nd i j a + L) (nI (rk_cw G (rk_N G) i j w0 x0 (rx_U ma (rk_nd i j a) L w0 x0)))) (upd ma (8 * rk_nd i j a + L) (nI (rk_mc w0 x0))) := by
  intro i' j' a' h1 h2 h3
  by_cases e : rk_nd i' j' a' = rk_nd i j a
  · obtain ⟨rfl, rfl, rfl⟩ := rk_nd_inj (by omega) h3 (by omega) ha e
    obtain ⟨g1, g2, g3, g4, g5, g6⟩ := hL
    have hx0 := rk_nl8 G (rk_N G) i' j' a' w0
    have hx1 := hF.2.1
    have hw0 := hF.1
    have stp : ∀ w x, rx_U (upd ma (8 * rk_nd i' j' a' + L) (nI (rk_mc w0 x0))) (rk_nd i' j' a') (L + 1) w x = rx_U ma (rk_nd i' j' a') L w x + if nI (rk_mc w0 x0) = nI (rk_mc w x) then 1 else 0 := by
      intro w x
      show rx_cnt _ _ L _ + (if upd ma (8 * rk_nd i' j' a' + L) (nI (rk_mc w0 x0)) (8 * rk_nd i' j' a' + L) = nI (rk_mc w x) then 1 else 0) = _
      rw [pk_us, rx_cnt_cg (ma := ma) (nd := rk_nd i' j' a') fun k hk => pk_un (by omega)]
      rfl
    have e0 : rx_U (upd ma (8 * rk_nd i' j' a' + L) (nI (rk_mc w0 x0))) (rk_nd i' j' a') (L + 1) w0 x0 = rx_U ma (rk_nd i' j' a') L w0 x0 + 1 := by
      rw [stp, if_pos rfl]
    have e1 : ∀ w x, w < 64 → x < rk_nl G (rk_N G) i' j' a' w → ¬ (w = w0 ∧ x = x0) → rx_U (upd ma (8 * rk_nd i' j' a' + L) (nI (rk_mc w0 x0))) (rk_nd i' j' a') (L + 1) w x = rx_U ma (rk_nd i' j' a') L w x := by
      intro w x hw hx hne
      have hx8 := rk_nl8 G (rk_N G) i' j' a' w
      rw [stp, if_neg]
      · rfl
      · intro z
        rw [nI_eq (by unfold rk_mc; omega) (by unfold rk_mc; omega)] at z
        have := rk_mc_inj hw0 hw z
        exact hne ⟨this.1.symm, this.2.symm⟩
    have cb := rk_cw_bd ok hi (by omega) hF.2.1 hF.2.2.1
    have mo := rx_mo ok hi (by omega : j' ≤ 5) a'
    have nx := rk_nextN (rk_N_good ok a' hi (by omega)) (fun t => rk_N_st G hi (by omega) a' t) mo g6 g5 hF h e0 e1 (by omega) (by omega)
    refine ⟨L + 1, pk_us, nx.1, Or.inl hex, fun k hk => ?_, ?_, rk_nextS mo g6 hF h e0 e1⟩
    · by_cases ek : k = L
      · subst ek
        rw [pk_us, nx.2]
      · rw [pk_un (by omega)]; exact g4 k (by omega)
    · rw [rk_nextP hF e0 e1, g5]
  · obtain ⟨L', g⟩ := I i' j' a' h1 h2 h3
    exact ⟨L', rx_nd_fr (pk_un e) rfl (fun k hk => pk_un (by omega)) (fun k hk => pk_un (by omega)) g⟩
end
section
variable {G : rk_G} {R n : Nat} {bg aq : Int32} {ls ex co ma an ak ou tw : Nat → Int32} {i j a L : Nat} {post : SX → Prop}
theorem rx_cons71 (ok : rk_ok G) (hn : n ≤ 5) (hi : i < j) (hj : j ≤ n) (ha : a < 3) (I : rx_I G n ls ex co ma) (hL : ls (rk_nd i j a) = nI L) (hL7 : L ≤ 7)
    {k : Nat} (hk : k < 8) (hk1 : rk_k G k = 1) (hs : rk_s G k = a)
    (Km : ∀ nc nm mi mq, rx_Mi n ls ex i j mi mq → 0 ≤ mi → post ((nI R), (nI n), bg, aq, nc, nm, mi, mq, (rk_a (rk_s G)), (rk_a (rk_f G)), (rk_a (rk_c G)), (rk_a (rk_p G)), (rk_a (rk_r G)), ls, ex, co, ma, an, ak, ou, tw))
    (Ko : ∀ q nm mq, rx_sc G ma i j a L (8 * k + 8) 0 q nm → post ((nI R), (nI n), bg, aq, (nI q), nm, (-1), mq, (rk_a (rk_s G)), (rk_a (rk_f G)), (rk_a (rk_c G)), (rk_a (rk_p G)), (rk_a (rk_r G)), ls, ex, co, ma, an, ak, ou, tw)) :
    ∀ d m, m + d = j → i < m → ∀ q nm mq, rx_sc G ma i j a L (8 * k + m) 0 q nm → wX_consider_71 post (nI (rk_nd i j a)) (nI k) (nI i) (nI j) (d + 1) (nI m) (nI R) (nI n) bg aq (nI q) nm (-1) mq (rk_a (rk_s G)) (rk_a (rk_f G)) (rk_a (rk_c G)) (rk_a (rk_p G)) (rk_a (rk_r G)) ls ex co ma an ak ou tw := by
  obtain ⟨o1, o2, o3, o4, o5, o6, o7, o8, o9⟩ := ok k
  intro d
  induction d with
  | zero =>
    intro m hm him q nm mq S
    have e : m = j := by omega
    subst e
    refine br_t (nI_le (Nat.le_refl _) (by omega)) (Ko q nm mq (rx_Sc_to S (by omega) (fun v x' h1 h2 h3 F => ?_) (fun z => absurd z (by omega))))
    have p := rk_nl_pos (Nat.lt_of_le_of_lt (Nat.zero_le _) F.2.1)
    have ev : v / 8 = k := by omega
    rw [ev] at p
    omega
  | succ d ih =>
    intro m hm him q nm mq S
    have i8 : vp_in (nI k) 8 := vp_in_nI hk (by decide)
    refine br_f (nI_ge (by omega) (by omega)) (br_f (by decide) ⟨i8, rx_node (i := i) (j := m) (a := rk_f G k) rfl rfl (rk_at (f := rk_f G) (by omega)) ⟨i8, rx_node (i := m) (j := j) (a := rk_e G k) rfl rfl ((rk_at (f := rk_c G) (by omega)).trans (congrArg nI (o9 hk1))) ⟨9, ?_⟩⟩⟩)
    have ew : nI k + (8 : Int32) * nI m = nI (k + 8 * m) := by
      rw [show (8 : Int32) = nI 8 from rfl, pk_mul, nI_add]
    rw [ew]
    refine rx_place6 (G := G) (R := R) (n := n) ok hn hi hj ha I hL hL7 hk hk1 hs him (by omega) (fun nc nm mi mq M h0 => ?_) (fun q nm mq S' => ?_) 8 0 rfl q nm mq S (fun x' hx' => absurd hx' (by omega))
    · exact nm_e (br_c (fun _ => Km nc nm mi mq M h0) fun _ => br_t h0 (Km nc nm mi mq M h0))
    · exact nm_r (nI_1 m) (ih (m + 1) (by omega) (by omega) q nm mq S')
theorem rx_cons (ok : rk_ok G) (hn : n ≤ 5) (hi : i < j) (hj : j ≤ n) (ha : a < 3) (I : rx_I G n ls ex co ma) (hL : ls (rk_nd i j a) = nI L) (hL7 : L ≤ 7)
    {k : Nat} (hk : k < 8) (hk0 : rk_k G k ≠ 0) (hs : rk_s G k = a)
    (Km : ∀ nc nm mi mq, rx_Mi n ls ex i j mi mq → 0 ≤ mi → post ((nI R), (nI n), bg, aq, nc, nm, mi, mq, (rk_a (rk_s G)), (rk_a (rk_f G)), (rk_a (rk_c G)), (rk_a (rk_p G)), (rk_a (rk_r G)), ls, ex, co, ma, an, ak, ou, tw))
    (Ko : ∀ q nm mq, rx_sc G ma i j a L (8 * k + 8) 0 q nm → post ((nI R), (nI n), bg, aq, (nI q), nm, (-1), mq, (rk_a (rk_s G)), (rk_a (rk_f G)), (rk_a (rk_c G)), (rk_a (rk_p G)), (rk_a (rk_r G)), ls, ex, co, ma, an, ak, ou, tw))
    {q : Nat} {nm mq : Int32} (S : rx_sc G ma i j a L (8 * k) 0 q nm) : wpX_consider post ((nI R), (nI n), bg, aq, (nI q), nm, (-1), mq, (rk_a (rk_s G)), (rk_a (rk_f G)), (rk_a (rk_c G)), (rk_a (rk_p G)), (rk_a (rk_r G)), ls, ex, co, ma, an, ak, ou, tw) (nI (rk_nd i j a)) (nI k) (nI i) (nI j) := by
  obtain ⟨o1, o2, o3, o4, o5, o6, o7, o8, o9⟩ := ok k
  have o6' := (ok i).2.2.2.2.2.1
  have i8 : vp_in (nI k) 8 := vp_in_nI hk (by decide)
  have i5 : vp_in (nI i) 5 := vp_in_nI (by omega) (by decide)
  have nn : rk_nd i j a < 108 := rk_nd_lt hi (by omega) ha
  have none : rk_k G k = 2 → ¬ (j = i + 1 ∧ rk_r G i = rk_f G k) → post ((nI R), (nI n), bg, aq, (nI q), nm, (-1), mq, (rk_a (rk_s G)), (rk_a (rk_f G)), (rk_a (rk_c G)), (rk_a (rk_p G)), (rk_a (rk_r G)), ls, ex, co, ma, an, ak, ou, tw) := fun q2 q3 => Ko q nm mq (rx_Sc_to S (by omega) (fun v x' h1 h2 h3 F => by
    have p := rk_nl_pos (Nat.lt_of_le_of_lt (Nat.zero_le _) F.2.1)
    have ev : v / 8 = k := by omega
    rw [ev] at p
    obtain ⟨_, p2 | p2⟩ := p
    · exact q3 ⟨p2.2.2.1, p2.2.2.2⟩
    · omega) (fun z => absurd z (by omega)))
  refine ⟨i8, pk_eq (rk_c G k) 3 (fun q3 => ?_) (fun q3 => ?_) (rk_at (f := rk_c G) (by omega)) rfl⟩
  · have q2 : rk_k G k = 2 := by
      by_cases z : rk_k G k = 1
      · have := o9 z; omega
      · omega
    refine pk_eq j (i + 1) (fun q4 => ⟨i5, i8, pk_eq (rk_r G i) (rk_f G k) (fun q5 => ?_) (fun q5 => br_t rfl (none q2 fun z => q5 z.2)) (rk_at (f := rk_r G) (by omega)) (rk_at (f := rk_f G) (by omega))⟩) (fun q4 => br_t rfl (none q2 fun z => q4 z.1)) rfl (nI_1 i)
    have e1 : (8 * k) / 8 = k := by omega
    have e2 : (8 * k) % 8 = 0 := by omega
    have hmc : rk_mc (8 * k) 0 = k := by unfold rk_mc; omega
    have hnl : rk_nl G (rk_N G) i j a (8 * k) = 1 := rk_nl_2 (by rw [e1]; exact hs) (by rw [e1]; exact q2) e2 q4 (by rw [e1]; exact q5)
    have hnr : rk_nr G (rk_N G) j (8 * k) = 1 := rk_nr_2 (by rw [e1]; omega)
    have hcw : ∀ x y, rk_cw G (rk_N G) i j (8 * k) x y = rk_p G k := fun x y => by
      have := rk_cw_2 (G := G) (F := rk_N G) (i := i) (j := j) (w := 8 * k) (x := x) (y := y) (by rw [e1]; omega)
      rw [e1] at this; exact this
    have to8 : ∀ q nm, rx_sc G ma i j a L (8 * k) 1 q nm → rx_sc G ma i j a L (8 * k + 8) 0 q nm := fun q nm S' => rx_Sc_to S' (by omega) (fun v x' h1 h2 h3 F => by
      have p := rk_nl_pos (Nat.lt_of_le_of_lt (Nat.zero_le _) F.2.1)
      have ev : v / 8 = k := by omega
      rw [ev] at p
      obtain ⟨_, p2 | p2⟩ := p
      · have : v = 8 * k := by omega
        subst this
        have := F.2.1
        have := h3 rfl
        omega
      · omega) (fun z => absurd z (by omega))
    have hU : rx_cnt ma (rk_nd i j a) L k = rx_U ma (rk_nd i j a) L (8 * k) 0 := by unfold rx_U; rw [hmc]
    have hc := rx_cnt_le ma (rk_nd i j a) k L
    refine br_f (by decide) (rx_used (L := L) (v := k) nn hL (by omega) (pk_eq (rx_cnt ma (rk_nd i j a) L k) 0 (fun u0 => ⟨i8, ?_⟩) (fun u0 => ?_) rfl rfl))
    · have F : rk_Fr (rk_nl G (rk_N G) i j a) (rk_nr G (rk_N G) j) (rx_U ma (rk_nd i j a) L) (8 * k) 0 := ⟨by omega, by omega, by omega, fun x' hx' => absurd hx' (by omega)⟩
      refine rx_offer (q := q) (v := rk_p G k) S.1 (by omega) (fun c1 => Ko q nm mq (to8 q nm (rx_Sc_le S (by rw [hcw]; exact c1)))) (fun c1 => ?_) (rk_at (f := rk_p G) (by omega))
      have := rx_Sc_lt S F (by rw [hcw]; exact c1)
      rw [hcw, hmc] at this
      exact Ko _ _ mq (to8 _ _ this)
    · exact Ko q nm mq (to8 q nm (rx_Sc_skip S fun F => by have := F.2.2.1; omega))
  · have q1 : rk_k G k = 1 := by
      by_cases z : rk_k G k = 2
      · exact absurd (o8 z) q3
      · omega
    refine nm_r (nI_1 i) ⟨j - (i + 1) + 1, rx_cons71 ok hn hi hj ha I hL hL7 hk q1 hs Km Ko (j - (i + 1)) (i + 1) (by omega) (by omega) q nm mq (rx_Sc_to S (by omega) (fun v x' h1 h2 h3 F => ?_) (fun z => absurd z (by omega)))⟩
    have p := rk_nl_pos (Nat.lt_of_le_of_lt (Nat.zero_le _) F.2.1)
    have ev : v / 8 = k := by omega
    rw [ev] at p
    omega
end
end
section
/-! the component: goOn -/
section
variable {G : rk_G} {R n : Nat} {bg : Int32} {ls ex co ma an ak ou tw : Nat → Int32} {i j a L s : Nat} {post : SX → Prop}
theorem rx_ask {nd q : Nat} {nc nm mi mq : Int32} (hs : s < 8) (hnd : nd < 108) (hq : q < 8) (h : post ((nI R), (nI n), bg, (nI (s + 1)), nc, nm, mi, mq, (rk_a (rk_s G)), (rk_a (rk_f G)), (rk_a (rk_c G)), (rk_a (rk_p G)), (rk_a (rk_r G)), ls, ex, co, ma, (upd an s (nI nd)), (upd ak s (nI q)), ou, tw)) : wpX_ask post ((nI R), (nI n), bg, (nI s), nc, nm, mi, mq, (rk_a (rk_s G)), (rk_a (rk_f G)), (rk_a (rk_c G)), (rk_a (rk_p G)), (rk_a (rk_r G)), ls, ex, co, ma, an, ak, ou, tw) (nI nd) (nI q) := by
  have i8 : vp_in (nI s) 8 := vp_in_nI hs (by decide)
  refine br_f (nI_ge (b := 8) hs (by decide)) ⟨i8, nm_r (e' := upd an s (nI nd)) ?_ ⟨i8, nm_r (e' := upd ak s (nI q)) ?_ (nm_r (nI_1 s) h)⟩⟩
  · rw [nI_clamp (by omega), rk_nb (by omega)]
  · rw [nI_clamp (by omega), rk_nb (by omega)]
theorem rx_81m (hn : n ≤ 5) (hs : s < 8)
    (Ka : ∀ nc nm mi mq i' j' a' q L', i' < j' → j' ≤ n → j' + i < j + i' → a' < 3 → q < 8 → ls (rk_nd i' j' a') = nI L' → L' ≤ q → ex (rk_nd i' j' a') = 0 → post ((nI R), (nI n), bg, (nI (s + 1)), nc, nm, mi, mq, (rk_a (rk_s G)), (rk_a (rk_f G)), (rk_a (rk_c G)), (rk_a (rk_p G)), (rk_a (rk_r G)), ls, ex, co, ma, (upd an s (nI (rk_nd i' j' a'))), (upd ak s (nI q)), ou, tw))
    {nc nm mi mq x1 : Int32} (M : rx_Mi n ls ex i j mi mq) : wX_goOn_81 post x1 (nI R) (nI n) bg (nI s) nc nm mi mq (rk_a (rk_s G)) (rk_a (rk_f G)) (rk_a (rk_c G)) (rk_a (rk_p G)) (rk_a (rk_r G)) ls ex co ma an ak ou tw := by
  obtain ⟨i', j', a', q, m1, m2, m3, m4, m5, rfl, rfl, ⟨L', m6, m7⟩, m8⟩ := M
  have := rk_nd_lt m1 (by omega : j' ≤ 5) m4
  exact br_f (nI_pos (by omega)) (rx_ask hs this m5 (Ka _ _ _ _ i' j' a' q L' m1 m2 m3 m4 m5 m6 m7 m8))
theorem rx_81o (ok : rk_ok G) (hn : n ≤ 5) (hi : i < j) (hj : j ≤ n) (ha : a < 3) (I : rx_I G n ls ex co ma) (hL : rx_nd G ls ex co ma i j a L) (hL7 : L ≤ 7) (hex : ex (rk_nd i j a) = 0)
    (Ke : ∀ nc nm mi mq ls' ex' co' ma', rx_I G n ls' ex' co' ma' → (∀ c, c ≠ rk_nd i j a → ls' c = ls c ∧ ex' c = ex c) → ((ls' (rk_nd i j a) = nI (L + 1) ∧ ex' (rk_nd i j a) = 0) ∨ (ls' (rk_nd i j a) = nI L ∧ ex' (rk_nd i j a) = 1)) → post ((nI R), (nI n), bg, (nI s), nc, nm, mi, mq, (rk_a (rk_s G)), (rk_a (rk_f G)), (rk_a (rk_c G)), (rk_a (rk_p G)), (rk_a (rk_r G)), ls', ex', co', ma', an, ak, ou, tw))
    {q : Nat} {nm mq : Int32} (S : rx_sc G ma i j a L 64 0 q nm) : wX_goOn_81 post (nI (rk_nd i j a)) (nI R) (nI n) bg (nI s) (nI q) nm (-1) mq (rk_a (rk_s G)) (rk_a (rk_f G)) (rk_a (rk_c G)) (rk_a (rk_p G)) (rk_a (rk_r G)) ls ex co ma an ak ou tw := by
  have nn : rk_nd i j a < 108 := rk_nd_lt hi (by omega) ha
  have i1 : vp_in (nI (rk_nd i j a)) 108 := vp_in_nI nn (by decide)
  have ec : (nI (rk_nd i j a)).toNatClampNeg = rk_nd i j a := nI_clamp (by omega)
  have hq := S.1
  refine br_t (by decide) (pk_eq q 100000 (fun e => ⟨i1, nm_r (e' := upd ex (rk_nd i j a) 1) (by rw [ec]; rfl) ?_⟩) (fun e => ⟨i1, pk_eq L 8 (fun e8 => absurd e8 (by omega)) (fun _ => ⟨i1, nm_r (e' := nI (8 * rk_nd i j a + L)) ?_ ?_⟩) (by rw [ec]; exact hL.1) rfl⟩) rfl rfl)
  · refine Ke _ _ _ _ _ _ _ _ (rx_I_ex ok hn hi hj ha I hL fun w x F => ?_) (fun c hc => ⟨rfl, pk_un hc⟩) (Or.inr ⟨hL.1, pk_us⟩)
    have b := S.2.1 w x (Or.inl F.1) F
    have cb := rk_cw_bd ok hi (by omega) F.2.1 F.2.2.1
    omega
  · rw [ec, hL.1, rk_8i]
  · obtain ⟨w0, x0, F, eq, rfl⟩ := S.2.2 (by omega)
    have hw0 := F.1
    have hx0 := rk_nl8 G (rk_N G) i j a w0
    have hx1 := F.2.1
    have i2 : vp_in (nI (8 * rk_nd i j a + L)) 864 := vp_in_nI (by omega) (by decide)
    have ec2 : (nI (8 * rk_nd i j a + L)).toNatClampNeg = 8 * rk_nd i j a + L := nI_clamp (by omega)
    refine ⟨i2, nm_r (e' := upd co (8 * rk_nd i j a + L) (nI q)) (by rw [ec2]) ⟨i2, nm_r (e' := upd ma (8 * rk_nd i j a + L) (nI (rk_mc w0 x0))) (by rw [ec2, rk_ns (by unfold rk_mc; omega)]) ⟨i1, i1, nm_r (e' := upd ls (rk_nd i j a) (nI (L + 1))) (by rw [ec, hL.1, nI_1, rk_nb (by omega)]) ?_⟩⟩⟩
    subst eq
    exact Ke _ _ _ _ _ _ _ _ (rx_I_mk ok hn hi hj ha I hL hL7 hex F fun w x F' => S.2.1 w x (Or.inl F'.1) F') (fun c hc => ⟨pk_un hc, rfl⟩) (Or.inl ⟨pk_us, hex⟩)
theorem rx_go31 (ok : rk_ok G) (hR : rk_rs G R) (hn : n ≤ 5) (hi : i < j) (hj : j ≤ n) (ha : a < 3) (I : rx_I G n ls ex co ma) (hL : rx_nd G ls ex co ma i j a L) (hL7 : L ≤ 7) (hex : ex (rk_nd i j a) = 0) (hs : s < 8)
    (Ka : ∀ nc nm mi mq i' j' a' q L', i' < j' → j' ≤ n → j' + i < j + i' → a' < 3 → q < 8 → ls (rk_nd i' j' a') = nI L' → L' ≤ q → ex (rk_nd i' j' a') = 0 → post ((nI R), (nI n), bg, (nI (s + 1)), nc, nm, mi, mq, (rk_a (rk_s G)), (rk_a (rk_f G)), (rk_a (rk_c G)), (rk_a (rk_p G)), (rk_a (rk_r G)), ls, ex, co, ma, (upd an s (nI (rk_nd i' j' a'))), (upd ak s (nI q)), ou, tw))
    (Ke : ∀ nc nm mi mq ls' ex' co' ma', rx_I G n ls' ex' co' ma' → (∀ c, c ≠ rk_nd i j a → ls' c = ls c ∧ ex' c = ex c) → ((ls' (rk_nd i j a) = nI (L + 1) ∧ ex' (rk_nd i j a) = 0) ∨ (ls' (rk_nd i j a) = nI L ∧ ex' (rk_nd i j a) = 1)) → post ((nI R), (nI n), bg, (nI s), nc, nm, mi, mq, (rk_a (rk_s G)), (rk_a (rk_f G)), (rk_a (rk_c G)), (rk_a (rk_p G)), (rk_a (rk_r G)), ls', ex', co', ma', an, ak, ou, tw)) :
    ∀ d k, k + d = 8 → ∀ q nm mq, rx_sc G ma i j a L (8 * k) 0 q nm → wX_goOn_31 post (nI (rk_nd i j a)) (nI a) (nI i) (nI j) (d + 1) (nI k) (nI R) (nI n) bg (nI s) (nI q) nm (-1) mq (rk_a (rk_s G)) (rk_a (rk_f G)) (rk_a (rk_c G)) (rk_a (rk_p G)) (rk_a (rk_r G)) ls ex co ma an ak ou tw := by
  intro d
  induction d with
  | zero =>
    intro k hk q nm mq S
    have e : k = 8 := by omega
    subst e
    exact br_t (by decide) (rx_81o ok hn hi hj ha I hL hL7 hex Ke S)
  | succ d ih =>
    intro k hk q nm mq S
    have o2 := (ok k).2.1
    have skip : ¬ (rk_k G k ≠ 0 ∧ rk_s G k = a) → rx_sc G ma i j a L (8 * (k + 1)) 0 q nm := fun hne => rx_Sc_to S (by omega) (fun v x' h1 h2 h3 F => by
      have p := rk_nl_pos (Nat.lt_of_le_of_lt (Nat.zero_le _) F.2.1)
      have ev : v / 8 = k := by omega
      rw [ev] at p
      exact hne ⟨by omega, p.1⟩) (fun z => absurd z (by omega))
    refine br_f (nI_ge (b := 8) (by omega) (by decide)) (br_f (by decide) (rx_has hR (by omega) (fun k0 => br_t rfl (nm_r (nI_1 k) (ih (k + 1) (by omega) q nm mq (skip fun z => z.1 k0)))) (fun k0 => br_f (by decide) ⟨vp_in_nI (by omega) (by decide), pk_eq (rk_s G k) a (fun es => ?_) (fun es => nm_r (nI_1 k) (ih (k + 1) (by omega) q nm mq (skip fun z => es z.2))) (rk_at (f := rk_s G) (by omega)) rfl⟩)))
    refine rx_cons (G := G) (R := R) (n := n) ok hn hi hj ha I hL.1 hL7 (by omega) k0 es (fun nc nm mi mq M h0 => nm_e ?_) (fun q nm mq S' => nm_r (nI_1 k) (ih (k + 1) (by omega) q nm mq S')) S
    exact br_c (fun _ => rx_81m hn hs Ka M) fun _ => br_t h0 (rx_81m hn hs Ka M)
theorem rx_goOn (ok : rk_ok G) (hR : rk_rs G R) (hn : n ≤ 5) (hi : i < j) (hj : j ≤ n) (ha : a < 3) (I : rx_I G n ls ex co ma) (hL : rx_nd G ls ex co ma i j a L) (hL7 : L ≤ 7) (hex : ex (rk_nd i j a) = 0) (hs : s < 8)
    (Ka : ∀ nc nm mi mq i' j' a' q L', i' < j' → j' ≤ n → j' + i < j + i' → a' < 3 → q < 8 → ls (rk_nd i' j' a') = nI L' → L' ≤ q → ex (rk_nd i' j' a') = 0 → post ((nI R), (nI n), bg, (nI (s + 1)), nc, nm, mi, mq, (rk_a (rk_s G)), (rk_a (rk_f G)), (rk_a (rk_c G)), (rk_a (rk_p G)), (rk_a (rk_r G)), ls, ex, co, ma, (upd an s (nI (rk_nd i' j' a'))), (upd ak s (nI q)), ou, tw))
    (Ke : ∀ nc nm mi mq ls' ex' co' ma', rx_I G n ls' ex' co' ma' → (∀ c, c ≠ rk_nd i j a → ls' c = ls c ∧ ex' c = ex c) → ((ls' (rk_nd i j a) = nI (L + 1) ∧ ex' (rk_nd i j a) = 0) ∨ (ls' (rk_nd i j a) = nI L ∧ ex' (rk_nd i j a) = 1)) → post ((nI R), (nI n), bg, (nI s), nc, nm, mi, mq, (rk_a (rk_s G)), (rk_a (rk_f G)), (rk_a (rk_c G)), (rk_a (rk_p G)), (rk_a (rk_r G)), ls', ex', co', ma', an, ak, ou, tw))
    {nc nm mi mq : Int32} : wpX_goOn post ((nI R), (nI n), bg, (nI s), nc, nm, mi, mq, (rk_a (rk_s G)), (rk_a (rk_f G)), (rk_a (rk_c G)), (rk_a (rk_p G)), (rk_a (rk_r G)), ls, ex, co, ma, an, ak, ou, tw) (nI (rk_nd i j a)) := by
  refine ⟨by decide, nm_r (rk_dA hi (by omega) ha) ⟨by decide, nm_r (rk_dI hi (by omega) ha) ⟨by decide, by decide, nm_r (rk_dJ hi (by omega) ha) ⟨9, ?_⟩⟩⟩⟩
  exact rx_go31 ok hR hn hi hj ha I hL hL7 hex hs Ka Ke 8 0 rfl 100000 nm mq rx_Sc_0
end
end
section
/-! the component: begin, reach -/
def rx_E (ls ex : Nat → Int32) : Nat := rk_sm 108 (fun c => if c / 18 < c / 3 % 6 then 9 - (ls c).toNatClampNeg - (ex c).toNatClampNeg else 0)
theorem rx_E_405 (ls ex : Nat → Int32) : rx_E ls ex ≤ 405 := by
  have h : rk_sm 108 (fun c => if c / 18 < c / 3 % 6 then 9 else 0) = 405 := by decide +kernel
  rw [← h]
  refine rk_sm_le 108 fun c _ => ?_
  by_cases q : c / 18 < c / 3 % 6
  · rw [if_pos q, if_pos q]; omega
  · rw [if_neg q, if_neg q]; exact Nat.le_refl 0
theorem rx_E_ev {ls ex ls' ex' : Nat → Int32} {i j a L : Nat} (hi : i < j) (hj : j ≤ 5) (ha : a < 3) (hL : ls (rk_nd i j a) = nI L) (hL7 : L ≤ 7) (hex : ex (rk_nd i j a) = 0)
    (fr : ∀ c, c ≠ rk_nd i j a → ls' c = ls c ∧ ex' c = ex c) (ev : (ls' (rk_nd i j a) = nI (L + 1) ∧ ex' (rk_nd i j a) = 0) ∨ (ls' (rk_nd i j a) = nI L ∧ ex' (rk_nd i j a) = 1)) : rx_E ls ex = rx_E ls' ex' + 1 := by
  have z0 : (0 : Int32).toNatClampNeg = 0 := by decide
  have z1 : (1 : Int32).toNatClampNeg = 1 := by decide
  refine rk_sm_upd (i0 := rk_nd i j a) ?_ 108 (rk_nd_lt hi hj ha) fun c _ hc => ?_
  · have q : rk_nd i j a / 18 < rk_nd i j a / 3 % 6 := by rw [rk_nd_i hj ha, rk_nd_j hj ha]; exact hi
    rw [if_pos q, if_pos q, hL, hex, nI_clamp (by omega), z0]
    rcases ev with ⟨e1, e2⟩ | ⟨e1, e2⟩
    · rw [e1, e2, nI_clamp (by omega), z0]; omega
    · rw [e1, e2, nI_clamp (by omega), z1]; omega
  · rw [(fr c hc).1, (fr c hc).2]
abbrev rx_En : Type := Nat × Nat × Nat × Nat
abbrev rx_en (e : rx_En) : Nat := rk_nd e.1 e.2.1 e.2.2.1
def rx_Op (ls ex : Nat → Int32) (e : rx_En) : Prop := (∃ L, ls (rx_en e) = nI L ∧ L ≤ e.2.2.2) ∧ ex (rx_en e) = 0
def rx_Ok1 (n : Nat) (e : rx_En) : Prop := e.1 < e.2.1 ∧ e.2.1 ≤ n ∧ e.2.2.1 < 3 ∧ e.2.2.2 < 8
def rx_St (n : Nat) (root : rx_En) (ls ex an ak : Nat → Int32) : List rx_En → Prop
  | [] => True
  | e :: st => rx_Ok1 n e ∧ an st.length = nI (rx_en e) ∧ ak st.length = nI e.2.2.2 ∧ st.length + e.2.1 ≤ 5 + e.1 ∧ (st = [] → e = root) ∧ (∀ e' ∈ st, rx_Op ls ex e' ∧ e.2.1 + e'.1 < e'.2.1 + e.1) ∧ rx_St n root ls ex an ak st
theorem rx_St_upd {n : Nat} {root : rx_En} {ls ex an ak : Nat → Int32} {s : Nat} {x y : Int32} : ∀ st : List rx_En, st.length ≤ s → rx_St n root ls ex an ak st → rx_St n root ls ex (upd an s x) (upd ak s y) st
  | [], _, _ => trivial
  | e :: st, hs, ⟨h1, h2, h3, h4, h5, h6, h7⟩ => by
    have hl : st.length + 1 ≤ s := hs
    exact ⟨h1, (pk_un (by omega)).trans h2, (pk_un (by omega)).trans h3, h4, h5, h6, rx_St_upd st (by omega) h7⟩
theorem rx_St_cg {n : Nat} {root : rx_En} {ls ex ls' ex' an ak : Nat → Int32} : ∀ st : List rx_En, (∀ e ∈ st, rx_Op ls ex e → rx_Op ls' ex' e) → rx_St n root ls ex an ak st → rx_St n root ls' ex' an ak st
  | [], _, _ => trivial
  | e :: st, h, ⟨h1, h2, h3, h4, h5, h6, h7⟩ =>
    ⟨h1, h2, h3, h4, h5, fun e' m => ⟨h e' (List.mem_cons_of_mem e m) (h6 e' m).1, (h6 e' m).2⟩, rx_St_cg st (fun e' m => h e' (List.mem_cons_of_mem e m)) h7⟩
theorem rx_St_mem {n : Nat} {root : rx_En} {ls ex an ak : Nat → Int32} : ∀ st : List rx_En, rx_St n root ls ex an ak st → ∀ e ∈ st, rx_Ok1 n e
  | [], _, e, m => absurd m (List.not_mem_nil)
  | e0 :: st, ⟨h1, h2, h3, h4, h5, h6, h7⟩, e, m => by
    rcases List.mem_cons.mp m with rfl | m
    · exact h1
    · exact rx_St_mem st h7 e m
section
variable {G : rk_G} {R n : Nat} {bg : Int32} {ou tw : Nat → Int32} {post : Int32 → SX → Prop}
theorem rx_reach17 (ok : rk_ok G) (hR : rk_rs G R) (hn : n ≤ 5) {root : rx_En} {x1 x2 : Int32}
    (K : ∀ aq nc nm mi mq ls ex co ma an ak, rx_I G n ls ex co ma → ¬ rx_Op ls ex root → wX_reach_100 post x1 x2 (nI R) (nI n) bg aq nc nm mi mq (rk_a (rk_s G)) (rk_a (rk_f G)) (rk_a (rk_c G)) (rk_a (rk_p G)) (rk_a (rk_r G)) ls ex co ma an ak ou tw) :
    ∀ v e st x nc nm mi mq ls ex co ma an ak, rx_I G n ls ex co ma → rx_St n root ls ex an ak (e :: st) → ((rx_Op ls ex e ∧ 3 * rx_E ls ex + 10 ≤ v + st.length) ∨ 3 * rx_E ls ex + 12 ≤ v + st.length) → x + v < 2040 →
      wX_reach_17 post x1 x2 (v + 1) (nI x) (nI R) (nI n) bg (nI (st.length + 1)) nc nm mi mq (rk_a (rk_s G)) (rk_a (rk_f G)) (rk_a (rk_c G)) (rk_a (rk_p G)) (rk_a (rk_r G)) ls ex co ma an ak ou tw := by
  intro v
  induction v with
  | zero =>
    intro e st x nc nm mi mq ls ex co ma an ak I S hm hx
    obtain ⟨h1, h2, h3, h4, h5, h6, h7⟩ := S
    have := h1.1
    omega
  | succ v ih =>
    intro e st x nc nm mi mq ls ex co ma an ak I S hm hx
    obtain ⟨h1, h2, h3, h4, h5, h6, h7⟩ := S
    obtain ⟨i, j, a, q⟩ := e
    obtain ⟨hi, hj, ha, hq⟩ := h1
    dsimp only at hi hj ha hq h4 h6
    have nn : rk_nd i j a < 108 := rk_nd_lt hi (by omega) ha
    have i1 : vp_in (nI (rk_nd i j a)) 108 := vp_in_nI nn (by decide)
    have ec : (nI (rk_nd i j a)).toNatClampNeg = rk_nd i j a := nI_clamp (by omega)
    have is : vp_in (nI (st.length + 1) - 1) 8 := pk_in st.length 8 (by omega) (nI_pred _)
    have es : (nI (st.length + 1) - 1).toNatClampNeg = st.length := pk_cl st.length (nI_pred _)
    obtain ⟨L, N⟩ := I i j a hi hj ha
    have hL := N.1
    have h8 := rk_mn8 (rk_N G i j a)
    have hLm := N.2.1
    -- the top is answered: off with it
    have pop : ¬ rx_Op ls ex (i, j, a, q) → wX_reach_75 post (wX_reach_17 post x1 x2 (v + 1)) x1 x2 (nI x) (nI R) (nI n) bg (nI (st.length + 1)) nc nm mi mq (rk_a (rk_s G)) (rk_a (rk_f G)) (rk_a (rk_c G)) (rk_a (rk_p G)) (rk_a (rk_r G)) ls ex co ma an ak ou tw := by
      intro hno
      have hm' : 3 * rx_E ls ex + 12 ≤ v + 1 + st.length := by
        rcases hm with hm | hm
        · exact absurd hm.1 hno
        · exact hm
      cases st with
      | nil =>
        have er := h5 rfl
        refine nm_r (e' := nI 0) (nI_pred 0) (nm_r (nI_1 x) ?_)
        have k := fun aq => K aq nc nm mi mq ls ex co ma an ak I (er ▸ hno)
        exact br_c (fun _ => k _) fun _ => br_t (by decide) (k _)
      | cons e' st' =>
        refine nm_r (e' := nI (st'.length + 1)) (nI_pred _) (nm_r (nI_1 x) (ih e' st' (x + 1) nc nm mi mq ls ex co ma an ak I h7 (Or.inl ⟨(h6 e' (List.mem_cons_self)).1, ?_⟩) (by omega)))
        have : (e' :: st').length = st'.length + 1 := rfl
        omega
    refine br_f (nI_ge (b := 2048) (by omega) (by decide)) (br_f (nI_nle (by omega) (by omega)) ⟨is, nm_r (e' := nI (rk_nd i j a)) (by rw [es]; exact h2) ⟨i1, is, pk_lt q L (fun d => pop fun o => ?_) (fun d => ⟨i1, br_c (fun z => ?_) (fun z => pop fun o => ?_)⟩) (by rw [es]; exact h3) (by rw [ec]; exact hL)⟩⟩)
    · obtain ⟨⟨L', e1, e2⟩, _⟩ := o
      dsimp only at e1 e2
      rw [hL, nI_eq (by omega) (by omega)] at e1
      omega
    · rw [ec] at z
      have op : rx_Op ls ex (i, j, a, q) := ⟨⟨L, hL, d⟩, z⟩
      have hm' : 3 * rx_E ls ex + 10 ≤ v + 1 + st.length := by
        rcases hm with hm | hm
        · exact hm.2
        · omega
      refine rx_goOn (G := G) (R := R) (n := n) (s := st.length + 1) ok hR hn hi hj ha I N (by omega) z (by omega) (fun nc nm mi mq i' j' a' q' L' m1 m2 m3 m4 m5 m6 m7 m8 => nm_r (nI_1 x) ?_) (fun nc nm mi mq ls' ex' co' ma' I' fr ev => nm_r (nI_1 x) ?_)
      · refine ih (i', j', a', q') ((i, j, a, q) :: st) (x + 1) nc nm mi mq ls ex co ma _ _ I ⟨⟨m1, m2, m4, m5⟩, pk_us, pk_us, ?_, fun z => absurd z (List.cons_ne_nil _ _), fun e' me => ?_, rx_St_upd _ (Nat.le_refl _) ⟨⟨hi, hj, ha, hq⟩, h2, h3, h4, h5, h6, h7⟩⟩ (Or.inl ⟨⟨⟨L', m6, m7⟩, m8⟩, ?_⟩) (by omega)
        · show st.length + 1 + j' ≤ 5 + i'
          omega
        · rcases List.mem_cons.mp me with rfl | me
          · exact ⟨op, m3⟩
          · have := h6 e' me
            refine ⟨this.1, ?_⟩
            show j' + e'.1 < e'.2.1 + i'
            have := this.2
            omega
        · show _ ≤ v + (st.length + 1)
          omega
      · have eE := rx_E_ev hi (by omega) ha hL (by omega) z fr ev
        have ne : ∀ e' ∈ st, rx_en e' ≠ rk_nd i j a := fun e' me zz => by
          have o1 := rx_St_mem st h7 e' me
          have := rk_nd_inj (Nat.le_trans o1.2.1 hn) o1.2.2.1 (by omega) ha zz
          have := (h6 e' me).2
          omega
        have up : ∀ e' ∈ st, rx_Op ls ex e' → rx_Op ls' ex' e' := fun e' me o => by
          have f := fr _ (ne e' me)
          obtain ⟨⟨L', p1, p2⟩, p3⟩ := o
          exact ⟨⟨L', f.1.trans p1, p2⟩, f.2.trans p3⟩
        exact ih (i, j, a, q) st (x + 1) nc nm mi mq ls' ex' co' ma' an ak I' ⟨⟨hi, hj, ha, hq⟩, h2, h3, h4, h5, fun e' me => ⟨up e' me (h6 e' me).1, (h6 e' me).2⟩, rx_St_cg st up h7⟩ (Or.inr (by omega)) (by omega)
    · rw [ec] at z
      exact z o.2
end
theorem rx_I0 {G : rk_G} {n : Nat} {ls ex co ma : Nat → Int32} (hn : n ≤ 5) (h : ∀ c, c < 108 → ls c = 0 ∧ ex c = 0) : rx_I G n ls ex co ma := by
  intro i j a hi hj ha
  have q := h _ (rk_nd_lt hi (by omega : j ≤ 5) ha)
  refine ⟨0, q.1, Nat.zero_le _, Or.inl q.2, fun k hk => absurd hk (by omega), ?_, ?_⟩
  · refine rk_sm_z 64 fun w _ => rk_sm_z _ fun x _ => rk_sm_z _ fun y _ => if_neg (Nat.not_lt_zero y)
  · intro w x y w' x' y' _ _ _ hu
    exact absurd hu (Nat.not_lt_zero y)
def rx_C (G : rk_G) (n : Nat) (z : rx_Z) : Prop := z.1 = 0 ∨ (z.1 = 1 ∧ rx_I G n z.2.2.2.2.2.2.1 z.2.2.2.2.2.2.2.1 z.2.2.2.2.2.2.2.2.1 z.2.2.2.2.2.2.2.2.2.1)
section
variable {G : rk_G} {R n : Nat} {aq nc nm mi mq : Int32} {co ma an ak ou tw : Nat → Int32}
theorem rx_begin15 {post : SX → Prop} (hn : n ≤ 5) (K : ∀ ls ex, rx_I G n ls ex co ma → post ((nI R), (nI n), 1, aq, nc, nm, mi, mq, (rk_a (rk_s G)), (rk_a (rk_f G)), (rk_a (rk_c G)), (rk_a (rk_p G)), (rk_a (rk_r G)), ls, ex, co, ma, an, ak, ou, tw)) :
    ∀ d c, c + d = 108 → ∀ ls ex, (∀ c', c' < c → ls c' = 0 ∧ ex c' = 0) → wX_begin_15 post (nI R) (nI n) 1 aq nc nm mi mq (d + 1) (nI c) (rk_a (rk_s G)) (rk_a (rk_f G)) (rk_a (rk_c G)) (rk_a (rk_p G)) (rk_a (rk_r G)) ls ex co ma an ak ou tw := by
  intro d
  induction d with
  | zero =>
    intro c hc ls ex h
    have e : c = 108 := by omega
    subst e
    exact br_t (by decide) (K ls ex (rx_I0 hn h))
  | succ d ih =>
    intro c hc ls ex h
    have i1 : vp_in (nI c) 108 := vp_in_nI (by omega) (by decide)
    have ec : (nI c).toNatClampNeg = c := nI_clamp (by omega)
    refine br_f (nI_ge (b := 108) (by omega) (by decide)) ⟨i1, nm_r (e' := upd ls c 0) (by rw [ec]; rfl) ⟨i1, nm_r (e' := upd ex c 0) (by rw [ec]; rfl) (nm_r (nI_1 c) (ih (c + 1) (by omega) _ _ fun c' h' => ?_))⟩⟩
    by_cases s : c' = c
    · subst s; exact ⟨pk_us, pk_us⟩
    · rw [pk_un s, pk_un s]; exact h c' (by omega)
end
/-- reach: what it answers, and that the lists stay right -/
theorem rx_reach {G : rk_G} {R n : Nat} (ok : rk_ok G) (hR : rk_rs G R) (hn : n ≤ 5) {z : rx_Z} {ou tw : Nat → Int32} (C : rx_C G n z) {i j a k : Nat} (hi : i < j) (hj : j ≤ n) (ha : a < 3) (hk : k < 8) {post : Int32 → SX → Prop}
    (K : ∀ (r : Int32) (z' : rx_Z) (L : Nat), rx_C G n z' → z'.2.2.2.2.2.2.1 (rk_nd i j a) = nI L → ((r = 1 ∧ k < L ∧ L ≤ rk_mn (rk_N G i j a) ∧ z'.2.2.2.2.2.2.2.2.1 (8 * rk_nd i j a + k) = nI (rk_cs (rk_N G i j a) k)) ∨ (r = 0 ∧ L ≤ k ∧ L = rk_mn (rk_N G i j a))) → post r (rx_S G R n z' ou tw)) :
    wpX_reach post (rx_S G R n z ou tw) (nI (rk_nd i j a)) (nI k) := by
  obtain ⟨bg, aq, nc, nm, mi, mq, ls, ex, co, ma, an, ak⟩ := z
  have nn : rk_nd i j a < 108 := rk_nd_lt hi (by omega) ha
  have i1 : vp_in (nI (rk_nd i j a)) 108 := vp_in_nI nn (by decide)
  have ec : (nI (rk_nd i j a)).toNatClampNeg = rk_nd i j a := nI_clamp (by omega)
  have main : ∀ ls ex, rx_I G n ls ex co ma → wpX_ask (fun u => match u with
      | (f_ruleSet, f_size, f_begun, f_asked, f_nextCost, f_nextMaking, f_missingNode, f_missingNumber, a_symbol, a_first, a_second, a_prices, a_row, a_listed, a_exhausted, a_costs, a_makings, a_askedNode, a_askedNumber, a_outer, a_toWrite) => ∃ n17 : Nat, wX_reach_17 post (nI (rk_nd i j a)) (nI k) n17 0 f_ruleSet f_size f_begun f_asked f_nextCost f_nextMaking f_missingNode f_missingNumber a_symbol a_first a_second a_prices a_row a_listed a_exhausted a_costs a_makings a_askedNode a_askedNumber a_outer a_toWrite) ((nI R), (nI n), 1, 0, nc, nm, mi, mq, (rk_a (rk_s G)), (rk_a (rk_f G)), (rk_a (rk_c G)), (rk_a (rk_p G)), (rk_a (rk_r G)), ls, ex, co, ma, an, ak, ou, tw) (nI (rk_nd i j a)) (nI k) := by
    intro ls ex I
    refine rx_ask (s := 0) (by omega) nn hk ⟨1228, ?_⟩
    refine rx_reach17 (G := G) (R := R) (n := n) (root := (i, j, a, k)) ok hR hn (fun aq nc nm mi mq ls ex co ma an ak I' hno => ?_) 1227 (i, j, a, k) [] 0 nc nm mi mq ls ex co ma _ _ I ⟨⟨hi, hj, ha, hk⟩, pk_us, pk_us, ?_, fun _ => rfl, fun e' me => absurd me (List.not_mem_nil), trivial⟩ (Or.inr ?_) (by omega)
    · obtain ⟨L, N⟩ := I' i j a hi hj ha
      have h8 := rk_mn8 (rk_N G i j a)
      have hLm := N.2.1
      refine ⟨i1, pk_le L k (fun q => K 0 (1, aq, nc, nm, mi, mq, ls, ex, co, ma, an, ak) L (Or.inr ⟨rfl, I'⟩) N.1 (Or.inr ⟨rfl, q, ?_⟩)) (fun q => K 1 (1, aq, nc, nm, mi, mq, ls, ex, co, ma, an, ak) L (Or.inr ⟨rfl, I'⟩) N.1 (Or.inl ⟨rfl, q, hLm, N.2.2.2.1 k q⟩)) (by rw [ec]; exact N.1) rfl⟩
      rcases N.2.2.1 with h | h
      · exact absurd ⟨⟨L, N.1, q⟩, h⟩ hno
      · exact h.2
    · show 0 + j ≤ 5 + i
      omega
    · have := rx_E_405 ls ex
      show _ ≤ 1227 + 0
      omega
  rcases C with C | C
  · refine br_t C ⟨109, rx_begin15 (G := G) (R := R) hn main 108 0 rfl ls ex fun c' h => absurd h (by omega)⟩
  · have hb : bg = 1 := C.1
    subst hb
    exact br_f (show ¬ (1 : Int32) = 0 by decide) (main ls ex C.2)
end
section
/-! the least cost; the component: inner, costBy, leastPlace, leastWay -/
def rk_lst (G : rk_G) (i j a : Nat) : Nat := if 0 < rk_mn (rk_N G i j a) then rk_cs (rk_N G i j a) 0 else 100000
theorem rk_lst_t {G : rk_G} {i j a : Nat} (h : 0 < rk_mn (rk_N G i j a)) : rk_lst G i j a = rk_cs (rk_N G i j a) 0 := if_pos h
theorem rk_lst_n {G : rk_G} {i j a : Nat} (h : ¬ 0 < rk_mn (rk_N G i j a)) : rk_lst G i j a = 100000 := if_neg h
theorem rk_lst_bd {G : rk_G} (ok : rk_ok G) {i j a : Nat} (hi : i < j) (hj : j ≤ i + 5) : rk_lst G i j a + 50 ≤ 100 * (j - i) ∨ rk_lst G i j a = 100000 := by
  by_cases h : 0 < rk_mn (rk_N G i j a)
  · rw [rk_lst_t h]; exact Or.inl (rk_cs_bd ok hi hj h)
  · exact Or.inr (rk_lst_n h)
def rk_sum (G : rk_G) (k i m j : Nat) : Nat := rk_p G k + rk_lst G i m (rk_f G k) + rk_lst G m j (rk_e G k)
/-- way w reaches the cost -/
def rk_ts (G : rk_G) (i j a best w : Nat) : Prop := rk_s G (w / 8) = a ∧ ((rk_k G (w / 8) = 2 ∧ w % 8 = 0 ∧ j = i + 1 ∧ rk_r G i = rk_f G (w / 8) ∧ rk_p G (w / 8) = best) ∨ (rk_k G (w / 8) = 1 ∧ i < w % 8 ∧ w % 8 < j ∧ rk_sum G (w / 8) i (w % 8) j = best))
def rk_fw (G : rk_G) (i j a best w : Nat) : Prop := w < 64 ∧ rk_ts G i j a best w ∧ ∀ v, v < w → ¬ rk_ts G i j a best v
theorem rk_fw_u {G : rk_G} {i j a best w v : Nat} (h : rk_fw G i j a best w) (h' : rk_fw G i j a best v) : w = v := by
  rcases Nat.lt_trichotomy w v with q | q | q
  · exact absurd h.2.1 (h'.2.2 w q)
  · exact q
  · exact absurd h'.2.1 (h.2.2 v q)
def rk_fp (G : rk_G) (k i j best r : Nat) : Prop := (i < r ∧ r < j ∧ rk_sum G k i r j = best ∧ ∀ m, i < m → m < r → rk_sum G k i m j ≠ best) ∨ (r = 0 ∧ ∀ m, i < m → m < j → rk_sum G k i m j ≠ best)
theorem rk_8z (c : Nat) : nI c * (8 : Int32) = nI (8 * c) := by
  rw [show (8 : Int32) = nI 8 from rfl, pk_mul, Nat.mul_comm]
section
variable {G : rk_G} {R n : Nat} {ou tw : Nat → Int32} {post : Int32 → SX → Prop}
theorem rx_inner (ok : rk_ok G) (hR : rk_rs G R) (hn : n ≤ 5) {z : rx_Z} (C : rx_C G n z) {i j a : Nat} (hi : i < j) (hj : j ≤ n) (ha : a < 3)
    (K : ∀ z', rx_C G n z' → post (nI (rk_lst G i j a)) (rx_S G R n z' ou tw)) : wpX_inner post (rx_S G R n z ou tw) (nI (rk_nd i j a)) := by
  have nn : rk_nd i j a < 108 := rk_nd_lt hi (by omega) ha
  refine rx_reach (G := G) (R := R) (n := n) (z := z) (k := 0) ok hR hn C hi hj ha (by omega) fun r z' L C' hL h => ?_
  have k := K z' C'
  rcases h with ⟨rfl, h1, h2, h3⟩ | ⟨rfl, h1, h2⟩
  · refine br_f (by decide) ⟨pk_in (8 * rk_nd i j a) 864 (by omega) (rk_8z _), ?_⟩
    rw [rk_lst_t (by omega)] at k
    rw [rk_8z, nI_clamp (by omega)]
    rw [show z'.2.2.2.2.2.2.2.2.1 (8 * rk_nd i j a) = nI (rk_cs (rk_N G i j a) 0) from h3]
    exact k
  · rw [rk_lst_n (by omega)] at k
    exact br_t rfl k
theorem rx_costBy (ok : rk_ok G) (hR : rk_rs G R) (hn : n ≤ 5) {z : rx_Z} (C : rx_C G n z) {k i m j : Nat} (hk : k < 8) (hk1 : rk_k G k = 1) (him : i < m) (hmj : m < j) (hj : j ≤ n)
    (K : ∀ z', rx_C G n z' → post (nI (rk_sum G k i m j)) (rx_S G R n z' ou tw)) : wpX_costBy post (rx_S G R n z ou tw) (nI k) (nI i) (nI m) (nI j) := by
  obtain ⟨o1, o2, o3, o4, o5, o6, o7, o8, o9⟩ := ok k
  have i8 : vp_in (nI k) 8 := vp_in_nI hk (by decide)
  refine ⟨i8, rx_node (i := i) (j := m) (a := rk_f G k) rfl rfl (rk_at (f := rk_f G) (by omega)) ⟨i8, rx_node (i := m) (j := j) (a := rk_e G k) rfl rfl ((rk_at (f := rk_c G) (by omega)).trans (congrArg nI (o9 hk1))) ⟨i8, ?_⟩⟩⟩
  refine rx_inner (G := G) (R := R) (n := n) (z := z) ok hR hn C him (by omega) (by omega) fun z1 C1 => nm_r (e' := nI (rk_p G k + rk_lst G i m (rk_f G k))) ?_ ?_
  · show rk_a (rk_p G) (nI k).toNatClampNeg + _ = _
    rw [rk_at (by omega), nI_add]
  · refine rx_inner (G := G) (R := R) (n := n) (z := z1) ok hR hn C1 hmj hj (by omega) fun z2 C2 => ?_
    show post (nI (rk_p G k + rk_lst G i m (rk_f G k)) + nI (rk_lst G m j (rk_e G k))) (rx_S G R n z2 ou tw)
    rw [nI_add]
    exact K z2 C2
theorem rx_lp5 (ok : rk_ok G) (hR : rk_rs G R) (hn : n ≤ 5) {k i j best : Nat} (hk : k < 8) (hk1 : rk_k G k = 1) (hj : j ≤ n) (hb : best < 2 ^ 31)
    (K : ∀ r z', rx_C G n z' → rk_fp G k i j best r → post (nI r) (rx_S G R n z' ou tw)) :
    ∀ d m, m + d = j → i < m → ∀ z, rx_C G n z → (∀ m', i < m' → m' < m → rk_sum G k i m' j ≠ best) → wX_leastPlace_5 post (nI k) (nI i) (nI j) (nI best) (d + 1) (nI m) (nI R) (nI n) z.1 z.2.1 z.2.2.1 z.2.2.2.1 z.2.2.2.2.1 z.2.2.2.2.2.1 (rk_a (rk_s G)) (rk_a (rk_f G)) (rk_a (rk_c G)) (rk_a (rk_p G)) (rk_a (rk_r G)) z.2.2.2.2.2.2.1 z.2.2.2.2.2.2.2.1 z.2.2.2.2.2.2.2.2.1 z.2.2.2.2.2.2.2.2.2.1 z.2.2.2.2.2.2.2.2.2.2.1 z.2.2.2.2.2.2.2.2.2.2.2 ou tw := by
  obtain ⟨o1, o2, o3, o4, o5, o6, o7, o8, o9⟩ := ok k
  intro d
  induction d with
  | zero =>
    intro m hm him z C h
    have e : m = j := by omega
    subst e
    exact br_t (nI_le (Nat.le_refl _) (by omega)) (K 0 z C (Or.inr ⟨rfl, h⟩))
  | succ d ih =>
    intro m hm him z C h
    refine br_f (nI_ge (by omega) (by omega)) ⟨vp_in_nI hk (by decide), br_f ?_ ?_⟩
    · show ¬ rk_a (rk_c G) (nI k).toNatClampNeg = nI 3
      rw [rk_at (by omega), nI_eq (by omega) (by decide), o9 hk1]
      omega
    · have hs : rk_sum G k i m j < 2 ^ 31 := by
        unfold rk_sum
        have a1 := rk_lst_bd ok (a := rk_f G k) him (by omega)
        have a2 := rk_lst_bd ok (a := rk_e G k) (i := m) (j := j) (by omega) (by omega)
        omega
      refine rx_costBy (G := G) (R := R) (n := n) (z := z) ok hR hn C hk hk1 him (by omega) hj fun z' C' => pk_eq (rk_sum G k i m j) best (fun q => K m z' C' (Or.inl ⟨him, by omega, q, h⟩)) (fun q => nm_r (nI_1 m) (ih (m + 1) (by omega) (by omega) z' C' fun m' h1 h2 => ?_))
      by_cases e : m' = m
      · subst e; exact q
      · exact h m' h1 (by omega)
theorem rx_lp (ok : rk_ok G) (hR : rk_rs G R) (hn : n ≤ 5) {k i j best : Nat} (hk : k < 8) (hk0 : rk_k G k ≠ 0) (hi : i < j) (hj : j ≤ n) (hb : best < 2 ^ 31) {z : rx_Z} (C : rx_C G n z)
    (K : ∀ r z', rx_C G n z' → r ≤ 5 → (rk_k G k = 1 → rk_fp G k i j best r) → (rk_k G k ≠ 1 → r = 0) → post (nI r) (rx_S G R n z' ou tw)) : wpX_leastPlace post (rx_S G R n z ou tw) (nI k) (nI i) (nI j) (nI best) := by
  obtain ⟨o1, o2, o3, o4, o5, o6, o7, o8, o9⟩ := ok k
  by_cases k1 : rk_k G k = 1
  · refine nm_r (nI_1 i) ⟨j - (i + 1) + 1, rx_lp5 (G := G) (R := R) (n := n) ok hR hn hk k1 hj hb (fun r z' C' h => K r z' C' ?_ (fun _ => h) (fun q => absurd k1 q)) (j - (i + 1)) (i + 1) (by omega) (by omega) z C (fun m' h1 h2 => absurd h1 (by omega))⟩
    rcases h with h | h
    · omega
    · omega
  · have k2 : rk_k G k = 2 := by omega
    have k0 := K 0 z C (by omega) (fun q => absurd q k1) (fun _ => rfl)
    refine nm_r (nI_1 i) ⟨1, br_c (fun _ => k0) fun _ => ⟨vp_in_nI hk (by decide), br_t ?_ k0⟩⟩
    show rk_a (rk_c G) (nI k).toNatClampNeg = nI 3
    rw [rk_at (by omega), o8 k2]
theorem rx_lw22 (ok : rk_ok G) (hR : rk_rs G R) (hn : n ≤ 5) {i j a best : Nat} (hi : i < j) (hj : j ≤ n) (ha : a < 3) (hb : best < 2 ^ 31) (hex : ∃ w, w < 64 ∧ rk_ts G i j a best w)
    (K : ∀ w z', rx_C G n z' → rk_fw G i j a best w → post (nI (w / 8 + 8 * (w % 8))) (rx_S G R n z' ou tw)) :
    ∀ d k, k + d = 8 → ∀ z, rx_C G n z → (∀ v, v < 8 * k → ¬ rk_ts G i j a best v) → wX_leastWay_22 post (nI (rk_nd i j a)) (nI i) (nI j) (nI best) (d + 1) (nI k) (nI R) (nI n) z.1 z.2.1 z.2.2.1 z.2.2.2.1 z.2.2.2.2.1 z.2.2.2.2.2.1 (rk_a (rk_s G)) (rk_a (rk_f G)) (rk_a (rk_c G)) (rk_a (rk_p G)) (rk_a (rk_r G)) z.2.2.2.2.2.2.1 z.2.2.2.2.2.2.2.1 z.2.2.2.2.2.2.2.2.1 z.2.2.2.2.2.2.2.2.2.1 z.2.2.2.2.2.2.2.2.2.2.1 z.2.2.2.2.2.2.2.2.2.2.2 ou tw := by
  intro d
  induction d with
  | zero =>
    intro k hk z C h
    obtain ⟨w, w1, w2⟩ := hex
    exact absurd w2 (h w (by omega))
  | succ d ih =>
    intro k hk z C h
    obtain ⟨o1, o2, o3, o4, o5, o6, o7, o8, o9⟩ := ok k
    have o6' := (ok i).2.2.2.2.2.1
    have i8 : vp_in (nI k) 8 := vp_in_nI (by omega) (by decide)
    have i5 : vp_in (nI i) 5 := vp_in_nI (by omega) (by decide)
    have next : ∀ z', rx_C G n z' → (∀ v, 8 * k ≤ v → v < 8 * k + 8 → ¬ rk_ts G i j a best v) → wX_leastWay_22 post (nI (rk_nd i j a)) (nI i) (nI j) (nI best) (d + 1) (nI (k + 1)) (nI R) (nI n) z'.1 z'.2.1 z'.2.2.1 z'.2.2.2.1 z'.2.2.2.2.1 z'.2.2.2.2.2.1 (rk_a (rk_s G)) (rk_a (rk_f G)) (rk_a (rk_c G)) (rk_a (rk_p G)) (rk_a (rk_r G)) z'.2.2.2.2.2.2.1 z'.2.2.2.2.2.2.2.1 z'.2.2.2.2.2.2.2.2.1 z'.2.2.2.2.2.2.2.2.2.1 z'.2.2.2.2.2.2.2.2.2.2.1 z'.2.2.2.2.2.2.2.2.2.2.2 ou tw := fun z' C' h' => ih (k + 1) (by omega) z' C' fun v hv => by
      by_cases e : v < 8 * k
      · exact h v e
      · exact h' v (by omega) (by omega)
    have ev : ∀ v, 8 * k ≤ v → v < 8 * k + 8 → v / 8 = k := fun v h1 h2 => by omega
    -- the places of rule k
    have places : rk_k G k ≠ 0 → rk_s G k = a → ¬ (rk_k G k = 2 ∧ j = i + 1 ∧ rk_r G i = rk_f G k ∧ rk_p G k = best) → wX_leastWay_100 post (wX_leastWay_22 post (nI (rk_nd i j a)) (nI i) (nI j) (nI best) (d + 1)) (nI (rk_nd i j a)) (nI i) (nI j) (nI best) (nI k) (nI R) (nI n) z.1 z.2.1 z.2.2.1 z.2.2.2.1 z.2.2.2.2.1 z.2.2.2.2.2.1 (rk_a (rk_s G)) (rk_a (rk_f G)) (rk_a (rk_c G)) (rk_a (rk_p G)) (rk_a (rk_r G)) z.2.2.2.2.2.2.1 z.2.2.2.2.2.2.2.1 z.2.2.2.2.2.2.2.2.1 z.2.2.2.2.2.2.2.2.2.1 z.2.2.2.2.2.2.2.2.2.2.1 z.2.2.2.2.2.2.2.2.2.2.2 ou tw := by
      intro k0 es hw
      refine rx_lp (G := G) (R := R) (n := n) (z := z) ok hR hn (by omega) k0 hi hj hb C fun r z' C' hr5 f1 f2 => pk_le r 0 (fun q => nm_r (nI_1 k) (next z' C' fun v h1 h2 t => ?_)) (fun q => ?_)
      · unfold rk_ts at t
        rw [ev v h1 h2] at t
        obtain ⟨_, t | t⟩ := t
        · exact hw ⟨t.1, t.2.2⟩
        · rcases f1 t.1 with f | f
          · omega
          · exact f.2 _ t.2.1 t.2.2.1 t.2.2.2
      · have k1 : rk_k G k = 1 := by
          apply Classical.byContradiction
          intro z
          have := f2 z
          omega
        rcases f1 k1 with f | f
        · have e1 : (8 * k + r) / 8 = k := by omega
          have e2 : (8 * k + r) % 8 = r := by omega
          have kk := K (8 * k + r) z' C' ⟨by omega, by
            unfold rk_ts
            rw [e1, e2]
            exact ⟨es, Or.inr ⟨k1, f.1, f.2.1, f.2.2.1⟩⟩, fun v hv t => by
            by_cases e : v < 8 * k
            · exact h v e t
            · unfold rk_ts at t
              rw [ev v (by omega) (by omega)] at t
              obtain ⟨_, t | t⟩ := t
              · omega
              · exact f.2.2.2 _ t.2.1 (by omega) t.2.2.2⟩
          rw [e1, e2] at kk
          show post (nI k + (8 : Int32) * nI r) (rx_S G R n z' ou tw)
          rw [show (8 : Int32) = nI 8 from rfl, pk_mul, nI_add]
          exact kk
        · omega
    refine br_f (nI_ge (b := 8) (by omega) (by decide)) (rx_has hR (by omega) (fun k0 => br_t rfl (nm_r (nI_1 k) (next z C fun v h1 h2 t => ?_))) (fun k0 => br_f (by decide) ⟨i8, by decide, pk_eq (rk_s G k) a (fun es => ⟨i8, pk_eq (rk_c G k) 3 (fun c3 => pk_eq j (i + 1) (fun ej => ⟨i5, i8, pk_eq (rk_r G i) (rk_f G k) (fun er => ⟨i8, pk_eq (rk_p G k) best (fun ep => ?_) (fun ep => places k0 es fun t => ep t.2.2.2) (rk_at (f := rk_p G) (by omega)) rfl⟩) (fun er => places k0 es fun t => er t.2.2.1) (rk_at (f := rk_r G) (by omega)) (rk_at (f := rk_f G) (by omega))⟩) (fun ej => places k0 es fun t => ej t.2.1) rfl (nI_1 i)) (fun c3 => places k0 es fun t => c3 (o8 t.1)) (rk_at (f := rk_c G) (by omega)) rfl⟩) (fun es => nm_r (nI_1 k) (next z C fun v h1 h2 t => ?_)) (rk_at (f := rk_s G) (by omega)) (rk_dA hi (by omega) ha)⟩))
    · unfold rk_ts at t
      rw [ev v h1 h2] at t
      omega
    · have k2 : rk_k G k = 2 := by
        by_cases q : rk_k G k = 1
        · have := o9 q; omega
        · omega
      have e1 : (8 * k) / 8 = k := by omega
      have e2 : (8 * k) % 8 = 0 := by omega
      have kk := K (8 * k) z C ⟨by omega, by
        unfold rk_ts
        rw [e1, e2]
        exact ⟨es, Or.inl ⟨k2, rfl, ej, er, ep⟩⟩, fun v hv => h v hv⟩
      rw [e1, e2] at kk
      exact kk
    · unfold rk_ts at t
      rw [ev v h1 h2] at t
      exact es t.1
theorem rx_leastWay (ok : rk_ok G) (hR : rk_rs G R) (hn : n ≤ 5) {i j a : Nat} (hi : i < j) (hj : j ≤ n) (ha : a < 3) (hex : ∃ w, w < 64 ∧ rk_ts G i j a (rk_lst G i j a) w) {z : rx_Z} (C : rx_C G n z)
    (K : ∀ w z', rx_C G n z' → rk_fw G i j a (rk_lst G i j a) w → post (nI (w / 8 + 8 * (w % 8))) (rx_S G R n z' ou tw)) : wpX_leastWay post (rx_S G R n z ou tw) (nI (rk_nd i j a)) := by
  have hb := rk_lst_bd ok (a := a) hi (by omega)
  refine ⟨by decide, nm_r (rk_dI hi (by omega) ha) ⟨by decide, by decide, nm_r (rk_dJ hi (by omega) ha) ?_⟩⟩
  exact rx_inner (G := G) (R := R) (n := n) (z := z) ok hR hn C hi hj ha fun z' C' => ⟨9, rx_lw22 ok hR hn hi hj ha (by omega) hex K 8 0 rfl z' C' fun v hv => absurd hv (by omega)⟩
end
end
section
/-! the reference: least, begin -/
section
variable {G : rk_G} {n : Nat} {li : Int32} {co ma us ls op : Nat → Int32}
theorem ry_least {post : Int32 → Prop} (hn : n ≤ 5) (T : ry_T G n ma co) {i j a : Nat} (hi : i < j) (hj : j ≤ n) (ha : a < 3) (h : post (nI (rk_lst G i j a))) : wpY_least post (ry_S G n li co ma us ls op) (nI (rk_nd i j a)) := by
  have nn : rk_nd i j a < 108 := rk_nd_lt hi (by omega) ha
  have ec : (nI (rk_nd i j a)).toNatClampNeg = rk_nd i j a := nI_clamp (by omega)
  have e8 : (8 : Int32) * nI (rk_nd i j a) = nI (8 * rk_nd i j a) := by rw [show (8 : Int32) = nI 8 from rfl, pk_mul]
  obtain ⟨t1, t2⟩ := T i j a hi hj ha
  have h8 := rk_mn8 (rk_N G i j a)
  refine ⟨vp_in_nI nn (by decide), pk_le (rk_mn (rk_N G i j a)) 0 (fun q => ?_) (fun q => ⟨pk_in (8 * rk_nd i j a) 864 (by omega) e8, ?_⟩) (by rw [ec]; exact t1) rfl⟩
  · rw [rk_lst_n (by omega)] at h
    exact h
  · rw [rk_lst_t q] at h
    rw [e8, nI_clamp (by omega)]
    rw [show co (8 * rk_nd i j a) = nI (rk_cs (rk_N G i j a) 0) from t2 0 q]
    exact h
theorem ry_begin108 {post : Int32 → SY → Prop} {J16 : Int32 → Prop} (ok : rk_ok G) (hn : n ≤ 5) (T : ry_T G n ma co) {i j a best k A : Nat} (hj : j ≤ n) (ha : a < 3) (hb : best < 2 ^ 31) (hk : k < 8) (hA : A + 2 ≤ 16)
    (Kf : ∀ m, rk_k G k = 1 → rk_s G k = a → i < m → m < j → rk_sum G k i m j = best → (∀ m', i < m' → m' < m → rk_sum G k i m' j ≠ best) → post (nI m) (ry_S G n (nI (A + 2)) co ma us (upd (upd ls A (nI k)) (A + 1) (nI m)) op))
    (Kn : (rk_k G k = 1 → rk_s G k = a → ∀ m', i < m' → m' < j → rk_sum G k i m' j ≠ best) → J16 (nI (k + 1))) :
    ∀ d m, m + d = j → i < m → (rk_k G k = 1 → rk_s G k = a → ∀ m', i < m' → m' < m → rk_sum G k i m' j ≠ best) → wY_begin_108 post J16 (nI i) (nI j) (nI a) (nI best) (nI k) (nI n) (nI A) (rk_a (rk_k G)) (rk_a (rk_s G)) (rk_a (rk_f G)) (rk_a (rk_e G)) (rk_a (rk_p G)) (rk_a (rk_r G)) co ma us ls op (d + 1) (nI m) := by
  obtain ⟨o1, o2, o3, o4, o5, o6, o7, o8, o9⟩ := ok k
  have i8 : vp_in (nI k) 8 := vp_in_nI hk (by decide)
  intro d
  induction d with
  | zero =>
    intro m hm him h
    have e : m = j := by omega
    subst e
    exact br_t (nI_le (Nat.le_refl _) (by omega)) (nm_r (nI_1 k) (Kn h))
  | succ d ih =>
    intro m hm him h
    refine br_f (nI_ge (by omega) (by omega)) ⟨i8, pk_eq (rk_k G k) 1 (fun k1 => ⟨i8, pk_eq (rk_s G k) a (fun es => ⟨i8, i8, ry_cell (i := i) (j := m) (a := rk_f G k) rfl rfl (rk_at (f := rk_f G) (by omega)) (ry_least (G := G) (n := n) hn T him (by omega) (by omega) ⟨i8, ry_cell (i := m) (j := j) (a := rk_e G k) rfl rfl (rk_at (f := rk_e G) (by omega)) (ry_least (G := G) (n := n) hn T (by omega) hj (by omega) (pk_eq (rk_sum G k i m j) best (fun q => ?_) (fun q => nm_r (nI_1 m) (ih (m + 1) (by omega) (by omega) fun a1 a2 m' h1 h2 => ?_)) ?_ rfl ?_))⟩)⟩) (fun es => nm_r (nI_1 k) (Kn fun _ z => absurd z es)) (rk_at (f := rk_s G) (by omega)) rfl⟩) (fun k1 => nm_r (nI_1 k) (Kn fun z => absurd z k1)) (rk_at (f := rk_k G) (by omega)) rfl⟩
    · have ea : nI A + 1 = nI (A + 1) := nI_1 A
      refine ⟨vp_in_nI (by omega) (by decide), nm_r (e' := upd ls A (nI k)) (by rw [nI_clamp (by omega)]) ⟨pk_in (A + 1) 16 (by omega) ea, nm_r (e' := upd (upd ls A (nI k)) (A + 1) (nI m)) (by rw [ea, nI_clamp (by omega)]) (nm_r (e' := nI (A + 2)) ?_ (Kf m k1 es him (by omega) q (h k1 es)))⟩⟩
      show nI A + nI 2 = _
      rw [nI_add]
    · by_cases e : m' = m
      · subst e; exact q
      · exact h a1 a2 m' h1 (by omega)
    · show rk_a (rk_p G) (nI k).toNatClampNeg + nI (rk_lst G i m (rk_f G k)) + nI (rk_lst G m j (rk_e G k)) = _
      rw [rk_at (by omega), nI_add, nI_add]
      rfl
    · unfold rk_sum
      have a1 := rk_lst_bd ok (a := rk_f G k) him (by omega)
      have a2 := rk_lst_bd ok (a := rk_e G k) (i := m) (j := j) (by omega) (by omega)
      omega
theorem ry_begin16 {post : Int32 → SY → Prop} (ok : rk_ok G) (hn : n ≤ 5) (T : ry_T G n ma co) {i j a best A : Nat} (hi : i < j) (hj : j ≤ n) (ha : a < 3) (hb : best < 2 ^ 31) (hA : A + 2 ≤ 16) (hex : ∃ w, w < 64 ∧ rk_ts G i j a best w)
    (K : ∀ w, rk_fw G i j a best w → (rk_k G (w / 8) = 2 → post 0 (ry_S G n (nI (A + 1)) co ma us (upd ls A (nI (w / 8))) op)) ∧ (rk_k G (w / 8) = 1 → post (nI (w % 8)) (ry_S G n (nI (A + 2)) co ma us (upd (upd ls A (nI (w / 8))) (A + 1) (nI (w % 8))) op))) :
    ∀ d k, k + d = 8 → (∀ v, v < 8 * k → ¬ rk_ts G i j a best v) → wY_begin_16 post (nI i) (nI j) (nI a) (nI best) (nI n) (nI A) (rk_a (rk_k G)) (rk_a (rk_s G)) (rk_a (rk_f G)) (rk_a (rk_e G)) (rk_a (rk_p G)) (rk_a (rk_r G)) co ma us ls op (d + 1) (nI k) := by
  intro d
  induction d with
  | zero =>
    intro k hk h
    obtain ⟨w, w1, w2⟩ := hex
    exact absurd w2 (h w (by omega))
  | succ d ih =>
    intro k hk h
    obtain ⟨o1, o2, o3, o4, o5, o6, o7, o8, o9⟩ := ok k
    have o6' := (ok i).2.2.2.2.2.1
    have i8 : vp_in (nI k) 8 := vp_in_nI (by omega) (by decide)
    have i5 : vp_in (nI i) 5 := vp_in_nI (by omega) (by decide)
    have ev : ∀ v, 8 * k ≤ v → v < 8 * k + 8 → v / 8 = k := fun v h1 h2 => by omega
    have places : ¬ (rk_k G k = 2 ∧ rk_s G k = a ∧ j = i + 1 ∧ rk_r G i = rk_f G k ∧ rk_p G k = best) → ∀ x6, x6 = nI i + 1 → ∃ n108, wY_begin_108 post (wY_begin_16 post (nI i) (nI j) (nI a) (nI best) (nI n) (nI A) (rk_a (rk_k G)) (rk_a (rk_s G)) (rk_a (rk_f G)) (rk_a (rk_e G)) (rk_a (rk_p G)) (rk_a (rk_r G)) co ma us ls op (d + 1)) (nI i) (nI j) (nI a) (nI best) (nI k) (nI n) (nI A) (rk_a (rk_k G)) (rk_a (rk_s G)) (rk_a (rk_f G)) (rk_a (rk_e G)) (rk_a (rk_p G)) (rk_a (rk_r G)) co ma us ls op n108 x6 := by
      intro hw
      refine nm_r (nI_1 i) ⟨j - (i + 1) + 1, ry_begin108 ok hn T hj ha hb (by omega) hA (fun m k1 es h1 h2 h3 h4 => ?_) (fun hno => ih (k + 1) (by omega) fun v hv t => ?_) (j - (i + 1)) (i + 1) (by omega) (by omega) (fun _ _ m' h1 h2 => absurd h1 (by omega))⟩
      · have e1 : (8 * k + m) / 8 = k := by omega
        have e2 : (8 * k + m) % 8 = m := by omega
        have kk := (K (8 * k + m) ⟨by omega, by
          unfold rk_ts
          rw [e1, e2]
          exact ⟨es, Or.inr ⟨k1, h1, h2, h3⟩⟩, fun v hv t => by
          by_cases e : v < 8 * k
          · exact h v e t
          · unfold rk_ts at t
            rw [ev v (by omega) (by omega)] at t
            obtain ⟨_, t | t⟩ := t
            · omega
            · exact h4 _ t.2.1 (by omega) t.2.2.2⟩).2
        rw [e1, e2] at kk
        exact kk k1
      · by_cases e : v < 8 * k
        · exact h v e t
        · unfold rk_ts at t
          rw [ev v (by omega) (by omega)] at t
          obtain ⟨t0, t | t⟩ := t
          · exact hw ⟨t.1, t0, t.2.2⟩
          · exact hno t.1 t0 _ t.2.1 t.2.2.1 t.2.2.2
    refine br_f (nI_ge (b := 8) (by omega) (by decide)) ⟨i8, pk_eq (rk_k G k) 2 (fun k2 => ⟨i8, pk_eq (rk_s G k) a (fun es => pk_eq j (i + 1) (fun ej => ⟨i5, i8, pk_eq (rk_r G i) (rk_f G k) (fun er => ⟨i8, pk_eq (rk_p G k) best (fun ep => ?_) (fun ep => places fun t => ep t.2.2.2.2) (rk_at (f := rk_p G) (by omega)) rfl⟩) (fun er => places fun t => er t.2.2.2.1) (rk_at (f := rk_r G) (by omega)) (rk_at (f := rk_f G) (by omega))⟩) (fun ej => places fun t => ej t.2.2.1) rfl (nI_1 i)) (fun es => places fun t => es t.2.1) (rk_at (f := rk_s G) (by omega)) rfl⟩) (fun k2 => places fun t => k2 t.1) (rk_at (f := rk_k G) (by omega)) rfl⟩
    have e1 : (8 * k) / 8 = k := by omega
    have e2 : (8 * k) % 8 = 0 := by omega
    have kk := (K (8 * k) ⟨by omega, by
      unfold rk_ts
      rw [e1, e2]
      exact ⟨es, Or.inl ⟨k2, rfl, ej, er, ep⟩⟩, fun v hv => h v hv⟩).1
    rw [e1] at kk
    exact ⟨vp_in_nI (by omega) (by decide), nm_r (e' := upd ls A (nI k)) (by rw [nI_clamp (by omega)]) (nm_r (nI_1 A) (kk k2))⟩
theorem ry_begin {post : Int32 → SY → Prop} (ok : rk_ok G) (hn : n ≤ 5) (T : ry_T G n ma co) {i j a A : Nat} (hi : i < j) (hj : j ≤ n) (ha : a < 3) (hA : A + 2 ≤ 16) (hex : ∃ w, w < 64 ∧ rk_ts G i j a (rk_lst G i j a) w)
    (K : ∀ w, rk_fw G i j a (rk_lst G i j a) w → (rk_k G (w / 8) = 2 → post 0 (ry_S G n (nI (A + 1)) co ma us (upd ls A (nI (w / 8))) op)) ∧ (rk_k G (w / 8) = 1 → post (nI (w % 8)) (ry_S G n (nI (A + 2)) co ma us (upd (upd ls A (nI (w / 8))) (A + 1) (nI (w % 8))) op)))
    {x1 x2 x3 : Int32} (e1 : x1 = nI i) (e2 : x2 = nI j) (e3 : x3 = nI a) : wpY_begin post (ry_S G n (nI A) co ma us ls op) x1 x2 x3 := by
  subst e1 e2 e3
  have hb := rk_lst_bd ok (a := a) hi (by omega)
  unfold wpY_begin
  refine ry_cell (i := i) (j := j) (a := a) rfl rfl rfl ?_
  refine ry_least (G := G) (n := n) hn T hi hj ha ?_
  exact ⟨9, ry_begin16 ok hn T hi hj ha (by omega) hA hex K 8 0 rfl fun v hv => absurd hv (by omega)⟩
end
/-! a node with a tree has a way that reaches its least cost -/
theorem rk_N_elt {G : rk_G} {i j a : Nat} (hi : i < j) (hj : j ≤ i + 5) {w x y : Nat} (hw : w < 64) (hx : x < rk_nl G (rk_N G) i j a w) (hy : y < rk_nr G (rk_N G) j w) : 0 < rk_N G i j a (rk_cw G (rk_N G) i j w x y) := by
  rw [rk_N_st G hi hj]
  refine Nat.lt_of_lt_of_le ?_ (rk_sm_ge 64 w hw)
  refine Nat.lt_of_lt_of_le ?_ (rk_sm_ge _ x hx)
  refine Nat.lt_of_lt_of_le ?_ (rk_sm_ge _ y hy)
  rw [if_pos (Nat.le_refl _)]
  decide
theorem rk_ts_ex {G : rk_G} (ok : rk_ok G) {i j a : Nat} (hi : i < j) (hj : j ≤ i + 5) (h : 0 < rk_mn (rk_N G i j a)) : ∃ w, w < 64 ∧ rk_ts G i j a (rk_lst G i j a) w := by
  have g := rk_N_good ok a hi hj
  have hm := rk_mnN h
  have lo : ∀ w x y, w < 64 → x < rk_nl G (rk_N G) i j a w → y < rk_nr G (rk_N G) j w → rk_cs (rk_N G i j a) 0 ≤ rk_cw G (rk_N G) i j w x y := fun w x y hw hx hy => (rk_cs_iff g hm _).mpr (rk_N_elt hi hj hw hx hy)
  have p := (rk_cs_iff g hm _).mp (Nat.le_refl (rk_cs (rk_N G i j a) 0))
  rw [rk_N_st G hi hj] at p
  obtain ⟨w, hw, p⟩ := rk_sm_pos 64 p
  obtain ⟨x, hx, p⟩ := rk_sm_pos _ p
  obtain ⟨y, hy, p⟩ := rk_sm_pos _ p
  have hc : rk_cw G (rk_N G) i j w x y ≤ rk_cs (rk_N G i j a) 0 := by
    apply Classical.byContradiction
    intro q
    rw [if_neg q] at p
    exact absurd p (by decide)
  refine ⟨w, hw, ?_⟩
  rw [rk_lst_t h]
  obtain ⟨s1, s2 | s2⟩ := rk_nl_pos (Nat.lt_of_le_of_lt (Nat.zero_le _) hx)
  · refine ⟨s1, Or.inl ⟨s2.1, s2.2.1, s2.2.2.1, s2.2.2.2, ?_⟩⟩
    have l := lo w x y hw hx hy
    rw [rk_cw_2 (by omega)] at l hc
    omega
  · refine ⟨s1, Or.inr ⟨s2.1, s2.2.1, s2.2.2, ?_⟩⟩
    have l := lo w 0 0 hw (by omega) (by omega)
    have m := rk_cw_mono ok hi hj hx hy (Nat.zero_le x) (Nat.zero_le y)
    rw [rk_nl_1 s1 s2.1 s2.2.1 s2.2.2] at hx
    rw [rk_nr_1 s2.1] at hy
    rw [rk_cw_1 s2.1] at l m hc
    unfold rk_sum
    rw [rk_lst_t (by omega), rk_lst_t (by omega)]
    rw [rk_cw_1 s2.1] at m
    omega
theorem rk_ts_ch {G : rk_G} (ok : rk_ok G) {i j a w : Nat} (hi : i < j) (hj : j ≤ i + 5) (h : 0 < rk_mn (rk_N G i j a)) (t : rk_ts G i j a (rk_lst G i j a) w) (k1 : rk_k G (w / 8) = 1) :
    i < w % 8 ∧ w % 8 < j ∧ 0 < rk_mn (rk_N G i (w % 8) (rk_f G (w / 8))) ∧ 0 < rk_mn (rk_N G (w % 8) j (rk_e G (w / 8))) := by
  obtain ⟨_, t | t⟩ := t
  · omega
  · have b := rk_cs_bd ok hi hj h
    have e := t.2.2.2
    rw [rk_lst_t h] at e
    unfold rk_sum at e
    refine ⟨t.2.1, t.2.2.1, ?_, ?_⟩
    · apply Classical.byContradiction
      intro q
      rw [rk_lst_n q] at e
      omega
    · apply Classical.byContradiction
      intro q
      rw [rk_lst_n q] at e
      omega
end
section
/-! the list of the best tree -/
abbrev rk_Tr : Type := Nat × Nat × Nat
def rk_Out (G : rk_G) : Nat → List rk_Tr → List Nat → Prop
  | 0, st, o => st = [] ∧ o = []
  | _ + 1, [], o => o = []
  | f + 1, e :: st, o => ∃ w o', rk_fw G e.1 e.2.1 e.2.2 (rk_lst G e.1 e.2.1 e.2.2) w ∧ ((rk_k G (w / 8) = 2 ∧ o = w / 8 :: o' ∧ rk_Out G f st o') ∨ (rk_k G (w / 8) = 1 ∧ o = w / 8 :: w % 8 :: o' ∧ rk_Out G f ((e.1, w % 8, rk_f G (w / 8)) :: (w % 8, e.2.1, rk_e G (w / 8)) :: st) o'))
def rk_vd (n : Nat) : List rk_Tr → Prop
  | [] => True
  | e :: st => (e.1 < e.2.1 ∧ e.2.1 ≤ n ∧ e.2.2 < 3) ∧ rk_vd n st
def rk_tr (G : rk_G) : List rk_Tr → Prop
  | [] => True
  | e :: st => 0 < rk_mn (rk_N G e.1 e.2.1 e.2.2) ∧ rk_tr G st
def rk_wt : List rk_Tr → Nat
  | [] => 0
  | e :: st => (2 * (e.2.1 - e.1) - 1) + rk_wt st
def rk_wo : List rk_Tr → Nat
  | [] => 0
  | e :: st => (3 * (e.2.1 - e.1) - 2) + rk_wo st
def rk_stk (arr : Nat → Int32) : List rk_Tr → Prop
  | [] => True
  | e :: st => arr st.length = nI (rk_nd e.1 e.2.1 e.2.2) ∧ rk_stk arr st
theorem rk_stk_upd {arr : Nat → Int32} {s : Nat} {x : Int32} : ∀ st : List rk_Tr, st.length ≤ s → rk_stk arr st → rk_stk (upd arr s x) st
  | [], _, _ => trivial
  | e :: st, hs, ⟨h1, h2⟩ => by
    have hl : st.length + 1 ≤ s := hs
    exact ⟨(pk_un (by omega)).trans h1, rk_stk_upd st (by omega) h2⟩
theorem rk_Out_ex {G : rk_G} (ok : rk_ok G) {n : Nat} (hn : n ≤ 5) : ∀ f st, rk_vd n st → rk_tr G st → rk_wt st ≤ f → ∃ o, rk_Out G f st o ∧ o.length ≤ rk_wo st
  | 0, [], _, _, _ => ⟨[], ⟨rfl, rfl⟩, Nat.le_refl 0⟩
  | 0, e :: st, v, _, h => by
    have h1 := v.1.1
    have h2 : (2 * (e.2.1 - e.1) - 1) + rk_wt st ≤ 0 := h
    omega
  | f + 1, [], _, _, _ => ⟨[], rfl, Nat.le_refl 0⟩
  | f + 1, (i, j, a) :: st, v, t, h => by
    obtain ⟨⟨hi, hj, ha⟩, v⟩ := v
    obtain ⟨t1, t2⟩ := t
    dsimp only at hi hj ha t1
    have h2 : (2 * (j - i) - 1) + rk_wt st ≤ f + 1 := h
    obtain ⟨w, ⟨w1, w2⟩, w3⟩ := pk_least _ (rk_ts_ex ok hi (by omega : j ≤ i + 5) t1)
    have fw : rk_fw G i j a (rk_lst G i j a) w := ⟨w1, w2, fun v hv z => w3 v hv ⟨by omega, z⟩⟩
    have wk := w2
    obtain ⟨_, q | q⟩ := wk
    · obtain ⟨o, o1, o2⟩ := rk_Out_ex ok hn f st v t2 (by omega)
      refine ⟨w / 8 :: o, ⟨w, o, fw, Or.inl ⟨q.1, rfl, o1⟩⟩, ?_⟩
      show o.length + 1 ≤ (3 * (j - i) - 2) + rk_wo st
      omega
    · obtain ⟨c1, c2, c3, c4⟩ := rk_ts_ch ok hi (by omega) t1 w2 q.1
      obtain ⟨o5, o6⟩ := (ok (w / 8)).2.2
      have v' : rk_vd n ((i, w % 8, rk_f G (w / 8)) :: (w % 8, j, rk_e G (w / 8)) :: st) := ⟨⟨c1, by show w % 8 ≤ n; omega, by show rk_f G (w / 8) < 3; omega⟩, ⟨c2, hj, by show rk_e G (w / 8) < 3; omega⟩, v⟩
      have hw : rk_wt ((i, w % 8, rk_f G (w / 8)) :: (w % 8, j, rk_e G (w / 8)) :: st) ≤ f := by
        show (2 * (w % 8 - i) - 1) + ((2 * (j - w % 8) - 1) + rk_wt st) ≤ f
        omega
      obtain ⟨o, o1, o2⟩ := rk_Out_ex ok hn f _ v' ⟨c3, c4, t2⟩ hw
      refine ⟨w / 8 :: w % 8 :: o, ⟨w, o, fw, Or.inr ⟨q.1, rfl, o1⟩⟩, ?_⟩
      have o2' : o.length ≤ (3 * (w % 8 - i) - 2) + ((3 * (j - w % 8) - 2) + rk_wo st) := o2
      show o.length + 1 + 1 ≤ (3 * (j - i) - 2) + rk_wo st
      omega
def rk_an : List Nat → Nat → Int32
  | [], _ => -1
  | x :: _, 0 => nI x
  | _ :: o, c + 1 => rk_an o c
section
variable {G : rk_G} {R n : Nat} {ou : Nat → Int32} {post : Int32 → SX → Prop}
theorem rx_best58 (ok : rk_ok G) (hR : rk_rs G R) (hn : n ≤ 5) : ∀ f st o, rk_Out G f st o → rk_vd n st → st.length + f ≤ 10 → ∀ A c x z tw, rx_C G n z → rk_stk tw st → A + c < 2 ^ 31 → x + f ≤ 9 →
    (∀ z' tw', rx_C G n z' → post (rk_an o c) (rx_S G R n z' ou tw')) → wX_bestAt_58 post (nI (A + c)) (f + 1) (nI st.length) (nI A) (nI x) (nI R) (nI n) z.1 z.2.1 z.2.2.1 z.2.2.2.1 z.2.2.2.2.1 z.2.2.2.2.2.1 (rk_a (rk_s G)) (rk_a (rk_f G)) (rk_a (rk_c G)) (rk_a (rk_p G)) (rk_a (rk_r G)) z.2.2.2.2.2.2.1 z.2.2.2.2.2.2.2.1 z.2.2.2.2.2.2.2.2.1 z.2.2.2.2.2.2.2.2.2.1 z.2.2.2.2.2.2.2.2.2.2.1 z.2.2.2.2.2.2.2.2.2.2.2 ou tw
  | 0, st, o, ⟨h1, h2⟩, _, _, A, c, x, z, tw, C, _, _, _, K => by
    subst h1 h2
    exact br_c (fun _ => K z tw C) fun _ => br_t (by decide) (K z tw C)
  | f + 1, [], o, h, _, _, A, c, x, z, tw, C, _, _, _, K => by
    have h2 : o = [] := h
    subst h2
    exact br_c (fun _ => K z tw C) fun _ => br_t (by decide) (K z tw C)
  | f + 1, (i, j, a) :: st, o, h, v, hl, A, c, x, z, tw, C, s, hc, hx, K => by
    obtain ⟨w, o', fw, br⟩ := h
    obtain ⟨⟨hi, hj, ha⟩, v⟩ := v
    obtain ⟨s1, s2⟩ := s
    dsimp only at hi hj ha s1 fw br
    have hl' : st.length + 1 + (f + 1) ≤ 10 := hl
    have is : vp_in (nI st.length) 16 := vp_in_nI (by omega) (by decide)
    have es : (nI st.length).toNatClampNeg = st.length := nI_clamp (by omega)
    refine br_f (nI_ge (b := 10) (by omega) (by decide)) (br_f (nI_nle (Nat.succ_pos _) (by show st.length + 1 < 2 ^ 31; omega)) (nm_r (e' := nI st.length) (pk_m1 _) ⟨is, nm_r (e' := nI (rk_nd i j a)) (by rw [es]; exact s1) ?_⟩))
    refine rx_leastWay (G := G) (R := R) (n := n) (z := z) ok hR hn hi hj ha ⟨w, fw.1, fw.2.1⟩ C fun w' z' C' fw' => ?_
    have ew := rk_fw_u fw' fw
    subst ew
    have hw8 : w' / 8 < 8 := by have := fw.1; omega
    have hm8 : w' % 8 < 8 := by omega
    obtain ⟨o1, o2, o3, o4, o5, o6, o7, o8, o9⟩ := ok (w' / 8)
    have a7 : nI (w' / 8 + 8 * (w' % 8)) &&& 7 = nI (w' / 8) := by
      rw [pk_andN (by omega) (m := 7) 3 (by decide)]
      exact congrArg nI (by omega)
    have s3 : nI (w' / 8 + 8 * (w' % 8)) >>> ((3 : Int32) &&& 31) = nI (w' % 8) := by
      rw [pk_shrN (by omega) _ 3 (by decide)]
      exact congrArg nI (by omega)
    have i8 : vp_in (nI (w' / 8 + 8 * (w' % 8)) &&& 7) 8 := pk_in (w' / 8) 8 hw8 a7
    refine pk_eq (A + c) A (fun q => ?_) (fun q => nm_r (nI_1 A) ⟨i8, pk_eq (rk_c G (w' / 8)) 3 (fun c3 => nm_r (nI_1 x) ?_) (fun c3 => nm_r s3 ?_) (by rw [a7]; exact rk_at (f := rk_c G) (by omega)) rfl⟩) rfl rfl hc (by omega)
    · have ec : c = 0 := by omega
      subst ec
      show post (nI (w' / 8 + 8 * (w' % 8)) &&& 7) (rx_S G R n z' ou tw)
      rw [a7]
      have k := K z' tw C'
      rcases br with b | b
      · rw [b.2.1] at k; exact k
      · rw [b.2.1] at k; exact k
    · obtain ⟨c', rfl⟩ : ∃ c', c = c' + 1 := ⟨c - 1, by omega⟩
      rcases br with b | b
      · have := rx_best58 ok hR hn f st o' b.2.2 v (by omega) (A + 1) c' (x + 1) z' tw C' s2 (by omega) (by omega) fun z2 tw2 C2 => by
          have k := K z2 tw2 C2
          rw [b.2.1] at k
          exact k
        rw [show A + 1 + c' = A + (c' + 1) by omega] at this
        exact this
      · have := o9 b.1; omega
    · obtain ⟨c', rfl⟩ : ∃ c', c = c' + 1 := ⟨c - 1, by omega⟩
      rcases br with b | b
      · exact absurd (o8 b.1) c3
      · have ht := fw.2.1
        have hm : i < w' % 8 ∧ w' % 8 < j := by
          obtain ⟨_, t | t⟩ := ht
          · omega
          · exact ⟨t.2.1, t.2.2.1⟩
        refine pk_eq (A + (c' + 1)) (A + 1) (fun q2 => ?_) (fun q2 => nm_r (nI_1 (A + 1)) ⟨by decide, by decide, i8, rx_node (i := w' % 8) (j := j) (a := rk_e G (w' / 8)) rfl (rk_dJ hi (by omega) ha) ?_ ⟨is, nm_r (e' := upd tw st.length (nI (rk_nd (w' % 8) j (rk_e G (w' / 8))))) ?_ ⟨by decide, i8, rx_node (i := i) (j := w' % 8) (a := rk_f G (w' / 8)) (rk_dI hi (by omega) ha) rfl ?_ ⟨pk_in (st.length + 1) 16 (by omega) (nI_1 _), nm_r (e' := upd (upd tw st.length (nI (rk_nd (w' % 8) j (rk_e G (w' / 8))))) (st.length + 1) (nI (rk_nd i (w' % 8) (rk_f G (w' / 8))))) ?_ (nm_r (e' := nI (st.length + 2)) ?_ (nm_r (nI_1 x) ?_))⟩⟩⟩⟩) rfl rfl (by omega) (by omega)
        · have ec : c' = 0 := by omega
          subst ec
          have k := K z' tw C'
          rw [b.2.1] at k
          exact k
        · show rk_a (rk_c G) (nI (w' / 8 + 8 * (w' % 8)) &&& 7).toNatClampNeg = _
          rw [a7, rk_at (by omega), o9 b.1]
        · have := rk_nd_lt hm.2 (by omega : j ≤ 5) (by omega : rk_e G (w' / 8) < 3)
          rw [es, rk_nb (by omega)]
        · show rk_a (rk_f G) (nI (w' / 8 + 8 * (w' % 8)) &&& 7).toNatClampNeg = _
          rw [a7, rk_at (by omega)]
        · have := rk_nd_lt hm.1 (by omega : w' % 8 ≤ 5) (by omega : rk_f G (w' / 8) < 3)
          rw [nI_1, nI_clamp (by omega), rk_nb (by omega)]
        · show nI st.length + nI 2 = _
          rw [nI_add]
        · obtain ⟨c'', rfl⟩ : ∃ c'', c' = c'' + 1 := ⟨c' - 1, by omega⟩
          have := rx_best58 ok hR hn f ((i, w' % 8, rk_f G (w' / 8)) :: (w' % 8, j, rk_e G (w' / 8)) :: st) o' b.2.2 ⟨⟨hm.1, by show w' % 8 ≤ n; omega, by show rk_f G (w' / 8) < 3; omega⟩, ⟨hm.2, hj, by show rk_e G (w' / 8) < 3; omega⟩, v⟩ (by show st.length + 1 + 1 + f ≤ 10; omega) (A + 1 + 1) c'' (x + 1) z' (upd (upd tw st.length (nI (rk_nd (w' % 8) j (rk_e G (w' / 8))))) (st.length + 1) (nI (rk_nd i (w' % 8) (rk_f G (w' / 8))))) C' ⟨pk_us, (pk_un (by omega)).trans pk_us, rk_stk_upd st (by omega) (rk_stk_upd st (by omega) s2)⟩ (by omega) (by omega) fun z2 tw2 C2 => by
            have k := K z2 tw2 C2
            rw [b.2.1] at k
            exact k
          rw [show A + 1 + 1 + c'' = A + (c'' + 1 + 1) by omega] at this
          exact this
end
end
section
/-! the reference: bestAt's loop -/
def rk_hs (ls : Nat → Int32) : Nat → List Nat → Prop
  | _, [] => True
  | A, x :: o => ls A = nI x ∧ rk_hs ls (A + 1) o
theorem rk_hs_an {ls : Nat → Int32} : ∀ (o : List Nat) (A c : Nat), rk_hs ls A o → c < o.length → ls (A + c) = rk_an o c
  | [], _, _, _, h => absurd h (Nat.not_lt_zero _)
  | x :: o, A, 0, h, _ => h.1
  | x :: o, A, c + 1, h, hc => by
    have := rk_hs_an o (A + 1) c h.2 (Nat.lt_of_succ_lt_succ hc)
    rw [show A + (c + 1) = A + 1 + c by omega]
    exact this
theorem rk_an_ge : ∀ (o : List Nat) (c : Nat), o.length ≤ c → rk_an o c = -1
  | [], _, _ => rfl
  | x :: o, 0, h => absurd h (Nat.not_succ_le_zero _)
  | x :: o, c + 1, h => rk_an_ge o c (Nat.le_of_succ_le_succ h)
theorem rk_dJ2 {i j a : Nat} (hi : i < j) (hj : j ≤ 5) (ha : a < 3) : (nI (rk_nd i j a) - nI (rk_nd i j a) / 18 * 18) / 3 = nI j := by
  have := rk_nd_lt hi hj ha
  rw [show (3 : Int32) = nI 3 from rfl, show (18 : Int32) = nI 18 from rfl, pk_rem (by omega) (by decide) (by decide), pk_div (by omega) (by decide) (by decide)]
  exact congrArg nI (by unfold rk_nd; omega)
section
variable {G : rk_G} {n : Nat} {co ma us : Nat → Int32} {post : Int32 → SY → Prop}
theorem ry_best36 (ok : rk_ok G) (hn : n ≤ 5) (T : ry_T G n ma co) {x2 : Int32} : ∀ f st o, rk_Out G f st o → rk_vd n st → st.length + f ≤ 10 → ∀ A x ls op, A + o.length ≤ 13 → rk_stk op st → x + f ≤ 9 →
    (∀ ls' op', (∀ q, q < A → ls' q = ls q) → rk_hs ls' A o → wY_bestAt_164 post x2 (nI n) (nI (A + o.length)) (rk_a (rk_k G)) (rk_a (rk_s G)) (rk_a (rk_f G)) (rk_a (rk_e G)) (rk_a (rk_p G)) (rk_a (rk_r G)) co ma us ls' op') → wY_bestAt_36 post x2 (f + 1) (nI st.length) (nI x) (nI n) (nI A) (rk_a (rk_k G)) (rk_a (rk_s G)) (rk_a (rk_f G)) (rk_a (rk_e G)) (rk_a (rk_p G)) (rk_a (rk_r G)) co ma us ls op
  | 0, st, o, ⟨h1, h2⟩, _, _, A, x, ls, op, _, _, _, K => by
    subst h1 h2
    have k := K ls op (fun _ _ => rfl) trivial
    exact br_c (fun _ => k) fun _ => br_t (by decide) k
  | f + 1, [], o, h, _, _, A, x, ls, op, _, _, _, K => by
    have h2 : o = [] := h
    subst h2
    have k := K ls op (fun _ _ => rfl) trivial
    exact br_c (fun _ => k) fun _ => br_t (by decide) k
  | f + 1, (i, j, a) :: st, o, h, v, hl, A, x, ls, op, ho, s, hx, K => by
    obtain ⟨w, o', fw, br⟩ := h
    obtain ⟨⟨hi, hj, ha⟩, v⟩ := v
    obtain ⟨s1, s2⟩ := s
    dsimp only at hi hj ha s1 fw br
    have hl' : st.length + 1 + (f + 1) ≤ 10 := hl
    have is : vp_in (nI st.length) 16 := vp_in_nI (by omega) (by decide)
    have es : (nI st.length).toNatClampNeg = st.length := nI_clamp (by omega)
    have eo : op (nI st.length).toNatClampNeg = nI (rk_nd i j a) := by rw [es]; exact s1
    have hA : A + 2 ≤ 16 := by omega
    refine br_f (nI_ge (b := 9) (by omega) (by decide)) (br_f (nI_nle (Nat.succ_pos _) (by show st.length + 1 < 2 ^ 31; omega)) (nm_r (e' := nI st.length) (pk_m1 _) ⟨is, by decide, nm_r (e' := nI i) (by rw [eo]; exact rk_dI hi (by omega) ha) ⟨is, by decide, by decide, nm_r (e' := nI j) (by rw [eo]; exact rk_dJ2 hi (by omega) ha) ⟨is, by decide, ?_⟩⟩⟩))
    refine ry_begin (G := G) (n := n) ok hn T hi hj ha hA ⟨w, fw.1, fw.2.1⟩ (fun w' fw' => ?_) rfl rfl (by rw [eo]; exact rk_dA hi (by omega) ha)
    have ew := rk_fw_u fw' fw
    subst ew
    have hw8 : w' / 8 < 8 := by have := fw.1; omega
    obtain ⟨o1, o2, o3, o4, o5, o6, o7, o8, o9⟩ := ok (w' / 8)
    refine ⟨fun k2 => ?_, fun k1 => ?_⟩
    · rcases br with b | b
      · obtain ⟨_, rfl, b⟩ := b
        have ho' : A + (o'.length + 1) ≤ 13 := ho
        refine br_t (by decide) (nm_r (nI_1 x) (ry_best36 ok hn T f st o' b v (by omega) (A + 1) (x + 1) (upd ls A (nI (w' / 8))) op (by omega) s2 (by omega) fun ls' op' p1 p2 => ?_))
        have k := K ls' op' (fun q hq => (p1 q (by omega)).trans (pk_un (by omega))) ⟨(p1 A (by omega)).trans pk_us, p2⟩
        rw [show A + (w' / 8 :: o').length = A + 1 + o'.length by show A + (o'.length + 1) = _; omega] at k
        exact k
      · omega
    · rcases br with b | b
      · omega
      · obtain ⟨_, rfl, b⟩ := b
        have ho' : A + (o'.length + 1 + 1) ≤ 13 := ho
        have ht := fw.2.1
        have hm : i < w' % 8 ∧ w' % 8 < j := by
          obtain ⟨_, t | t⟩ := ht
          · omega
          · exact ⟨t.2.1, t.2.2.1⟩
        have e2 : nI (A + 2) - (2 : Int32) = nI A := by
          rw [show (2 : Int32) = nI 2 from rfl, pk_sub (by omega)]
          exact congrArg nI (by omega)
        have i8 : vp_in (nI (w' / 8)) 8 := vp_in_nI hw8 (by decide)
        refine br_f (nI_nle (by omega) (by omega)) ⟨pk_in A 16 (by omega) e2, nm_r (e' := nI (w' / 8)) ?_ ⟨i8, ry_cell (i := w' % 8) (j := j) (a := rk_e G (w' / 8)) rfl rfl (rk_at (f := rk_e G) (by omega)) ⟨is, nm_r (e' := upd op st.length (nI (rk_nd (w' % 8) j (rk_e G (w' / 8))))) (by rw [es]) ⟨i8, ry_cell (i := i) (j := w' % 8) (a := rk_f G (w' / 8)) rfl rfl (rk_at (f := rk_f G) (by omega)) ⟨pk_in (st.length + 1) 16 (by omega) (nI_1 _), nm_r (e' := upd (upd op st.length (nI (rk_nd (w' % 8) j (rk_e G (w' / 8))))) (st.length + 1) (nI (rk_nd i (w' % 8) (rk_f G (w' / 8))))) (by rw [nI_1, nI_clamp (by omega)]) (nm_r (e' := nI (st.length + 2)) ?_ (nm_r (nI_1 x) ?_))⟩⟩⟩⟩⟩
        · rw [e2, nI_clamp (by omega)]
          exact (pk_un (by omega)).trans pk_us
        · show nI st.length + nI 2 = _
          rw [nI_add]
        · refine ry_best36 ok hn T f ((i, w' % 8, rk_f G (w' / 8)) :: (w' % 8, j, rk_e G (w' / 8)) :: st) o' b ⟨⟨hm.1, by show w' % 8 ≤ n; omega, by show rk_f G (w' / 8) < 3; omega⟩, ⟨hm.2, hj, by show rk_e G (w' / 8) < 3; omega⟩, v⟩ (by show st.length + 1 + 1 + f ≤ 10; omega) (A + 2) (x + 1) _ _ (by omega) ⟨pk_us, (pk_un (by omega)).trans pk_us, rk_stk_upd st (by omega) (rk_stk_upd st (by omega) s2)⟩ (by omega) fun ls' op' p1 p2 => ?_
          have k := K ls' op' (fun q hq => (p1 q (by omega)).trans ((pk_un (by omega)).trans (pk_un (by omega)))) ⟨(p1 A (by omega)).trans ((pk_un (by omega)).trans pk_us), (p1 (A + 1) (by omega)).trans pk_us, p2⟩
          rw [show A + (w' / 8 :: w' % 8 :: o').length = A + 2 + o'.length by show A + (o'.length + 1 + 1) = _; omega] at k
          exact k
theorem ry_164 {o : List Nat} {ls op : Nat → Int32} (ho : o.length ≤ 13) (h : rk_hs ls 0 o) {x2 : Int32} (h0 : x2 < 0 → post (-1) (ry_S G n (nI (0 + o.length)) co ma us ls op)) (h1 : ∀ c, c < 2 ^ 31 → x2 = nI c → post (rk_an o c) (ry_S G n (nI (0 + o.length)) co ma us ls op)) : wY_bestAt_164 post x2 (nI n) (nI (0 + o.length)) (rk_a (rk_k G)) (rk_a (rk_s G)) (rk_a (rk_f G)) (rk_a (rk_e G)) (rk_a (rk_p G)) (rk_a (rk_r G)) co ma us ls op := by
  refine br_c h0 fun z => ?_
  obtain ⟨c, hc, rfl⟩ := nI_of z
  have k := h1 c hc rfl
  refine pk_le (0 + o.length) c (fun q => ?_) (fun q => ⟨vp_in_nI (by omega) (by decide), ?_⟩)
  · rw [rk_an_ge o c (by omega)] at k
    exact k
  · rw [nI_clamp hc]
    have := rk_hs_an o 0 c h (by omega)
    rw [Nat.zero_add] at this
    rw [← this] at k
    exact k
end
end
section
/-! trees with a given rule: what is around a node, what is used within -/
def rk_op (G : rk_G) (k i j v : Nat) : Prop := (rk_k G k = 2 ∧ j = i + 1 ∧ rk_r G i = rk_f G k ∧ v = rk_p G k) ∨ (rk_k G k = 1 ∧ ∃ m, i < m ∧ m < j ∧ v = rk_sum G k i m j)
def rk_O2 (G : rk_G) (O : Nat → Nat) (k i m j : Nat) : Prop := O (rk_nd i m (rk_f G k)) ≤ O (rk_nd i j (rk_s G k)) + rk_p G k + rk_lst G m j (rk_e G k) ∧ O (rk_nd m j (rk_e G k)) ≤ O (rk_nd i j (rk_s G k)) + rk_p G k + rk_lst G i m (rk_f G k)
def rk_O3 (G : rk_G) (n a0 d : Nat) (O : Nat → Nat) (i j a v : Nat) : Prop :=
  (i = 0 ∧ j = n ∧ a = a0 ∧ v = 0) ∨ ∃ k, k < 8 ∧ rk_k G k = 1 ∧ ((∃ j', j < j' ∧ j' ≤ n ∧ i + d ≤ j' ∧ a = rk_f G k ∧ v = O (rk_nd i j' (rk_s G k)) + rk_p G k + rk_lst G j j' (rk_e G k)) ∨ (∃ i', i' < i ∧ i' + d ≤ j ∧ a = rk_e G k ∧ v = O (rk_nd i' j (rk_s G k)) + rk_p G k + rk_lst G i' i (rk_f G k)))
def rk_OI (G : rk_G) (n a0 d : Nat) (Q : Nat → Nat → Nat → Nat → Prop) (O : Nat → Nat) : Prop :=
  (∀ c, c < 108 → O c ≤ 100000) ∧ O (rk_nd 0 n a0) = 0 ∧ (∀ k i m j, k < 8 → rk_k G k = 1 → i < m → m < j → j ≤ n → Q k i m j → rk_O2 G O k i m j) ∧ (∀ i j a, i < j → j ≤ n → a < 3 → O (rk_nd i j a) < 100000 → rk_O3 G n a0 d O i j a (O (rk_nd i j a)))
theorem rk_OI_up {G : rk_G} {n a0 d d' : Nat} {Q Q' : Nat → Nat → Nat → Nat → Prop} {O : Nat → Nat} (h : rk_OI G n a0 d Q O) (hd : d' ≤ d) (hq : ∀ k i m j, k < 8 → rk_k G k = 1 → i < m → m < j → j ≤ n → Q' k i m j → Q k i m j) : rk_OI G n a0 d' Q' O := by
  obtain ⟨h1, h2, h3, h4⟩ := h
  refine ⟨h1, h2, fun k i m j a1 a2 a3 a4 a5 a6 => h3 k i m j a1 a2 a3 a4 a5 (hq k i m j a1 a2 a3 a4 a5 a6), fun i j a a1 a2 a3 a4 => ?_⟩
  rcases h4 i j a a1 a2 a3 a4 with q | ⟨k, q1, q2, ⟨j', q⟩ | ⟨i', q⟩⟩
  · exact Or.inl q
  · exact Or.inr ⟨k, q1, q2, Or.inl ⟨j', q.1, q.2.1, by omega, q.2.2.2⟩⟩
  · exact Or.inr ⟨k, q1, q2, Or.inr ⟨i', q.1, by omega, q.2.2⟩⟩
theorem rk_OI_step {G : rk_G} (ok : rk_ok G) {n a0 d : Nat} (hn : n ≤ 5) (ha0 : a0 < 3) {Q Q' : Nat → Nat → Nat → Nat → Prop} {O O' : Nat → Nat} (h : rk_OI G n a0 d Q O) (hQd : ∀ k i m j, Q k i m j → i + d ≤ j)
    {k i m j : Nat} (hk : k < 8) (hk1 : rk_k G k = 1) (him : i < m) (hmj : m < j) (hj : j ≤ n) (hd : j = i + d)
    (hL : (O (rk_nd i m (rk_f G k)) ≤ O (rk_nd i j (rk_s G k)) + rk_p G k + rk_lst G m j (rk_e G k) ∧ O' (rk_nd i m (rk_f G k)) = O (rk_nd i m (rk_f G k))) ∨ (O (rk_nd i j (rk_s G k)) + rk_p G k + rk_lst G m j (rk_e G k) < O (rk_nd i m (rk_f G k)) ∧ O' (rk_nd i m (rk_f G k)) = O (rk_nd i j (rk_s G k)) + rk_p G k + rk_lst G m j (rk_e G k)))
    (hR : (O (rk_nd m j (rk_e G k)) ≤ O (rk_nd i j (rk_s G k)) + rk_p G k + rk_lst G i m (rk_f G k) ∧ O' (rk_nd m j (rk_e G k)) = O (rk_nd m j (rk_e G k))) ∨ (O (rk_nd i j (rk_s G k)) + rk_p G k + rk_lst G i m (rk_f G k) < O (rk_nd m j (rk_e G k)) ∧ O' (rk_nd m j (rk_e G k)) = O (rk_nd i j (rk_s G k)) + rk_p G k + rk_lst G i m (rk_f G k)))
    (hO : ∀ c, c ≠ rk_nd i m (rk_f G k) → c ≠ rk_nd m j (rk_e G k) → O' c = O c)
    (hQ : ∀ k' i' m' j', Q' k' i' m' j' → Q k' i' m' j' ∨ (k' = k ∧ i' = i ∧ m' = m ∧ j' = j)) : rk_OI G n a0 d Q' O' := by
  obtain ⟨h1, h2, h3, h4⟩ := h
  obtain ⟨p1, p2, p3, p4, p5, p6, p7, p8, p9⟩ := ok k
  have le : ∀ c, O' c ≤ O c := fun c => by
    by_cases c1 : c = rk_nd i m (rk_f G k)
    · subst c1; rcases hL with q | q <;> omega
    · by_cases c2 : c = rk_nd m j (rk_e G k)
      · subst c2; rcases hR with q | q <;> omega
      · rw [hO c c1 c2]; exact Nat.le_refl _
  have same : ∀ i' j' b, i' + d ≤ j' → j' ≤ n → b < 3 → O' (rk_nd i' j' b) = O (rk_nd i' j' b) := fun i' j' b q1 q2 q3 => hO _ (fun z => by
    have := rk_nd_inj (by omega) q3 (by omega) (by omega) z; omega) (fun z => by
    have := rk_nd_inj (by omega) q3 (by omega) (by omega) z; omega)
  have up3 : ∀ i1 j1 b v, i1 < j1 → j1 ≤ n → rk_O3 G n a0 d O i1 j1 b v → rk_O3 G n a0 d O' i1 j1 b v := by
    intro i1 j1 b v q1 q2 q
    rcases q with q | ⟨k', r1, r2, ⟨j', q⟩ | ⟨i', q⟩⟩
    · exact Or.inl q
    · refine Or.inr ⟨k', r1, r2, Or.inl ⟨j', q.1, q.2.1, q.2.2.1, q.2.2.2.1, ?_⟩⟩
      rw [same i1 j' _ q.2.2.1 q.2.1 (by have := (ok k').2.1; omega)]
      exact q.2.2.2.2
    · refine Or.inr ⟨k', r1, r2, Or.inr ⟨i', q.1, q.2.1, q.2.2.1, ?_⟩⟩
      rw [same i' j1 _ q.2.1 q2 (by have := (ok k').2.1; omega)]
      exact q.2.2.2
  refine ⟨fun c hc => Nat.le_trans (le c) (h1 c hc), ?_, fun k' i' m' j' a1 a2 a3 a4 a5 a6 => ?_, fun i1 j1 b a1 a2 a3 a4 => ?_⟩
  · have := le (rk_nd 0 n a0); omega
  · have par : O' (rk_nd i' j' (rk_s G k')) = O (rk_nd i' j' (rk_s G k')) := same i' j' _ (by
      rcases hQ _ _ _ _ a6 with q | ⟨_, rfl, _, rfl⟩
      · exact hQd _ _ _ _ q
      · omega) a5 (by have := (ok k').2.1; omega)
    unfold rk_O2
    rw [par]
    have l1 := le (rk_nd i' m' (rk_f G k'))
    have l2 := le (rk_nd m' j' (rk_e G k'))
    rcases hQ _ _ _ _ a6 with q | ⟨rfl, rfl, rfl, rfl⟩
    · have := h3 k' i' m' j' a1 a2 a3 a4 a5 q
      unfold rk_O2 at this
      omega
    · refine ⟨?_, ?_⟩
      · rcases hL with q | q <;> omega
      · rcases hR with q | q <;> omega
  · have old : O' (rk_nd i1 j1 b) = O (rk_nd i1 j1 b) → rk_O3 G n a0 d O' i1 j1 b (O' (rk_nd i1 j1 b)) := fun e => by
      rw [e] at a4 ⊢
      exact up3 i1 j1 b _ a1 a2 (h4 i1 j1 b a1 a2 a3 a4)
    have hp : O' (rk_nd i j (rk_s G k)) = O (rk_nd i j (rk_s G k)) := same i j _ (by omega) hj (by omega)
    by_cases c1 : rk_nd i1 j1 b = rk_nd i m (rk_f G k)
    · obtain ⟨rfl, rfl, rfl⟩ := rk_nd_inj (by omega) a3 (by omega) (by omega) c1
      rcases hL with q | q
      · exact old q.2
      · exact Or.inr ⟨k, hk, hk1, Or.inl ⟨j, hmj, hj, by omega, rfl, by rw [q.2, hp]⟩⟩
    · by_cases c2 : rk_nd i1 j1 b = rk_nd m j (rk_e G k)
      · obtain ⟨rfl, rfl, rfl⟩ := rk_nd_inj (by omega) a3 (by omega) (by omega) c2
        rcases hR with q | q
        · exact old q.2
        · exact Or.inr ⟨k, hk, hk1, Or.inr ⟨i, him, by omega, rfl, by rw [q.2, hp]⟩⟩
      · exact old (hO _ c1 c2)
/-- what the component answers -/
def rk_AX (G : rk_G) (n k : Nat) (O : Nat → Nat) (B : Nat) : Prop :=
  B ≤ 100000 ∧ (∀ i j x, i < j → j ≤ n → O (rk_nd i j (rk_s G k)) < 100000 → rk_op G k i j x → B ≤ O (rk_nd i j (rk_s G k)) + x) ∧ (B < 100000 → ∃ i j x, i < j ∧ j ≤ n ∧ O (rk_nd i j (rk_s G k)) < 100000 ∧ rk_op G k i j x ∧ B = O (rk_nd i j (rk_s G k)) + x)
/-- the ways to use rule r within a node -/
def rk_uo (G : rk_G) (r : Nat) (W : Nat → Nat) (i j a v : Nat) : Prop :=
  ∃ k, k < 8 ∧ rk_s G k = a ∧ ((k = r ∧ rk_op G k i j v) ∨ (rk_k G k = 1 ∧ ∃ m, i < m ∧ m < j ∧ (v = rk_p G k + W (rk_nd i m (rk_f G k)) + rk_lst G m j (rk_e G k) ∨ v = rk_p G k + rk_lst G i m (rk_f G k) + W (rk_nd m j (rk_e G k)))))
def rk_AY (G : rk_G) (n r : Nat) (W : Nat → Nat) : Prop :=
  (∀ i j a, i < j → j ≤ n → a < 3 → (W (rk_nd i j a) < 50000 ∨ W (rk_nd i j a) = 100000)) ∧ (∀ i j a v, i < j → j ≤ n → a < 3 → rk_uo G r W i j a v → v < 50000 → W (rk_nd i j a) ≤ v) ∧ (∀ i j a, i < j → j ≤ n → a < 3 → W (rk_nd i j a) < 50000 → rk_uo G r W i j a (W (rk_nd i j a)))
theorem rk_op_bd {G : rk_G} (ok : rk_ok G) {k i j v : Nat} (hi : i < j) (hj : j ≤ 5) (h : rk_op G k i j v) (hv : v < 100000) : v + 50 ≤ 100 * (j - i) := by
  have p5 := (ok k).2.2.2.2.1
  rcases h with h | ⟨_, m, h1, h2, rfl⟩
  · omega
  · unfold rk_sum at hv ⊢
    have a1 := rk_lst_bd ok (a := rk_f G k) h1 (by omega)
    have a2 := rk_lst_bd ok (a := rk_e G k) h2 (by omega)
    omega
theorem rk_W_bd {G : rk_G} (ok : rk_ok G) {n r : Nat} (hn : n ≤ 5) {W : Nat → Nat} (A : rk_AY G n r W) : ∀ d i j a, i < j → j ≤ n → j ≤ i + d → a < 3 → W (rk_nd i j a) < 50000 → W (rk_nd i j a) + 50 ≤ 100 * (j - i)
  | 0, i, j, a, h1, h2, h3, h4, h5 => absurd h1 (by omega)
  | d + 1, i, j, a, h1, h2, h3, h4, h5 => by
    obtain ⟨k, k8, es, q | ⟨k1, m, m1, m2, q⟩⟩ := A.2.2 i j a h1 h2 h4 h5
    · exact rk_op_bd ok h1 (by omega) q.2 (by omega)
    · obtain ⟨p1, p2, p3, p4, p5, p6, p7, p8, p9⟩ := ok k
      rcases q with q | q
      · have a2 := rk_lst_bd ok (a := rk_e G k) m2 (by omega)
        have ih := rk_W_bd ok hn A d i m (rk_f G k) m1 (by omega) (by omega) (by omega) (by omega)
        omega
      · have a2 := rk_lst_bd ok (a := rk_f G k) m1 (by omega)
        have ih := rk_W_bd ok hn A d m j (rk_e G k) m2 (by omega) (by omega) (by omega) (by omega)
        omega
section
variable {G : rk_G} {n a0 r B : Nat} {O W : Nat → Nat}
theorem rk_O_bd (ok : rk_ok G) (hn : n ≤ 5) (I : rk_OI G n a0 1 (fun _ _ _ _ => True) O) : ∀ d i j a, i < j → j ≤ n → n ≤ (j - i) + d → a < 3 → O (rk_nd i j a) < 100000 → O (rk_nd i j a) ≤ 100 * (n - (j - i)) := by
  intro d
  induction d with
  | zero =>
    intro i j a h1 h2 h3 h4 h5
    rcases I.2.2.2 i j a h1 h2 h4 h5 with q | ⟨k, q1, q2, ⟨j', q⟩ | ⟨i', q⟩⟩
    · omega
    · omega
    · omega
  | succ d ih =>
    intro i j a h1 h2 h3 h4 h5
    rcases I.2.2.2 i j a h1 h2 h4 h5 with q | ⟨k, q1, q2, ⟨j', q⟩ | ⟨i', q⟩⟩
    · omega
    · have p5 := (ok k).2.2.2.2.1
      have := ih i j' (rk_s G k) (by omega) (by omega) (by omega) (by have := (ok k).2.1; omega) (by omega)
      have a2 := rk_lst_bd ok (a := rk_e G k) q.1 (by omega)
      omega
    · have p5 := (ok k).2.2.2.2.1
      have := ih i' j (rk_s G k) (by omega) (by omega) (by omega) (by have := (ok k).2.1; omega) (by omega)
      have a2 := rk_lst_bd ok (a := rk_f G k) q.1 (by omega)
      omega
theorem rk_w1 (ok : rk_ok G) (hn : n ≤ 5) (I : rk_OI G n a0 1 (fun _ _ _ _ => True) O) (A : rk_AY G n r W) : ∀ d i j a, i < j → j ≤ n → n ≤ (j - i) + d → a < 3 → O (rk_nd i j a) < 100000 → W (rk_nd i j a) < 50000 → W (rk_nd 0 n a0) ≤ O (rk_nd i j a) + W (rk_nd i j a) := by
  intro d
  induction d with
  | zero =>
    intro i j a h1 h2 h3 h4 h5 h6
    rcases I.2.2.2 i j a h1 h2 h4 h5 with ⟨rfl, rfl, rfl, _⟩ | ⟨k, q1, q2, ⟨j', q⟩ | ⟨i', q⟩⟩
    · omega
    · omega
    · omega
  | succ d ih =>
    intro i j a h1 h2 h3 h4 h5 h6
    have wb := rk_W_bd ok hn A 5 i j a h1 h2 (by omega) h4 h6
    rcases I.2.2.2 i j a h1 h2 h4 h5 with ⟨rfl, rfl, rfl, _⟩ | ⟨k, q1, q2, ⟨j', q⟩ | ⟨i', q⟩⟩
    · omega
    · obtain ⟨p1, p2, p3, p4, p5, p6, p7, p8, p9⟩ := ok k
      have a2 := rk_lst_bd ok (a := rk_e G k) q.1 (by omega)
      obtain ⟨e1, e2, e3, rfl, e4⟩ := q
      have wl := A.2.1 i j' (rk_s G k) (rk_p G k + W (rk_nd i j (rk_f G k)) + rk_lst G j j' (rk_e G k)) (by omega) e2 (by omega) ⟨k, q1, rfl, Or.inr ⟨q2, j, h1, e1, Or.inl rfl⟩⟩ (by omega)
      have := ih i j' (rk_s G k) (by omega) e2 (by omega) (by omega) (by omega) (by omega)
      omega
    · obtain ⟨p1, p2, p3, p4, p5, p6, p7, p8, p9⟩ := ok k
      have a2 := rk_lst_bd ok (a := rk_f G k) q.1 (by omega)
      obtain ⟨e1, e2, rfl, e4⟩ := q
      have wl := A.2.1 i' j (rk_s G k) (rk_p G k + rk_lst G i' i (rk_f G k) + W (rk_nd i j (rk_e G k))) (by omega) h2 (by omega) ⟨k, q1, rfl, Or.inr ⟨q2, i, e1, h1, Or.inr rfl⟩⟩ (by omega)
      have := ih i' j (rk_s G k) (by omega) h2 (by omega) (by omega) (by omega) (by omega)
      omega
theorem rk_w2 (ok : rk_ok G) (hn : n ≤ 5) (I : rk_OI G n a0 1 (fun _ _ _ _ => True) O) (A : rk_AY G n r W) (X : rk_AX G n r O B) : ∀ d i j a, i < j → j ≤ n → j ≤ i + d → a < 3 → O (rk_nd i j a) < 100000 → W (rk_nd i j a) < 50000 → B ≤ O (rk_nd i j a) + W (rk_nd i j a) := by
  intro d
  induction d with
  | zero => intro i j a h1 h2 h3; omega
  | succ d ih =>
    intro i j a h1 h2 h3 h4 h5 h6
    have ob := rk_O_bd ok hn I 5 i j a h1 h2 (by omega) h4 h5
    obtain ⟨k, k8, es, q | ⟨k1, m, m1, m2, q⟩⟩ := A.2.2 i j a h1 h2 h4 h6
    · obtain ⟨rfl, q⟩ := q
      subst es
      exact X.2.1 i j _ h1 h2 h5 q
    · obtain ⟨p1, p2, p3, p4, p5, p6, p7, p8, p9⟩ := ok k
      subst es
      have o2 := I.2.2.1 k i m j k8 k1 m1 m2 h2 trivial
      unfold rk_O2 at o2
      rcases q with q | q
      · have a2 := rk_lst_bd ok (a := rk_e G k) m2 (by omega)
        have := ih i m (rk_f G k) m1 (by omega) (by omega) (by omega) (by omega) (by omega)
        omega
      · have a2 := rk_lst_bd ok (a := rk_f G k) m1 (by omega)
        have := ih m j (rk_e G k) m2 (by omega) (by omega) (by omega) (by omega) (by omega)
        omega
/-- the two answers are one -/
theorem rk_with (ok : rk_ok G) (hn : n ≤ 5) (h0 : 0 < n) (ha0 : a0 < 3) (hr : r < 8) (I : rk_OI G n a0 1 (fun _ _ _ _ => True) O) (A : rk_AY G n r W) (X : rk_AX G n r O B) : (B < 100000 ∧ W (rk_nd 0 n a0) < 50000 ∧ B = W (rk_nd 0 n a0)) ∨ (B = 100000 ∧ W (rk_nd 0 n a0) = 100000) := by
  have o2 := (ok r).2.1
  have rt := I.2.1
  have key : B < 100000 → W (rk_nd 0 n a0) ≤ B ∧ W (rk_nd 0 n a0) < 50000 := by
    intro hB
    obtain ⟨i, j, x, x1, x2, x3, x4, x5⟩ := X.2.2 hB
    have xb := rk_op_bd ok x1 (by omega) x4 (by omega)
    have wl := A.2.1 i j (rk_s G r) x x1 x2 (by omega) ⟨r, hr, rfl, Or.inl ⟨rfl, x4⟩⟩ (by omega)
    have ob := rk_O_bd ok hn I 5 i j (rk_s G r) x1 x2 (by omega) (by omega) x3
    have := rk_w1 ok hn I A 5 i j (rk_s G r) x1 x2 (by omega) (by omega) x3 (by omega)
    omega
  have hB := X.1
  rcases A.1 0 n a0 h0 (Nat.le_refl n) ha0 with w | w
  · have := rk_w2 ok hn I A X 5 0 n a0 h0 (Nat.le_refl n) (by omega) ha0 (by omega) w
    have := key (by omega)
    exact Or.inl ⟨by omega, w, by omega⟩
  · refine Or.inr ⟨?_, w⟩
    apply Classical.byContradiction
    intro q
    have := key (by omega)
    omega
end
end
section
/-! the component: spreadOut -/
def rx_Ou (ou : Nat → Int32) (O : Nat → Nat) : Prop := ∀ c, c < 108 → ou c = nI (O c)
def rx_Q (d i k m : Nat) : Nat → Nat → Nat → Nat → Prop := fun k' i' m' j' => i' + d < j' ∨ (j' = i' + d ∧ (i' < i ∨ (i' = i ∧ (k' < k ∨ (k' = k ∧ m' < m)))))
theorem rx_Ou_upd {ou : Nat → Int32} {O O' : Nat → Nat} {c v : Nat} (h : rx_Ou ou O) (h1 : O' c = v) (h2 : ∀ c', c' ≠ c → O' c' = O c') : rx_Ou (upd ou c (nI v)) O' := fun c' hc' => by
  by_cases e : c' = c
  · subst e; rw [pk_us, h1]
  · rw [pk_un e, h2 c' e]; exact h c' hc'
section
variable {G : rk_G} {R n a0 : Nat} {tw : Nat → Int32}
theorem rx_spreadRule {post : SX → Prop} (ok : rk_ok G) (hR : rk_rs G R) (hn : n ≤ 5) (ha0 : a0 < 3) {d : Nat} {Q Q' : Nat → Nat → Nat → Nat → Prop} {O : Nat → Nat} {z : rx_Z} {ou : Nat → Int32} (C : rx_C G n z) (I : rk_OI G n a0 d Q O) (hou : rx_Ou ou O) (hQd : ∀ k i m j, Q k i m j → i + d ≤ j)
    {k i m j : Nat} (hk : k < 8) (hk1 : rk_k G k = 1) (him : i < m) (hmj : m < j) (hj : j ≤ n) (hd : j = i + d)
    (hQ : ∀ k' i' m' j', Q' k' i' m' j' → Q k' i' m' j' ∨ (k' = k ∧ i' = i ∧ m' = m ∧ j' = j))
    (K : ∀ z' ou' O', rx_C G n z' → rx_Ou ou' O' → rk_OI G n a0 d Q' O' → post (rx_S G R n z' ou' tw)) : wpX_spreadRule post (rx_S G R n z ou tw) (nI k) (nI i) (nI m) (nI j) := by
  obtain ⟨o1, o2, o3, o4, o5, o6, o7, o8, o9⟩ := ok k
  have i8 : vp_in (nI k) 8 := vp_in_nI hk (by decide)
  have pn : rk_nd i j (rk_s G k) < 108 := rk_nd_lt (by omega) (by omega) (by omega)
  have ln : rk_nd i m (rk_f G k) < 108 := rk_nd_lt him (by omega) (by omega)
  have rn : rk_nd m j (rk_e G k) < 108 := rk_nd_lt hmj (by omega) (by omega)
  have lr : rk_nd i m (rk_f G k) ≠ rk_nd m j (rk_e G k) := fun z => by
    have := rk_nd_inj (by omega) (by omega) (by omega) (by omega) z; omega
  have bl := rk_lst_bd ok (a := rk_f G k) him (by omega)
  have br := rk_lst_bd ok (a := rk_e G k) hmj (by omega)
  have bp := I.1 _ pn
  have fin : ∀ z' ou1 O1, rx_C G n z' → rx_Ou ou1 O1 → ((O (rk_nd i m (rk_f G k)) ≤ O (rk_nd i j (rk_s G k)) + rk_p G k + rk_lst G m j (rk_e G k) ∧ O1 (rk_nd i m (rk_f G k)) = O (rk_nd i m (rk_f G k))) ∨ (O (rk_nd i j (rk_s G k)) + rk_p G k + rk_lst G m j (rk_e G k) < O (rk_nd i m (rk_f G k)) ∧ O1 (rk_nd i m (rk_f G k)) = O (rk_nd i j (rk_s G k)) + rk_p G k + rk_lst G m j (rk_e G k))) → (∀ c, c ≠ rk_nd i m (rk_f G k) → O1 c = O c) →
      wX_spreadRule_96 post (nI (rk_nd m j (rk_e G k))) (nI (O (rk_nd i j (rk_s G k)) + rk_p G k + rk_lst G i m (rk_f G k))) (nI R) (nI n) z'.1 z'.2.1 z'.2.2.1 z'.2.2.2.1 z'.2.2.2.2.1 z'.2.2.2.2.2.1 (rk_a (rk_s G)) (rk_a (rk_f G)) (rk_a (rk_c G)) (rk_a (rk_p G)) (rk_a (rk_r G)) z'.2.2.2.2.2.2.1 z'.2.2.2.2.2.2.2.1 z'.2.2.2.2.2.2.2.2.1 z'.2.2.2.2.2.2.2.2.2.1 z'.2.2.2.2.2.2.2.2.2.2.1 z'.2.2.2.2.2.2.2.2.2.2.2 ou1 tw := by
    intro z' ou1 O1 C' h1 hL h2
    have i1 : vp_in (nI (rk_nd m j (rk_e G k))) 108 := vp_in_nI rn (by decide)
    have ec : (nI (rk_nd m j (rk_e G k))).toNatClampNeg = rk_nd m j (rk_e G k) := nI_clamp (by omega)
    have er : O1 (rk_nd m j (rk_e G k)) = O (rk_nd m j (rk_e G k)) := h2 _ lr.symm
    have bR := I.1 _ rn
    refine ⟨i1, pk_le (O (rk_nd m j (rk_e G k))) (O (rk_nd i j (rk_s G k)) + rk_p G k + rk_lst G i m (rk_f G k)) (fun q => K z' ou1 O1 C' h1 (rk_OI_step ok hn ha0 I hQd hk hk1 him hmj hj hd hL (Or.inl ⟨q, er⟩) (fun c c1 _ => h2 c c1) hQ)) (fun q => ⟨i1, nm_r (e' := upd ou1 (rk_nd m j (rk_e G k)) (nI (O (rk_nd i j (rk_s G k)) + rk_p G k + rk_lst G i m (rk_f G k)))) (by rw [ec]) ?_⟩) (by rw [ec]; exact (h1 _ rn).trans (congrArg nI er)) rfl⟩
    refine K z' _ (fun c => if c = rk_nd m j (rk_e G k) then O (rk_nd i j (rk_s G k)) + rk_p G k + rk_lst G i m (rk_f G k) else O1 c) C' (rx_Ou_upd h1 (if_pos rfl) fun c' hc' => if_neg hc') (rk_OI_step ok hn ha0 I hQd hk hk1 him hmj hj hd ?_ (Or.inr ⟨q, if_pos rfl⟩) (fun c c1 c2 => (if_neg c2).trans (h2 c c1)) hQ)
    rcases hL with q | q
    · exact Or.inl ⟨q.1, (if_neg lr).trans q.2⟩
    · exact Or.inr ⟨q.1, (if_neg lr).trans q.2⟩
  refine ⟨i8, rx_node (i := i) (j := j) (a := rk_s G k) rfl rfl (rk_at (f := rk_s G) (by omega)) ⟨vp_in_nI pn (by decide), i8, nm_r (e' := nI (O (rk_nd i j (rk_s G k)) + rk_p G k)) ?_ ⟨i8, rx_node (i := i) (j := m) (a := rk_f G k) rfl rfl (rk_at (f := rk_f G) (by omega)) ⟨i8, rx_node (i := m) (j := j) (a := rk_e G k) rfl rfl ((rk_at (f := rk_c G) (by omega)).trans (congrArg nI (o9 hk1))) ?_⟩⟩⟩⟩
  · show ou (nI (rk_nd i j (rk_s G k))).toNatClampNeg + rk_a (rk_p G) (nI k).toNatClampNeg = _
    rw [rk_at (by omega), nI_clamp (by omega), hou _ pn, nI_add]
  · refine rx_inner (G := G) (R := R) (n := n) (z := z) ok hR hn C hmj hj (by omega) fun z1 C1 => nm_r (nI_add _ _) ?_
    refine rx_inner (G := G) (R := R) (n := n) (z := z1) ok hR hn C1 him (by omega) (by omega) fun z2 C2 => nm_r (nI_add _ _) ?_
    have i1 : vp_in (nI (rk_nd i m (rk_f G k))) 108 := vp_in_nI ln (by decide)
    have ec : (nI (rk_nd i m (rk_f G k))).toNatClampNeg = rk_nd i m (rk_f G k) := nI_clamp (by omega)
    have bL := I.1 _ ln
    refine ⟨i1, pk_le (O (rk_nd i m (rk_f G k))) (O (rk_nd i j (rk_s G k)) + rk_p G k + rk_lst G m j (rk_e G k)) (fun q => fin z2 ou O C2 hou (Or.inl ⟨q, rfl⟩) fun _ _ => rfl) (fun q => ⟨i1, nm_r (e' := upd ou (rk_nd i m (rk_f G k)) (nI (O (rk_nd i j (rk_s G k)) + rk_p G k + rk_lst G m j (rk_e G k)))) (by rw [ec]) ?_⟩) (by rw [ec]; exact hou _ ln) rfl⟩
    exact fin z2 _ (fun c => if c = rk_nd i m (rk_f G k) then O (rk_nd i j (rk_s G k)) + rk_p G k + rk_lst G m j (rk_e G k) else O c) C2 (rx_Ou_upd hou (if_pos rfl) fun c' hc' => if_neg hc') (Or.inr ⟨q, if_pos rfl⟩) fun c hc => if_neg hc
theorem rx_sf31 {post : SX → Prop} {J2 : Int32 → Int32 → Int32 → Int32 → Int32 → Int32 → Int32 → Int32 → Int32 → (Nat → Int32) → (Nat → Int32) → (Nat → Int32) → (Nat → Int32) → (Nat → Int32) → (Nat → Int32) → (Nat → Int32) → (Nat → Int32) → (Nat → Int32) → (Nat → Int32) → (Nat → Int32) → (Nat → Int32) → (Nat → Int32) → Prop}
    (ok : rk_ok G) (hR : rk_rs G R) (hn : n ≤ 5) (ha0 : a0 < 3) {d k i j : Nat} (hk : k < 8) (hk1 : rk_k G k = 1) (hj : j ≤ n) (hd : j = i + d)
    (K : ∀ z ou O, rx_C G n z → rx_Ou ou O → rk_OI G n a0 d (rx_Q d i (k + 1) 0) O → J2 (nI (k + 1)) (nI R) (nI n) z.1 z.2.1 z.2.2.1 z.2.2.2.1 z.2.2.2.2.1 z.2.2.2.2.2.1 (rk_a (rk_s G)) (rk_a (rk_f G)) (rk_a (rk_c G)) (rk_a (rk_p G)) (rk_a (rk_r G)) z.2.2.2.2.2.2.1 z.2.2.2.2.2.2.2.1 z.2.2.2.2.2.2.2.2.1 z.2.2.2.2.2.2.2.2.2.1 z.2.2.2.2.2.2.2.2.2.2.1 z.2.2.2.2.2.2.2.2.2.2.2 ou tw) :
    ∀ e m, m + e = j → i < m → ∀ z ou O, rx_C G n z → rx_Ou ou O → rk_OI G n a0 d (rx_Q d i k m) O → wX_spreadFrom_31 post J2 (nI i) (nI j) (nI k) (e + 1) (nI m) (nI R) (nI n) z.1 z.2.1 z.2.2.1 z.2.2.2.1 z.2.2.2.2.1 z.2.2.2.2.2.1 (rk_a (rk_s G)) (rk_a (rk_f G)) (rk_a (rk_c G)) (rk_a (rk_p G)) (rk_a (rk_r G)) z.2.2.2.2.2.2.1 z.2.2.2.2.2.2.2.1 z.2.2.2.2.2.2.2.2.1 z.2.2.2.2.2.2.2.2.2.1 z.2.2.2.2.2.2.2.2.2.2.1 z.2.2.2.2.2.2.2.2.2.2.2 ou tw := by
  intro e
  induction e with
  | zero =>
    intro m hm him z ou O C h I
    have e : m = j := by omega
    subst e
    refine br_t (nI_le (Nat.le_refl _) (by omega)) (nm_r (nI_1 k) (K z ou O C h (rk_OI_up I (Nat.le_refl d) fun k' i' m' j' a1 a2 a3 a4 a5 q => ?_)))
    unfold rx_Q at q ⊢
    omega
  | succ e ih =>
    intro m hm him z ou O C h I
    refine br_f (nI_ge (by omega) (by omega)) ?_
    refine rx_spreadRule (G := G) (R := R) (n := n) (z := z) (ou := ou) (tw := tw) (Q' := rx_Q d i k (m + 1)) ok hR hn ha0 C I h (fun k' i' m' j' q => ?_) hk hk1 him (by omega) hj hd (fun k' i' m' j' q => ?_) fun z' ou' O' C' h' I' => nm_r (nI_1 m) (ih (m + 1) (by omega) (by omega) z' ou' O' C' h' I')
    · unfold rx_Q at q; omega
    · unfold rx_Q at q ⊢; omega
theorem rx_sf2 {post : SX → Prop} (ok : rk_ok G) (hR : rk_rs G R) (hn : n ≤ 5) (ha0 : a0 < 3) {d i j : Nat} (hi : i < j) (hj : j ≤ n) (hd : j = i + d)
    (K : ∀ z ou O, rx_C G n z → rx_Ou ou O → rk_OI G n a0 d (rx_Q d (i + 1) 0 0) O → post (rx_S G R n z ou tw)) :
    ∀ e k, k + e = 8 → ∀ z ou O, rx_C G n z → rx_Ou ou O → rk_OI G n a0 d (rx_Q d i k 0) O → wX_spreadFrom_2 post (nI i) (nI j) (e + 1) (nI k) (nI R) (nI n) z.1 z.2.1 z.2.2.1 z.2.2.2.1 z.2.2.2.2.1 z.2.2.2.2.2.1 (rk_a (rk_s G)) (rk_a (rk_f G)) (rk_a (rk_c G)) (rk_a (rk_p G)) (rk_a (rk_r G)) z.2.2.2.2.2.2.1 z.2.2.2.2.2.2.2.1 z.2.2.2.2.2.2.2.2.1 z.2.2.2.2.2.2.2.2.2.1 z.2.2.2.2.2.2.2.2.2.2.1 z.2.2.2.2.2.2.2.2.2.2.2 ou tw := by
  intro e
  induction e with
  | zero =>
    intro k hk z ou O C h I
    have e : k = 8 := by omega
    subst e
    refine br_t (by decide) (K z ou O C h (rk_OI_up I (Nat.le_refl d) fun k' i' m' j' a1 a2 a3 a4 a5 q => ?_))
    unfold rx_Q at q ⊢
    omega
  | succ e ih =>
    intro k hk z ou O C h I
    obtain ⟨o1, o2, o3, o4, o5, o6, o7, o8, o9⟩ := ok k
    have i8 : vp_in (nI k) 8 := vp_in_nI (by omega) (by decide)
    have skip : rk_k G k ≠ 1 → wX_spreadFrom_2 post (nI i) (nI j) (e + 1) (nI (k + 1)) (nI R) (nI n) z.1 z.2.1 z.2.2.1 z.2.2.2.1 z.2.2.2.2.1 z.2.2.2.2.2.1 (rk_a (rk_s G)) (rk_a (rk_f G)) (rk_a (rk_c G)) (rk_a (rk_p G)) (rk_a (rk_r G)) z.2.2.2.2.2.2.1 z.2.2.2.2.2.2.2.1 z.2.2.2.2.2.2.2.2.1 z.2.2.2.2.2.2.2.2.2.1 z.2.2.2.2.2.2.2.2.2.2.1 z.2.2.2.2.2.2.2.2.2.2.2 ou tw := fun k1 => ih (k + 1) (by omega) z ou O C h (rk_OI_up I (Nat.le_refl d) fun k' i' m' j' a1 a2 a3 a4 a5 q => by
      have : k' ≠ k := fun z => k1 (z ▸ a2)
      unfold rx_Q at q ⊢
      omega)
    refine br_f (nI_ge (b := 8) (by omega) (by decide)) (rx_has hR (by omega) (fun k0 => br_t rfl (nm_r (nI_1 k) (skip (by omega)))) (fun k0 => br_f (by decide) ⟨i8, pk_eq (rk_c G k) 3 (fun c3 => nm_r (nI_1 k) (skip fun z => by have := o9 z; omega)) (fun c3 => nm_r (nI_1 i) ⟨j - (i + 1) + 1, ?_⟩) (rk_at (f := rk_c G) (by omega)) rfl⟩))
    have k1 : rk_k G k = 1 := by
      by_cases z : rk_k G k = 2
      · exact absurd (o8 z) c3
      · omega
    refine rx_sf31 ok hR hn ha0 (by omega) k1 hj hd (fun z ou O C h I => ih (k + 1) (by omega) z ou O C h I) (j - (i + 1)) (i + 1) (by omega) (by omega) z ou O C h (rk_OI_up I (Nat.le_refl d) fun k' i' m' j' a1 a2 a3 a4 a5 q => ?_)
    unfold rx_Q at q ⊢
    omega
theorem rx_so49 {post : SX → Prop} {J42 : Int32 → Int32 → Int32 → Int32 → Int32 → Int32 → Int32 → Int32 → Int32 → (Nat → Int32) → (Nat → Int32) → (Nat → Int32) → (Nat → Int32) → (Nat → Int32) → (Nat → Int32) → (Nat → Int32) → (Nat → Int32) → (Nat → Int32) → (Nat → Int32) → (Nat → Int32) → (Nat → Int32) → (Nat → Int32) → Prop}
    (ok : rk_ok G) (hR : rk_rs G R) (hn : n ≤ 5) (ha0 : a0 < 3) {d : Nat} (hd : d + 1 ≤ 5)
    (K : ∀ z ou O, rx_C G n z → rx_Ou ou O → rk_OI G n a0 d (rx_Q d 0 0 0) O → J42 (nI d) (nI R) (nI n) z.1 z.2.1 z.2.2.1 z.2.2.2.1 z.2.2.2.2.1 z.2.2.2.2.2.1 (rk_a (rk_s G)) (rk_a (rk_f G)) (rk_a (rk_c G)) (rk_a (rk_p G)) (rk_a (rk_r G)) z.2.2.2.2.2.2.1 z.2.2.2.2.2.2.2.1 z.2.2.2.2.2.2.2.2.1 z.2.2.2.2.2.2.2.2.2.1 z.2.2.2.2.2.2.2.2.2.2.1 z.2.2.2.2.2.2.2.2.2.2.2 ou tw) :
    ∀ e i, i + e = 6 → ∀ z ou O, rx_C G n z → rx_Ou ou O → rk_OI G n a0 (d + 1) (rx_Q (d + 1) i 0 0) O → wX_spreadOut_49 post J42 (nI (d + 1)) (e + 1) (nI i) (nI R) (nI n) z.1 z.2.1 z.2.2.1 z.2.2.2.1 z.2.2.2.2.1 z.2.2.2.2.2.1 (rk_a (rk_s G)) (rk_a (rk_f G)) (rk_a (rk_c G)) (rk_a (rk_p G)) (rk_a (rk_r G)) z.2.2.2.2.2.2.1 z.2.2.2.2.2.2.2.1 z.2.2.2.2.2.2.2.2.1 z.2.2.2.2.2.2.2.2.2.1 z.2.2.2.2.2.2.2.2.2.2.1 z.2.2.2.2.2.2.2.2.2.2.2 ou tw := by
  have out : ∀ i z ou O, n < i + (d + 1) → rx_C G n z → rx_Ou ou O → rk_OI G n a0 (d + 1) (rx_Q (d + 1) i 0 0) O → J42 (nI d) (nI R) (nI n) z.1 z.2.1 z.2.2.1 z.2.2.2.1 z.2.2.2.2.1 z.2.2.2.2.2.1 (rk_a (rk_s G)) (rk_a (rk_f G)) (rk_a (rk_c G)) (rk_a (rk_p G)) (rk_a (rk_r G)) z.2.2.2.2.2.2.1 z.2.2.2.2.2.2.2.1 z.2.2.2.2.2.2.2.2.1 z.2.2.2.2.2.2.2.2.2.1 z.2.2.2.2.2.2.2.2.2.2.1 z.2.2.2.2.2.2.2.2.2.2.2 ou tw := fun i z ou O q C h I => K z ou O C h (rk_OI_up I (by omega) fun k' i' m' j' a1 a2 a3 a4 a5 q => by
    unfold rx_Q at q ⊢
    omega)
  intro e
  induction e with
  | zero =>
    intro i hi z ou O C h I
    exact pk_lt n (i + (d + 1)) (fun q => nm_r (pk_m1 d) (out i z ou O q C h I)) (fun q => absurd q (by omega)) rfl (nI_add i (d + 1))
  | succ e ih =>
    intro i hi z ou O C h I
    refine pk_lt n (i + (d + 1)) (fun q => nm_r (pk_m1 d) (out i z ou O q C h I)) (fun q => ?_) rfl (nI_add i (d + 1))
    rw [nI_add]
    exact ⟨9, rx_sf2 (G := G) (R := R) (n := n) ok hR hn ha0 (by omega) q rfl (fun z' ou' O' C' h' I' => nm_r (nI_1 i) (ih (i + 1) (by omega) z' ou' O' C' h' I')) 8 0 rfl z ou O C h I⟩
theorem rx_so42 {post : SX → Prop} (ok : rk_ok G) (hR : rk_rs G R) (hn : n ≤ 5) (ha0 : a0 < 3) (K : ∀ z ou O, rx_C G n z → rx_Ou ou O → rk_OI G n a0 1 (fun _ _ _ _ => True) O → post (rx_S G R n z ou tw)) :
    ∀ e, e ≤ 4 → ∀ z ou O, rx_C G n z → rx_Ou ou O → rk_OI G n a0 (e + 1) (rx_Q (e + 1) 0 0 0) O → wX_spreadOut_42 post (e + 1) (nI (e + 1)) (nI R) (nI n) z.1 z.2.1 z.2.2.1 z.2.2.2.1 z.2.2.2.2.1 z.2.2.2.2.2.1 (rk_a (rk_s G)) (rk_a (rk_f G)) (rk_a (rk_c G)) (rk_a (rk_p G)) (rk_a (rk_r G)) z.2.2.2.2.2.2.1 z.2.2.2.2.2.2.2.1 z.2.2.2.2.2.2.2.2.1 z.2.2.2.2.2.2.2.2.2.1 z.2.2.2.2.2.2.2.2.2.2.1 z.2.2.2.2.2.2.2.2.2.2.2 ou tw := by
  intro e
  induction e with
  | zero =>
    intro he z ou O C h I
    refine br_t (by decide) (K z ou O C h (rk_OI_up I (Nat.le_refl 1) fun k' i' m' j' a1 a2 a3 a4 a5 q => ?_))
    unfold rx_Q
    omega
  | succ e ih =>
    intro he z ou O C h I
    exact br_f (nI_ge (b := e + 1 + 1) (a := 1) (by omega) (by omega)) ⟨7, rx_so49 ok hR hn ha0 (by omega) (fun z' ou' O' C' h' I' => ih (by omega) z' ou' O' C' h' I') 6 0 rfl z ou O C h I⟩
theorem rx_so2 {post : SX → Prop} (ok : rk_ok G) (hR : rk_rs G R) (h0 : 0 < n) (hn : n ≤ 5) (ha0 : a0 < 3) {z : rx_Z} (C : rx_C G n z) (K : ∀ z ou O, rx_C G n z → rx_Ou ou O → rk_OI G n a0 1 (fun _ _ _ _ => True) O → post (rx_S G R n z ou tw)) :
    ∀ e c, c + e = 108 → ∀ ou, (∀ c', c' < c → ou c' = nI 100000) → wX_spreadOut_2 post (nI a0) (nI R) (nI n) z.1 z.2.1 z.2.2.1 z.2.2.2.1 z.2.2.2.2.1 z.2.2.2.2.2.1 (e + 1) (nI c) (rk_a (rk_s G)) (rk_a (rk_f G)) (rk_a (rk_c G)) (rk_a (rk_p G)) (rk_a (rk_r G)) z.2.2.2.2.2.2.1 z.2.2.2.2.2.2.2.1 z.2.2.2.2.2.2.2.2.1 z.2.2.2.2.2.2.2.2.2.1 z.2.2.2.2.2.2.2.2.2.2.1 z.2.2.2.2.2.2.2.2.2.2.2 ou tw := by
  intro e
  induction e with
  | zero =>
    intro c hc ou h
    have e : c = 108 := by omega
    subst e
    have nn : rk_nd 0 n a0 < 108 := rk_nd_lt h0 hn ha0
    refine br_t (by decide) (rx_node (i := 0) (j := n) (a := a0) rfl rfl rfl ⟨vp_in_nI nn (by decide), nm_r (e' := upd ou (rk_nd 0 n a0) (nI 0)) (by rw [nI_clamp (by omega)]; rfl) ⟨n, ?_⟩⟩)
    obtain ⟨n', rfl⟩ : ∃ n', n = n' + 1 := ⟨n - 1, by omega⟩
    refine rx_so42 ok hR hn ha0 K n' (by omega) z _ (fun c => if c = rk_nd 0 (n' + 1) a0 then 0 else 100000) C (fun c' hc' => ?_) ⟨fun c _ => ?_, if_pos rfl, fun k i m j a1 a2 a3 a4 a5 q => ?_, fun i j a a1 a2 a3 a4 => ?_⟩
    · show _ = nI (if c' = rk_nd 0 (n' + 1) a0 then 0 else 100000)
      by_cases e : c' = rk_nd 0 (n' + 1) a0
      · subst e; rw [pk_us, if_pos rfl]
      · rw [pk_un e, if_neg e]; exact h c' hc'
    · dsimp only
      split <;> omega
    · unfold rx_Q at q
      omega
    · by_cases e : rk_nd i j a = rk_nd 0 (n' + 1) a0
      · have := rk_nd_inj (by omega) a3 (by omega) ha0 e
        exact Or.inl ⟨this.1, this.2.1, this.2.2, if_pos e⟩
      · dsimp only at a4
        rw [if_neg e] at a4
        exact absurd a4 (by omega)
  | succ e ih =>
    intro c hc ou h
    refine br_f (nI_ge (b := 108) (by omega) (by decide)) ⟨vp_in_nI (by omega) (by decide), nm_r (e' := upd ou c (nI 100000)) (by rw [nI_clamp (by omega)]; rfl) (nm_r (nI_1 c) (ih (c + 1) (by omega) _ fun c' h' => ?_))⟩
    by_cases s : c' = c
    · subst s; exact pk_us
    · rw [pk_un s]; exact h c' (by omega)
theorem rx_spreadOut {post : SX → Prop} (ok : rk_ok G) (hR : rk_rs G R) (h0 : 0 < n) (hn : n ≤ 5) (ha0 : a0 < 3) {z : rx_Z} {ou : Nat → Int32} (C : rx_C G n z) (K : ∀ z ou O, rx_C G n z → rx_Ou ou O → rk_OI G n a0 1 (fun _ _ _ _ => True) O → post (rx_S G R n z ou tw)) : wpX_spreadOut post (rx_S G R n z ou tw) (nI a0) :=
  ⟨109, rx_so2 ok hR h0 hn ha0 C K 108 0 rfl ou fun _ h => absurd h (by omega)⟩
end
end
section
/-! the component: cheapest, costWith -/
def rk_chp (G : rk_G) (k i j v : Nat) : Prop := v ≤ 100000 ∧ (∀ x, rk_op G k i j x → v ≤ x) ∧ (v < 100000 → rk_op G k i j v)
section
variable {G : rk_G} {R n : Nat} {ou tw : Nat → Int32} {post : Int32 → SX → Prop}
theorem rx_ch53 (ok : rk_ok G) (hR : rk_rs G R) (hn : n ≤ 5) {k i j : Nat} (hk : k < 8) (hk1 : rk_k G k = 1) (hj : j ≤ n)
    (K : ∀ v z', rx_C G n z' → rk_chp G k i j v → post (nI v) (rx_S G R n z' ou tw)) :
    ∀ d m, m + d = j → i < m → ∀ v z, rx_C G n z → v ≤ 100000 → (∀ m', i < m' → m' < m → v ≤ rk_sum G k i m' j) → (v < 100000 → ∃ m', i < m' ∧ m' < m ∧ v = rk_sum G k i m' j) → wX_cheapest_53 post (nI k) (nI i) (nI j) (d + 1) (nI v) (nI m) (nI R) (nI n) z.1 z.2.1 z.2.2.1 z.2.2.2.1 z.2.2.2.2.1 z.2.2.2.2.2.1 (rk_a (rk_s G)) (rk_a (rk_f G)) (rk_a (rk_c G)) (rk_a (rk_p G)) (rk_a (rk_r G)) z.2.2.2.2.2.2.1 z.2.2.2.2.2.2.2.1 z.2.2.2.2.2.2.2.2.1 z.2.2.2.2.2.2.2.2.2.1 z.2.2.2.2.2.2.2.2.2.2.1 z.2.2.2.2.2.2.2.2.2.2.2 ou tw := by
  intro d
  induction d with
  | zero =>
    intro m hm him v z C h1 h2 h3
    have e : m = j := by omega
    subst e
    refine br_t (nI_le (Nat.le_refl _) (by omega)) (K v z C ⟨h1, fun x hx => ?_, fun hv => Or.inr ⟨hk1, h3 hv⟩⟩)
    rcases hx with q | ⟨_, m', q1, q2, rfl⟩
    · omega
    · exact h2 m' q1 q2
  | succ d ih =>
    intro m hm him v z C h1 h2 h3
    have p5 := (ok k).2.2.2.2.1
    have a1 := rk_lst_bd ok (a := rk_f G k) him (by omega)
    have a2 := rk_lst_bd ok (a := rk_e G k) (i := m) (j := j) (by omega) (by omega)
    have hs : rk_sum G k i m j < 2 ^ 31 := by
      unfold rk_sum
      omega
    refine br_f (nI_ge (by omega) (by omega)) (rx_costBy (G := G) (R := R) (n := n) (z := z) ok hR hn C hk hk1 him (by omega) hj fun z' C' => pk_le v (rk_sum G k i m j) (fun q => nm_r (nI_1 m) (ih (m + 1) (by omega) (by omega) v z' C' h1 (fun m' g1 g2 => ?_) fun hv => ?_)) (fun q => nm_r (nI_1 m) (ih (m + 1) (by omega) (by omega) _ z' C' (by omega) (fun m' g1 g2 => ?_) fun hv => ⟨m, him, by omega, rfl⟩)))
    · by_cases e : m' = m
      · subst e; exact q
      · exact h2 m' g1 (by omega)
    · obtain ⟨m', g1, g2, g3⟩ := h3 hv
      exact ⟨m', g1, by omega, g3⟩
    · by_cases e : m' = m
      · subst e; exact Nat.le_refl _
      · have := h2 m' g1 (by omega); omega
theorem rx_cheapest (ok : rk_ok G) (hR : rk_rs G R) (hn : n ≤ 5) {k i j : Nat} (hk : k < 8) (hk0 : rk_k G k ≠ 0) (hi : i < j) (hj : j ≤ n) {z : rx_Z} (C : rx_C G n z)
    (K : ∀ v z', rx_C G n z' → rk_chp G k i j v → post (nI v) (rx_S G R n z' ou tw)) : wpX_cheapest post (rx_S G R n z ou tw) (nI k) (nI i) (nI j) := by
  obtain ⟨o1, o2, o3, o4, o5, o6, o7, o8, o9⟩ := ok k
  have o6' := (ok i).2.2.2.2.2.1
  have i8 : vp_in (nI k) 8 := vp_in_nI hk (by decide)
  have i5 : vp_in (nI i) 5 := vp_in_nI (by omega) (by decide)
  have k2 : rk_c G k = 3 → rk_k G k = 2 := fun c3 => by
    by_cases q : rk_k G k = 1
    · have := o9 q; omega
    · omega
  have far : rk_c G k = 3 → ¬ (j = i + 1 ∧ rk_r G i = rk_f G k) → post (nI 100000) (rx_S G R n z ou tw) := fun c3 hw => K 100000 z C ⟨Nat.le_refl _, fun x hx => by
    have := k2 c3
    rcases hx with q | ⟨q, _⟩
    · exact absurd ⟨q.2.1, q.2.2.1⟩ hw
    · omega, fun z => absurd z (by omega)⟩
  refine ⟨i8, pk_eq (rk_c G k) 3 (fun c3 => pk_eq j (i + 1) (fun ej => ⟨i5, i8, pk_eq (rk_r G i) (rk_f G k) (fun er => ⟨i8, ?_⟩) (fun er => far c3 fun t => er t.2) (rk_at (f := rk_r G) (by omega)) (rk_at (f := rk_f G) (by omega))⟩) (fun ej => far c3 fun t => ej t.1) rfl (nI_1 i)) (fun c3 => nm_r (nI_1 i) ⟨j - (i + 1) + 1, ?_⟩) (rk_at (f := rk_c G) (by omega)) rfl⟩
  · show post (rk_a (rk_p G) (nI k).toNatClampNeg) (rx_S G R n z ou tw)
    rw [rk_at (by omega)]
    refine K (rk_p G k) z C ⟨by omega, fun x hx => ?_, fun _ => Or.inl ⟨k2 c3, ej, er, rfl⟩⟩
    have := k2 c3
    rcases hx with q | ⟨q, _⟩
    · omega
    · omega
  · have k1 : rk_k G k = 1 := by
      by_cases z : rk_k G k = 2
      · exact absurd (o8 z) c3
      · omega
    exact rx_ch53 (G := G) (R := R) (n := n) ok hR hn hk k1 hj K (j - (i + 1)) (i + 1) (by omega) (by omega) 100000 z C (Nat.le_refl _) (fun m' g1 g2 => absurd g1 (by omega)) fun z => absurd z (by omega)
/-- the answer over the nodes below c -/
def rk_AXc (G : rk_G) (n k c : Nat) (O : Nat → Nat) (B : Nat) : Prop :=
  B ≤ 100000 ∧ (∀ i j x, i < j → j ≤ n → rk_nd i j (rk_s G k) < c → O (rk_nd i j (rk_s G k)) < 100000 → rk_op G k i j x → B ≤ O (rk_nd i j (rk_s G k)) + x) ∧ (B < 100000 → ∃ i j x, i < j ∧ j ≤ n ∧ O (rk_nd i j (rk_s G k)) < 100000 ∧ rk_op G k i j x ∧ B = O (rk_nd i j (rk_s G k)) + x)
theorem rx_cw35 (ok : rk_ok G) (hR : rk_rs G R) (hn : n ≤ 5) {k : Nat} (hk : k < 8) (hk0 : rk_k G k ≠ 0) {O : Nat → Nat} (hou : rx_Ou ou O) (hO : ∀ c, c < 108 → O c ≤ 100000)
    (K : ∀ B z', rx_C G n z' → rk_AX G n k O B → post (if B < 100000 then nI B else -1) (rx_S G R n z' ou tw)) :
    ∀ d c, c + d = 108 → ∀ B z, rx_C G n z → rk_AXc G n k c O B → wX_costWith_35 post (nI k) (d + 1) (nI B) (nI c) (nI R) (nI n) z.1 z.2.1 z.2.2.1 z.2.2.2.1 z.2.2.2.2.1 z.2.2.2.2.2.1 (rk_a (rk_s G)) (rk_a (rk_f G)) (rk_a (rk_c G)) (rk_a (rk_p G)) (rk_a (rk_r G)) z.2.2.2.2.2.2.1 z.2.2.2.2.2.2.2.1 z.2.2.2.2.2.2.2.2.1 z.2.2.2.2.2.2.2.2.2.1 z.2.2.2.2.2.2.2.2.2.2.1 z.2.2.2.2.2.2.2.2.2.2.2 ou tw := by
  have o2 := (ok k).2.1
  intro d
  induction d with
  | zero =>
    intro c hc B z C A
    have e : c = 108 := by omega
    subst e
    have kk := K B z C ⟨A.1, fun i j x h1 h2 h3 h4 => A.2.1 i j x h1 h2 (rk_nd_lt h1 (by omega) (by omega)) h3 h4, A.2.2⟩
    have hB := A.1
    refine br_t (by decide) (pk_le 100000 B (fun q => ?_) (fun q => ?_) rfl rfl)
    · rw [if_neg (by omega)] at kk; exact kk
    · rw [if_pos q] at kk; exact kk
  | succ d ih =>
    intro c hc B z C A
    have hB := A.1
    have c1 : nI c / 18 = nI (c / 18) := by rw [show (18 : Int32) = nI 18 from rfl, pk_div (by omega) (by decide) (by decide)]
    have c2 : nI c / 3 - nI c / 3 / 6 * 6 = nI (c / 3 % 6) := by rw [show (3 : Int32) = nI 3 from rfl, show (6 : Int32) = nI 6 from rfl, pk_div (by omega) (by decide) (by decide), pk_rem (by omega) (by decide) (by decide)]
    have c3 : nI c - nI c / 3 * 3 = nI (c % 3) := by rw [show (3 : Int32) = nI 3 from rfl, pk_rem (by omega) (by decide) (by decide)]
    have ec : (nI c).toNatClampNeg = c := nI_clamp (by omega)
    have i1 : vp_in (nI c) 108 := vp_in_nI (by omega) (by decide)
    have eC : ∀ i j, i < j → j ≤ n → rk_nd i j (rk_s G k) = c → c / 18 = i ∧ c / 3 % 6 = j ∧ c % 3 = rk_s G k := fun i j h1 h2 h3 => by
      subst h3
      exact ⟨rk_nd_i (by omega) (by omega), rk_nd_j (by omega) (by omega), rk_nd_a (by omega)⟩
    have skip : (∀ i j x, i < j → j ≤ n → rk_nd i j (rk_s G k) = c → O c < 100000 → rk_op G k i j x → B ≤ O c + x) → ∀ z, rx_C G n z → wX_costWith_35 post (nI k) (d + 1) (nI B) (nI (c + 1)) (nI R) (nI n) z.1 z.2.1 z.2.2.1 z.2.2.2.1 z.2.2.2.2.1 z.2.2.2.2.2.1 (rk_a (rk_s G)) (rk_a (rk_f G)) (rk_a (rk_c G)) (rk_a (rk_p G)) (rk_a (rk_r G)) z.2.2.2.2.2.2.1 z.2.2.2.2.2.2.2.1 z.2.2.2.2.2.2.2.2.1 z.2.2.2.2.2.2.2.2.2.1 z.2.2.2.2.2.2.2.2.2.2.1 z.2.2.2.2.2.2.2.2.2.2.2 ou tw := fun h z C => ih (c + 1) (by omega) B z C ⟨hB, fun i j x h1 h2 h3 h4 h5 => by
      by_cases e : rk_nd i j (rk_s G k) = c
      · rw [e] at h4 ⊢
        exact h i j x h1 h2 e h4 h5
      · exact A.2.1 i j x h1 h2 (by omega) h4 h5, A.2.2⟩
    refine br_f (nI_ge (b := 108) (by omega) (by decide)) ⟨by decide, nm_r c1 ⟨by decide, by decide, nm_r c2 (pk_le (c / 3 % 6) (c / 18) (fun q => nm_r (nI_1 c) (skip (fun i j x h1 h2 h3 => ?_) z C)) (fun q => pk_lt n (c / 3 % 6) (fun q2 => nm_r (nI_1 c) (skip (fun i j x h1 h2 h3 => ?_) z C)) (fun q2 => ⟨vp_in_nI hk (by decide), by decide, pk_eq (rk_s G k) (c % 3) (fun es => ⟨i1, pk_le 100000 (O c) (fun q3 => nm_r (nI_1 c) (skip (fun i j x h1 h2 h3 h4 => ?_) z C)) (fun q3 => ⟨i1, ?_⟩) rfl ?_ (by decide) ?_⟩) (fun es => nm_r (nI_1 c) (skip (fun i j x h1 h2 h3 => ?_) z C)) (rk_at (f := rk_s G) (by omega)) c3⟩)))⟩⟩
    · have := eC i j h1 h2 h3; omega
    · have := eC i j h1 h2 h3; omega
    · omega
    · have en : rk_nd (c / 18) (c / 3 % 6) (rk_s G k) = c := by rw [es]; unfold rk_nd; omega
      refine rx_cheapest (G := G) (R := R) (n := n) (z := z) ok hR hn hk hk0 q q2 C fun v z' C' ch => ?_
      have eO : ou (nI c).toNatClampNeg + nI v = nI (O c + v) := by rw [ec, hou c (by omega), nI_add]
      have hv := ch.1
      refine nm_r eO (pk_le B (O c + v) (fun q4 => nm_r (nI_1 c) (skip (fun i j x h1 h2 h3 h4 h5 => ?_) z' C')) (fun q4 => nm_r (nI_1 c) (ih (c + 1) (by omega) _ z' C' ⟨by omega, fun i j x h1 h2 h3 h4 h5 => ?_, fun hb => ?_⟩)))
      · obtain ⟨e1, e2, e3⟩ := eC i j h1 h2 h3
        rw [e1, e2] at ch
        have := ch.2.1 x h5
        omega
      · by_cases e : rk_nd i j (rk_s G k) = c
        · obtain ⟨e1, e2, e3⟩ := eC i j h1 h2 e
          rw [e1, e2] at ch
          have := ch.2.1 x h5
          rw [e]
          omega
        · have := A.2.1 i j x h1 h2 (by omega) h4 h5
          omega
      · have := ch.2.2 (by omega)
        refine ⟨c / 18, c / 3 % 6, v, q, q2, ?_, this, ?_⟩
        · rw [en]; exact q3
        · rw [en]
    · rw [ec]; exact hou c (by omega)
    · have := hO c (by omega); omega
    · have := eC i j h1 h2 h3; omega
theorem rx_costWith (ok : rk_ok G) (hR : rk_rs G R) (hn : n ≤ 5) {z : rx_Z} (C : rx_C G n z) {x1 x2 : Int32}
    (K0 : ¬ (0 < n ∧ ∃ a0 k, a0 < 3 ∧ x1 = nI a0 ∧ k < 8 ∧ x2 = nI k ∧ rk_k G k ≠ 0) → post (-1) (rx_S G R n z ou tw))
    (K : ∀ a0 k, 0 < n → a0 < 3 → x1 = nI a0 → k < 8 → x2 = nI k → rk_k G k ≠ 0 → ∀ z' ou' O B, rx_C G n z' → rk_OI G n a0 1 (fun _ _ _ _ => True) O → rk_AX G n k O B → post (if B < 100000 then nI B else -1) (rx_S G R n z' ou' tw)) :
    wpX_costWith post (rx_S G R n z ou tw) x1 x2 := by
  refine pk_eq n 0 (fun q => K0 fun t => by omega) (fun q => ?_) rfl rfl
  rcases pk_ix x1 (n := 3) (by decide) with h | h | ⟨a0, ha0, rfl⟩
  · refine br_t h (br_t rfl (K0 fun t => ?_))
    obtain ⟨_, a0, k, t1, rfl, _⟩ := t
    exact nI_pos (by omega) h
  · have h' : (3 : Int32) ≤ x1 := h
    refine br_f (fun z => ?_) (br_t h' (br_t rfl (K0 fun t => ?_)))
    · exact absurd (Int32.lt_of_le_of_lt h' z) (by decide)
    · obtain ⟨_, a0, k, t1, rfl, _⟩ := t
      exact nI_ge (b := 3) t1 (by decide) h
  · refine br_f (nI_pos (by omega)) (br_f (nI_ge (b := 3) ha0 (by decide)) (br_f (by decide) ?_))
    rcases pk_ix x2 (n := 8) (by decide) with h | h | ⟨k, hk, rfl⟩
    · refine br_t h (br_t rfl (K0 fun t => ?_))
      obtain ⟨_, a1, k, _, _, t1, rfl, _⟩ := t
      exact nI_pos (by omega) h
    · have h' : (8 : Int32) ≤ x2 := h
      refine br_f (fun z => ?_) (br_t h' (br_t rfl (K0 fun t => ?_)))
      · exact absurd (Int32.lt_of_le_of_lt h' z) (by decide)
      · obtain ⟨_, a1, k, _, _, t1, rfl, _⟩ := t
        exact nI_ge (b := 8) t1 (by decide) h
    · refine rx_has hR hk (fun k0 => br_t rfl (K0 fun t => ?_)) (fun k0 => br_f (by decide) ?_)
      · obtain ⟨_, a1, k', _, _, t1, t2, t3⟩ := t
        rw [nI_eq (by omega) (by omega)] at t2
        subst t2
        exact t3 k0
      · refine rx_spreadOut (G := G) (R := R) (n := n) (z := z) ok hR (by omega) hn ha0 C fun z' ou' O C' h' I => ⟨109, ?_⟩
        exact rx_cw35 (G := G) (R := R) (n := n) ok hR hn hk k0 h' I.1 (fun B z2 C2 A => K a0 k (by omega) ha0 rfl hk rfl k0 z2 ou' O B C2 I A) 108 0 rfl 100000 z' C' ⟨Nat.le_refl _, fun i j x _ _ h => absurd h (by omega), fun h => absurd h (by omega)⟩
end
end
section
/-! the reference: costWith -/
def ry_Us (us : Nat → Int32) (W : Nat → Nat) : Prop := ∀ c, c < 108 → (W c < 50000 ∧ us c = nI (W c)) ∨ (W c = 100000 ∧ us c = -1)
def rk_U2 (G : rk_G) (r : Nat) (W : Nat → Nat) (k i m j : Nat) : Prop :=
  (rk_p G k + W (rk_nd i m (rk_f G k)) + rk_lst G m j (rk_e G k) < 50000 → W (rk_nd i j (rk_s G k)) ≤ rk_p G k + W (rk_nd i m (rk_f G k)) + rk_lst G m j (rk_e G k)) ∧ (rk_p G k + rk_lst G i m (rk_f G k) + W (rk_nd m j (rk_e G k)) < 50000 → W (rk_nd i j (rk_s G k)) ≤ rk_p G k + rk_lst G i m (rk_f G k) + W (rk_nd m j (rk_e G k))) ∧ (k = r → rk_sum G k i m j < 50000 → W (rk_nd i j (rk_s G k)) ≤ rk_sum G k i m j)
def rk_UI (G : rk_G) (n r d : Nat) (Q : Nat → Nat → Nat → Nat → Prop) (W : Nat → Nat) : Prop :=
  (∀ k i j, k < 8 → i < j → j ≤ n → rk_k G k = 2 → k = r → j = i + 1 → rk_r G i = rk_f G k → Q k i 0 j → W (rk_nd i j (rk_s G k)) ≤ rk_p G k) ∧ (∀ k i m j, k < 8 → rk_k G k = 1 → i < m → m < j → j ≤ n → Q k i m j → rk_U2 G r W k i m j) ∧ (∀ i j a, i < j → j ≤ n → a < 3 → W (rk_nd i j a) < 50000 → j ≤ i + d ∧ rk_uo G r W i j a (W (rk_nd i j a)))
def ry_Q (d i k m : Nat) : Nat → Nat → Nat → Nat → Prop := fun k' i' m' j' => j' < i' + d ∨ (j' = i' + d ∧ (i' < i ∨ (i' = i ∧ (k' < k ∨ (k' = k ∧ m' < m)))))
theorem rk_UI_up {G : rk_G} {n r d d' : Nat} {Q Q' : Nat → Nat → Nat → Nat → Prop} {W : Nat → Nat} (h : rk_UI G n r d Q W) (hd : d ≤ d') (hq1 : ∀ k i j, k < 8 → i < j → j ≤ n → rk_k G k = 2 → k = r → j = i + 1 → rk_r G i = rk_f G k → Q' k i 0 j → Q k i 0 j) (hq : ∀ k i m j, k < 8 → rk_k G k = 1 → i < m → m < j → j ≤ n → Q' k i m j → Q k i m j) : rk_UI G n r d' Q' W := by
  obtain ⟨h1, h2, h3⟩ := h
  refine ⟨fun k i j a1 a2 a3 a4 a5 a6 a7 a8 => h1 k i j a1 a2 a3 a4 a5 a6 a7 (hq1 k i j a1 a2 a3 a4 a5 a6 a7 a8), fun k i m j a1 a2 a3 a4 a5 a6 => h2 k i m j a1 a2 a3 a4 a5 (hq k i m j a1 a2 a3 a4 a5 a6), fun i j a a1 a2 a3 a4 => ?_⟩
  have := h3 i j a a1 a2 a3 a4
  exact ⟨by omega, this.2⟩
/-- a better cost in a cell of the span at work -/
theorem rk_UI_set {G : rk_G} (ok : rk_ok G) {n r d : Nat} (hn : n ≤ 5) {Q : Nat → Nat → Nat → Nat → Prop} {W W' : Nat → Nat} (h : rk_UI G n r d Q W) (hQ : ∀ k i m j, Q k i m j → j ≤ i + d)
    {i j a v : Nat} (hi : i < j) (hj : j ≤ n) (ha : a < 3) (hd : j = i + d) (h1 : ∀ c, c ≠ rk_nd i j a → W' c = W c) (h2 : W' (rk_nd i j a) ≤ W (rk_nd i j a)) (h3 : W' (rk_nd i j a) = W (rk_nd i j a) ∨ (v < 50000 ∧ W' (rk_nd i j a) = v))
    (hv : v < 50000 → rk_uo G r W i j a v) : rk_UI G n r d Q W' := by
  obtain ⟨g1, g2, g3⟩ := h
  have le : ∀ c, W' c ≤ W c := fun c => by
    by_cases e : c = rk_nd i j a
    · subst e; exact h2
    · rw [h1 c e]; exact Nat.le_refl _
  have same : ∀ i' j' b, j' < i' + d → j' ≤ n → b < 3 → W' (rk_nd i' j' b) = W (rk_nd i' j' b) := fun i' j' b q1 q2 q3 => h1 _ fun z => by
    have := rk_nd_inj (by omega) q3 (by omega) ha z; omega
  have uo : ∀ i' j' b u, j' ≤ i' + d → j' ≤ n → rk_uo G r W i' j' b u → rk_uo G r W' i' j' b u := fun i' j' b u q1 q2 q => by
    obtain ⟨k, k8, es, q | ⟨k1, m, m1, m2, q⟩⟩ := q
    · exact ⟨k, k8, es, Or.inl q⟩
    · obtain ⟨o1, o2, o3, o4, o5⟩ := ok k
      refine ⟨k, k8, es, Or.inr ⟨k1, m, m1, m2, ?_⟩⟩
      rw [same i' m _ (by omega) (by omega) (by omega), same m j' _ (by omega) (by omega) (by omega)]
      exact q
  refine ⟨fun k i' j' a1 a2 a3 a4 a5 a6 a7 a8 => Nat.le_trans (le _) (g1 k i' j' a1 a2 a3 a4 a5 a6 a7 a8), fun k i' m j' a1 a2 a3 a4 a5 a6 => ?_, fun i' j' b a1 a2 a3 a4 => ?_⟩
  · obtain ⟨o1, o2, o3, o4, o5⟩ := ok k
    have q := hQ _ _ _ _ a6
    have u := g2 k i' m j' a1 a2 a3 a4 a5 a6
    have l := le (rk_nd i' j' (rk_s G k))
    unfold rk_U2 at u ⊢
    rw [same i' m _ (by omega) (by omega) (by omega), same m j' _ (by omega) (by omega) (by omega)]
    exact ⟨fun z => Nat.le_trans l (u.1 z), fun z => Nat.le_trans l (u.2.1 z), fun z z' => Nat.le_trans l (u.2.2 z z')⟩
  · by_cases e : rk_nd i' j' b = rk_nd i j a
    · obtain ⟨rfl, rfl, rfl⟩ := rk_nd_inj (by omega) a3 (by omega) ha e
      refine ⟨by omega, ?_⟩
      rcases h3 with q | q
      · rw [q] at a4 ⊢
        exact uo _ _ _ _ (by omega) a2 (g3 i' j' b a1 a2 a3 a4).2
      · rw [q.2]
        exact uo _ _ _ _ (by omega) a2 (hv q.1)
    · rw [h1 _ e] at a4 ⊢
      have := g3 i' j' b a1 a2 a3 a4
      exact ⟨this.1, uo _ _ _ _ this.1 a2 this.2⟩
theorem rk_UI_AY {G : rk_G} {n r d : Nat} (hn : n ≤ 5) {W : Nat → Nat} {us : Nat → Int32} (hU : ry_Us us W) (h : rk_UI G n r d (fun _ _ _ _ => True) W) : rk_AY G n r W := by
  obtain ⟨g1, g2, g3⟩ := h
  refine ⟨fun i j a h1 h2 h3 => ?_, fun i j a v h1 h2 h3 u hv => ?_, fun i j a h1 h2 h3 h4 => (g3 i j a h1 h2 h3 h4).2⟩
  · rcases hU _ (rk_nd_lt h1 (by omega : j ≤ 5) h3) with q | q
    · exact Or.inl q.1
    · exact Or.inr q.1
  · obtain ⟨k, k8, rfl, ⟨kr, q | ⟨k1, m, m1, m2, rfl⟩⟩ | ⟨k1, m, m1, m2, rfl | rfl⟩⟩ := u
    · have := g1 k i j k8 h1 h2 q.1 kr q.2.1 q.2.2.1 trivial
      omega
    · exact (g2 k i m j k8 k1 m1 m2 h2 trivial).2.2 kr hv
    · exact (g2 k i m j k8 k1 m1 m2 h2 trivial).1 hv
    · exact (g2 k i m j k8 k1 m1 m2 h2 trivial).2.1 hv
section
variable {G : rk_G} {n : Nat} {li : Int32} {co ma ls op : Nat → Int32}
theorem ry_better {post : SY → Prop} {us : Nat → Int32} {W : Nat → Nat} {c v : Nat} (hc : c < 108) (hU : ry_Us us W) (hv : v < 2 ^ 31)
    (K : ∀ us' W', ry_Us us' W' → (∀ c', c' ≠ c → W' c' = W c') → W' c ≤ W c → (v < 50000 → W' c ≤ v) → (W' c = W c ∨ (v < 50000 ∧ W' c = v)) → post (ry_S G n li co ma us' ls op)) {x2 : Int32} (e2 : x2 = nI v) : wpY_better post (ry_S G n li co ma us ls op) (nI c) x2 := by
  subst e2
  have i1 : vp_in (nI c) 108 := vp_in_nI hc (by decide)
  have ec : (nI c).toNatClampNeg = c := nI_clamp (by omega)
  have put : v < 50000 → v ≤ W c → post (ry_S G n li co ma (upd us c (nI v)) ls op) := fun q q2 => K _ (fun c' => if c' = c then v else W c') (fun c' hc' => by
    by_cases e : c' = c
    · subst e
      refine Or.inl ⟨?_, ?_⟩
      · show (if c' = c' then v else W c') < 50000
        rw [if_pos rfl]; exact q
      · show _ = nI (if c' = c' then v else W c')
        rw [pk_us, if_pos rfl]
    · show ((if c' = c then v else W c') < 50000 ∧ _ = nI (if c' = c then v else W c')) ∨ ((if c' = c then v else W c') = 100000 ∧ _)
      rw [if_neg e, pk_un e]
      exact hU c' hc') (fun c' e => if_neg e) (by rw [if_pos rfl]; exact q2) (fun _ => by rw [if_pos rfl]; exact Nat.le_refl _) (Or.inr ⟨q, if_pos rfl⟩)
  refine pk_le 50000 v (fun q => K us W hU (fun _ _ => rfl) (Nat.le_refl _) (fun z => absurd z (by omega)) (Or.inl rfl)) (fun q => ⟨i1, ?_⟩)
  rcases hU c hc with h | h
  · refine br_f ?_ ⟨i1, pk_le (W c) v (fun q2 => K us W hU (fun _ _ => rfl) (Nat.le_refl _) (fun _ => q2) (Or.inl rfl)) (fun q2 => ⟨i1, nm_r (e' := upd us c (nI v)) (by rw [ec]) (put q (by omega))⟩) (by rw [ec]; exact h.2) rfl⟩
    rw [ec, h.2]
    exact nI_pos (by omega)
  · refine br_t ?_ ⟨i1, nm_r (e' := upd us c (nI v)) (by rw [ec]) (put q (by omega))⟩
    rw [ec, h.2]
    decide
theorem ry_with {post : Int32 → Prop} {us : Nat → Int32} {W : Nat → Nat} {c : Nat} (hc : c < 108) (hU : ry_Us us W) (h : post (nI (W c))) : wpY_with post (ry_S G n li co ma us ls op) (nI c) := by
  have i1 : vp_in (nI c) 108 := vp_in_nI hc (by decide)
  have ec : (nI c).toNatClampNeg = c := nI_clamp (by omega)
  rcases hU c hc with q | q
  · refine ⟨i1, br_t ?_ ⟨i1, ?_⟩⟩
    · rw [ec, q.2]; exact nI_pos' (by omega)
    · rw [ec, q.2]; exact h
  · refine ⟨i1, br_f ?_ ?_⟩
    · rw [ec, q.2]; decide
    · rw [q.1] at h; exact h
theorem ry_fu83 {post : SY → Prop} {J3 : Int32 → Int32 → Int32 → (Nat → Int32) → (Nat → Int32) → (Nat → Int32) → (Nat → Int32) → (Nat → Int32) → (Nat → Int32) → (Nat → Int32) → (Nat → Int32) → (Nat → Int32) → (Nat → Int32) → (Nat → Int32) → Prop}
    (ok : rk_ok G) (hn : n ≤ 5) (T : ry_T G n ma co) {r d k i j : Nat} (hr : r < 8) (hk : k < 8) (hi : i < j) (hj : j ≤ n) (hd : j = i + d)
    (K : ∀ us W, ry_Us us W → rk_UI G n r d (ry_Q d i (k + 1) 0) W → J3 (nI (k + 1)) (nI n) li (rk_a (rk_k G)) (rk_a (rk_s G)) (rk_a (rk_f G)) (rk_a (rk_e G)) (rk_a (rk_p G)) (rk_a (rk_r G)) co ma us ls op) :
    ∀ e m, m + e = j → i < m → ∀ us W, ry_Us us W → rk_UI G n r d (ry_Q d i k m) W → wY_fillUsing_83 post J3 (nI r) (nI i) (nI j) (nI k) (nI (rk_nd i j (rk_s G k))) (e + 1) (nI m) (nI n) li (rk_a (rk_k G)) (rk_a (rk_s G)) (rk_a (rk_f G)) (rk_a (rk_e G)) (rk_a (rk_p G)) (rk_a (rk_r G)) co ma us ls op := by
  obtain ⟨o1, o2, o3, o4, o5, o6, o7, o8, o9⟩ := ok k
  have i8 : vp_in (nI k) 8 := vp_in_nI hk (by decide)
  intro e
  induction e with
  | zero =>
    intro m hm him us W hU I
    have e : m = j := by omega
    subst e
    refine br_t (nI_le (Nat.le_refl _) (by omega)) (nm_r (nI_1 k) (K us W hU (rk_UI_up I (Nat.le_refl d) (fun k' i' j' a1 a2 a3 a4 a5 a6 a7 q => ?_) (fun k' i' m' j' a1 a2 a3 a4 a5 q => ?_))))
    · unfold ry_Q at q ⊢; omega
    · unfold ry_Q at q ⊢; omega
  | succ e ih =>
    intro m hm him us W hU I
    have hmj : m < j := by omega
    have cn : rk_nd i j (rk_s G k) < 108 := rk_nd_lt hi (by omega) (by omega)
    have ln : rk_nd i m (rk_f G k) < 108 := rk_nd_lt him (by omega) (by omega)
    have rn : rk_nd m j (rk_e G k) < 108 := rk_nd_lt hmj (by omega) (by omega)
    have nl : rk_nd i m (rk_f G k) ≠ rk_nd i j (rk_s G k) := fun z => by
      have := rk_nd_inj (by omega) (by omega) (by omega) (by omega) z; omega
    have nr : rk_nd m j (rk_e G k) ≠ rk_nd i j (rk_s G k) := fun z => by
      have := rk_nd_inj (by omega) (by omega) (by omega) (by omega) z; omega
    have bl := rk_lst_bd ok (a := rk_f G k) him (by omega)
    have br := rk_lst_bd ok (a := rk_e G k) hmj (by omega)
    have bW : ∀ us W, ry_Us us W → ∀ c, c < 108 → W c ≤ 100000 := fun us W h c hc => by
      rcases h c hc with q | q <;> omega
    have hQ : ∀ k' i' m' j', ry_Q d i k m k' i' m' j' → j' ≤ i' + d := fun k' i' m' j' q => by unfold ry_Q at q; omega
    have ep : rk_a (rk_p G) (nI k).toNatClampNeg = nI (rk_p G k) := rk_at (f := rk_p G) (by omega)
    refine br_f (nI_ge (by omega) (by omega)) ⟨i8, pk_eq (rk_k G k) 1 (fun k1 => ⟨i8, ry_cell (i := i) (j := m) (a := rk_f G k) rfl rfl (rk_at (f := rk_f G) (by omega)) ⟨i8, ry_cell (i := m) (j := j) (a := rk_e G k) rfl rfl (rk_at (f := rk_e G) (by omega)) ⟨i8, ?_⟩⟩⟩) (fun k1 => nm_r (nI_1 k) (K us W hU (rk_UI_up I (Nat.le_refl d) (fun k' i' j' a1 a2 a3 a4 a5 a6 a7 q => ?_) (fun k' i' m' j' a1 a2 a3 a4 a5 q => ?_)))) (rk_at (f := rk_k G) (by omega)) rfl⟩
    · refine ry_with (G := G) (n := n) ln hU ?_
      refine ry_least (G := G) (n := n) hn T hmj hj (by omega) ?_
      have b1 := bW us W hU _ ln
      refine ry_better (G := G) (n := n) (v := rk_p G k + W (rk_nd i m (rk_f G k)) + rk_lst G m j (rk_e G k)) cn hU (by omega) (fun us1 W1 hU1 s1 s2 s3 s4 => ⟨i8, ?_⟩) (by show rk_a (rk_p G) (nI k).toNatClampNeg + _ + _ = _; rw [ep, nI_add, nI_add])
      have I1 := rk_UI_set ok hn I hQ hi hj (by omega) hd s1 s2 s4 (fun _ => ⟨k, hk, rfl, Or.inr ⟨k1, m, him, hmj, Or.inl rfl⟩⟩)
      refine ry_least (G := G) (n := n) hn T him (by omega) (by omega) ?_
      refine ry_with (G := G) (n := n) rn hU1 ?_
      have b2 := bW us1 W1 hU1 _ rn
      refine ry_better (G := G) (n := n) (v := rk_p G k + rk_lst G i m (rk_f G k) + W1 (rk_nd m j (rk_e G k))) cn hU1 (by omega) (fun us2 W2 hU2 t1 t2 t3 t4 => ⟨i8, ?_⟩) (by show rk_a (rk_p G) (nI k).toNatClampNeg + _ + _ = _; rw [ep, nI_add, nI_add])
      have I2 := rk_UI_set ok hn I1 hQ hi hj (by omega) hd t1 t2 t4 (fun _ => ⟨k, hk, rfl, Or.inr ⟨k1, m, him, hmj, Or.inr rfl⟩⟩)
      refine ry_least (G := G) (n := n) hn T him (by omega) (by omega) ?_
      refine ry_least (G := G) (n := n) hn T hmj hj (by omega) ?_
      have ez : rk_a (rk_p G) (nI k).toNatClampNeg + nI (rk_lst G i m (rk_f G k)) + nI (rk_lst G m j (rk_e G k)) = nI (rk_sum G k i m j) := by
        rw [ep, nI_add, nI_add]; rfl
      have bs : rk_sum G k i m j ≤ 200050 := by unfold rk_sum; omega
      have last : ∀ us3 W3, ry_Us us3 W3 → (∀ c', c' ≠ rk_nd i j (rk_s G k) → W3 c' = W2 c') → W3 (rk_nd i j (rk_s G k)) ≤ W2 (rk_nd i j (rk_s G k)) → (k = r → rk_sum G k i m j < 50000 → W3 (rk_nd i j (rk_s G k)) ≤ rk_sum G k i m j) → rk_UI G n r d (ry_Q d i k m) W3 → wY_fillUsing_83 post J3 (nI r) (nI i) (nI j) (nI k) (nI (rk_nd i j (rk_s G k))) (e + 1) (nI (m + 1)) (nI n) li (rk_a (rk_k G)) (rk_a (rk_s G)) (rk_a (rk_f G)) (rk_a (rk_e G)) (rk_a (rk_p G)) (rk_a (rk_r G)) co ma us3 ls op := by
        intro us3 W3 hU3 u1 u2 u3 I3
        refine ih (m + 1) (by omega) (by omega) us3 W3 hU3 ⟨fun k' i' j' a1 a2 a3 a4 a5 a6 a7 q => I3.1 k' i' j' a1 a2 a3 a4 a5 a6 a7 ?_, fun k' i' m' j' a1 a2 a3 a4 a5 q => ?_, I3.2.2⟩
        · unfold ry_Q at q ⊢; omega
        · by_cases new : k' = k ∧ i' = i ∧ m' = m ∧ j' = j
          · obtain ⟨rfl, rfl, rfl, rfl⟩ := new
            unfold rk_U2
            rw [u1 _ nl, u1 _ nr, t1 _ nl, t1 _ nr, s1 _ nl, s1 _ nr]
            rw [s1 _ nr] at t3
            exact ⟨fun z => by have := s3 z; omega, fun z => by have := t3 z; omega, u3⟩
          · refine I3.2.1 k' i' m' j' a1 a2 a3 a4 a5 ?_
            unfold ry_Q at q ⊢
            omega
      refine pk_eq k r (fun ek => ?_) (fun ek => ?_)
      · refine ry_better (G := G) (n := n) (v := rk_sum G k i m j + 0) cn hU2 (by omega) (fun us3 W3 hU3 u1 u2 u3 u4 => nm_r (nI_1 m) (last us3 W3 hU3 u1 u2 (fun _ z => u3 z) (rk_UI_set ok hn I2 hQ hi hj (by omega) hd u1 u2 u4 (fun _ => ⟨k, hk, rfl, Or.inl ⟨ek, Or.inr ⟨k1, m, him, hmj, rfl⟩⟩⟩)))) (by show rk_a (rk_p G) (nI k).toNatClampNeg + _ + _ + nI 0 = _; rw [ez, nI_add])
      · refine ry_better (G := G) (n := n) (v := rk_sum G k i m j + 100000) cn hU2 (by omega) (fun us3 W3 hU3 u1 u2 u3 u4 => nm_r (nI_1 m) (last us3 W3 hU3 u1 u2 (fun z => absurd z ek) (rk_UI_set ok hn I2 hQ hi hj (by omega) hd u1 u2 u4 (fun z => absurd z (by omega))))) (by show rk_a (rk_p G) (nI k).toNatClampNeg + _ + _ + nI 100000 = _; rw [ez, nI_add])
    · unfold ry_Q at q ⊢; omega
    · have : k' ≠ k := fun z => k1 (z ▸ a2)
      unfold ry_Q at q ⊢; omega
end
end
section
/-! the reference: fillUsing, costWith -/
section
variable {G : rk_G} {n : Nat} {li : Int32} {co ma ls op : Nat → Int32}
theorem ry_fu3 {post : SY → Prop} (ok : rk_ok G) (hn : n ≤ 5) (T : ry_T G n ma co) {r d i j : Nat} (hr : r < 8) (hi : i < j) (hj : j ≤ n) (hd : j = i + d)
    (K : ∀ us W, ry_Us us W → rk_UI G n r d (ry_Q d (i + 1) 0 0) W → post (ry_S G n li co ma us ls op)) :
    ∀ e k, k + e = 8 → ∀ us W, ry_Us us W → rk_UI G n r d (ry_Q d i k 0) W → wY_fillUsing_3 post (nI r) (nI i) (nI j) (e + 1) (nI k) (nI n) li (rk_a (rk_k G)) (rk_a (rk_s G)) (rk_a (rk_f G)) (rk_a (rk_e G)) (rk_a (rk_p G)) (rk_a (rk_r G)) co ma us ls op := by
  intro e
  induction e with
  | zero =>
    intro k hk us W hU I
    have e : k = 8 := by omega
    subst e
    refine br_t (by decide) (K us W hU (rk_UI_up I (Nat.le_refl d) (fun k' i' j' a1 a2 a3 a4 a5 a6 a7 q => ?_) (fun k' i' m' j' a1 a2 a3 a4 a5 q => ?_)))
    · unfold ry_Q at q ⊢; omega
    · unfold ry_Q at q ⊢; omega
  | succ e ih =>
    intro k hk us W hU I
    obtain ⟨o1, o2, o3, o4, o5, o6, o7, o8, o9⟩ := ok k
    have o6' := (ok i).2.2.2.2.2.1
    have i8 : vp_in (nI k) 8 := vp_in_nI (by omega) (by decide)
    have i5 : vp_in (nI i) 5 := vp_in_nI (by omega) (by decide)
    have cn : rk_nd i j (rk_s G k) < 108 := rk_nd_lt hi (by omega) (by omega)
    have go : ∀ us W, ry_Us us W → rk_UI G n r d (ry_Q d i k 0) W → (rk_k G k = 2 → j = i + 1 → rk_r G i = rk_f G k → k = r → W (rk_nd i j (rk_s G k)) ≤ rk_p G k) → ∀ x6, x6 = nI i + 1 → ∃ n83, wY_fillUsing_83 post (wY_fillUsing_3 post (nI r) (nI i) (nI j) (e + 1)) (nI r) (nI i) (nI j) (nI k) (nI (rk_nd i j (rk_s G k))) n83 x6 (nI n) li (rk_a (rk_k G)) (rk_a (rk_s G)) (rk_a (rk_f G)) (rk_a (rk_e G)) (rk_a (rk_p G)) (rk_a (rk_r G)) co ma us ls op := by
      intro us W hU I hw
      refine nm_r (nI_1 i) ⟨j - (i + 1) + 1, ry_fu83 ok hn T hr (by omega) hi hj hd (fun us' W' hU' I' => ih (k + 1) (by omega) us' W' hU' I') (j - (i + 1)) (i + 1) (by omega) (by omega) us W hU ⟨fun k' i' j' a1 a2 a3 a4 a5 a6 a7 q => ?_, fun k' i' m' j' a1 a2 a3 a4 a5 q => I.2.1 k' i' m' j' a1 a2 a3 a4 a5 ?_, I.2.2⟩⟩
      · by_cases new : k' = k ∧ i' = i ∧ j' = j
        · obtain ⟨rfl, rfl, rfl⟩ := new
          exact hw a4 a6 a7 a5
        · refine I.1 k' i' j' a1 a2 a3 a4 a5 a6 a7 ?_
          unfold ry_Q at q ⊢; omega
      · unfold ry_Q at q ⊢; omega
    refine br_f (nI_ge (b := 8) (by omega) (by decide)) ⟨i8, ry_cell (i := i) (j := j) (a := rk_s G k) rfl rfl (rk_at (f := rk_s G) (by omega)) ⟨i8, pk_eq (rk_k G k) 2 (fun k2 => pk_eq j (i + 1) (fun ej => ⟨i5, i8, pk_eq (rk_r G i) (rk_f G k) (fun er => pk_eq k r (fun ek => ⟨i8, ?_⟩) (fun ek => go us W hU I fun _ _ _ z => absurd z ek)) (fun er => go us W hU I fun _ _ z => absurd z er) (rk_at (f := rk_r G) (by omega)) (rk_at (f := rk_f G) (by omega))⟩) (fun ej => go us W hU I fun _ z => absurd z ej) rfl (nI_1 i)) (fun k2 => go us W hU I fun z => absurd z k2) (rk_at (f := rk_k G) (by omega)) rfl⟩⟩
    refine ry_better (G := G) (n := n) (v := rk_p G k) cn hU (by omega) (fun us1 W1 hU1 s1 s2 s3 s4 => go us1 W1 hU1 (rk_UI_set ok hn I (fun k' i' m' j' q => by unfold ry_Q at q; omega) hi hj (by omega) hd s1 s2 s4 fun _ => ⟨k, by omega, rfl, Or.inl ⟨ek, Or.inl ⟨k2, ej, er, rfl⟩⟩⟩) fun _ _ _ _ => s3 (by omega)) (rk_at (f := rk_p G) (by omega))
theorem ry_cw56 {post : Int32 → SY → Prop} {J45 : Int32 → Int32 → Int32 → (Nat → Int32) → (Nat → Int32) → (Nat → Int32) → (Nat → Int32) → (Nat → Int32) → (Nat → Int32) → (Nat → Int32) → (Nat → Int32) → (Nat → Int32) → (Nat → Int32) → (Nat → Int32) → Prop}
    (ok : rk_ok G) (hn : n ≤ 5) (T : ry_T G n ma co) {r d : Nat} {x1 : Int32} (hr : r < 8) (hd : 0 < d) (hd5 : d ≤ 5)
    (K : ∀ us W, ry_Us us W → rk_UI G n r (d + 1) (ry_Q (d + 1) 0 0 0) W → J45 (nI (d + 1)) (nI n) li (rk_a (rk_k G)) (rk_a (rk_s G)) (rk_a (rk_f G)) (rk_a (rk_e G)) (rk_a (rk_p G)) (rk_a (rk_r G)) co ma us ls op) :
    ∀ e i, i + e = 6 → ∀ us W, ry_Us us W → rk_UI G n r d (ry_Q d i 0 0) W → wY_costWith_56 post J45 x1 (nI r) (nI d) (e + 1) (nI i) (nI n) li (rk_a (rk_k G)) (rk_a (rk_s G)) (rk_a (rk_f G)) (rk_a (rk_e G)) (rk_a (rk_p G)) (rk_a (rk_r G)) co ma us ls op := by
  have out : ∀ i us W, n < i + d → ry_Us us W → rk_UI G n r d (ry_Q d i 0 0) W → J45 (nI (d + 1)) (nI n) li (rk_a (rk_k G)) (rk_a (rk_s G)) (rk_a (rk_f G)) (rk_a (rk_e G)) (rk_a (rk_p G)) (rk_a (rk_r G)) co ma us ls op := fun i us W q hU I => K us W hU (rk_UI_up I (by omega) (fun k' i' j' a1 a2 a3 a4 a5 a6 a7 q => by unfold ry_Q at q ⊢; omega) (fun k' i' m' j' a1 a2 a3 a4 a5 q => by unfold ry_Q at q ⊢; omega))
  intro e
  induction e with
  | zero =>
    intro i hi us W hU I
    exact pk_lt n (i + d) (fun q => nm_r (nI_1 d) (out i us W q hU I)) (fun q => absurd q (by omega)) rfl (nI_add i d)
  | succ e ih =>
    intro i hi us W hU I
    refine pk_lt n (i + d) (fun q => nm_r (nI_1 d) (out i us W q hU I)) (fun q => ?_) rfl (nI_add i d)
    rw [nI_add]
    exact ⟨9, ry_fu3 (G := G) (n := n) ok hn T hr (by omega) q rfl (fun us' W' hU' I' => nm_r (nI_1 i) (ih (i + 1) (by omega) us' W' hU' I')) 8 0 rfl us W hU I⟩
theorem ry_cw45 {post : Int32 → SY → Prop} (ok : rk_ok G) (hn : n ≤ 5) (h0 : 0 < n) (T : ry_T G n ma co) {r a0 : Nat} (hr : r < 8) (ha0 : a0 < 3)
    (K : ∀ us W, ry_Us us W → rk_AY G n r W → post (us (rk_nd 0 n a0)) (ry_S G n li co ma us ls op)) :
    ∀ e d, 0 < d → d + e = 6 → ∀ us W, ry_Us us W → rk_UI G n r d (ry_Q d 0 0 0) W → wY_costWith_45 post (nI a0) (nI r) (e + 1) (nI d) (nI n) li (rk_a (rk_k G)) (rk_a (rk_s G)) (rk_a (rk_f G)) (rk_a (rk_e G)) (rk_a (rk_p G)) (rk_a (rk_r G)) co ma us ls op := by
  have nn : rk_nd 0 n a0 < 108 := rk_nd_lt h0 hn ha0
  have out : ∀ d us W, n < d → ry_Us us W → rk_UI G n r d (ry_Q d 0 0 0) W → wpY_cell (fun r_47 => vp_in r_47 108 ∧ post (us r_47.toNatClampNeg) (ry_S G n li co ma us ls op)) (ry_S G n li co ma us ls op) 0 (nI n) (nI a0) := fun d us W q hU I => by
    refine ry_cell (i := 0) (j := n) (a := a0) rfl rfl rfl ⟨vp_in_nI nn (by decide), ?_⟩
    rw [nI_clamp (by omega)]
    exact K us W hU (rk_UI_AY hn hU (rk_UI_up I (Nat.le_refl d) (fun k' i' j' a1 a2 a3 a4 a5 a6 a7 q => by unfold ry_Q; omega) (fun k' i' m' j' a1 a2 a3 a4 a5 q => by unfold ry_Q; omega)))
  intro e
  induction e with
  | zero =>
    intro d hd he us W hU I
    exact pk_lt n d (fun q => out d us W q hU I) (fun q => absurd q (by omega)) rfl rfl
  | succ e ih =>
    intro d hd he us W hU I
    exact pk_lt n d (fun q => out d us W q hU I) (fun q => ⟨7, ry_cw56 ok hn T hr hd (by omega) (fun us' W' hU' I' => ih (d + 1) (by omega) (by omega) us' W' hU' I') 6 0 rfl us W hU I⟩) rfl rfl
theorem ry_cw24 {post : Int32 → SY → Prop} (ok : rk_ok G) (hn : n ≤ 5) (h0 : 0 < n) (T : ry_T G n ma co) {r a0 : Nat} (hr : r < 8) (ha0 : a0 < 3)
    (K : ∀ us W, ry_Us us W → rk_AY G n r W → post (us (rk_nd 0 n a0)) (ry_S G n li co ma us ls op)) :
    ∀ e c, c + e = 108 → ∀ us, (∀ c', c' < c → us c' = -1) → wY_costWith_24 post (nI a0) (nI r) (nI n) li (e + 1) (nI c) (rk_a (rk_k G)) (rk_a (rk_s G)) (rk_a (rk_f G)) (rk_a (rk_e G)) (rk_a (rk_p G)) (rk_a (rk_r G)) co ma us ls op := by
  intro e
  induction e with
  | zero =>
    intro c hc us h
    have e : c = 108 := by omega
    subst e
    refine br_t (by decide) ⟨6, ry_cw45 ok hn h0 T hr ha0 K 5 1 (by omega) (by omega) us (fun _ => 100000) (fun c hc => Or.inr ⟨rfl, h c hc⟩) ⟨fun k' i' j' a1 a2 a3 a4 a5 a6 a7 q => ?_, fun k' i' m' j' a1 a2 a3 a4 a5 q => ?_, fun i j a a1 a2 a3 a4 => ?_⟩⟩
    · unfold ry_Q at q; omega
    · unfold ry_Q at q; omega
    · exact absurd (show (100000 : Nat) < 50000 from a4) (by decide)
  | succ e ih =>
    intro c hc us h
    refine br_f (nI_ge (b := 108) (by omega) (by decide)) ⟨vp_in_nI (by omega) (by decide), nm_r (e' := upd us c (-1)) (by rw [nI_clamp (by omega)]) (nm_r (nI_1 c) (ih (c + 1) (by omega) _ fun c' h' => ?_))⟩
    by_cases s : c' = c
    · subst s; exact pk_us
    · rw [pk_un s]; exact h c' (by omega)
theorem ry_is {post : Int32 → Prop} {us : Nat → Int32} (ok : rk_ok G) {k : Nat} (hk : k < 8) (h0 : rk_k G k = 0 → post 0) (h1 : rk_k G k ≠ 0 → post 1) : wpY_is post (ry_S G n li co ma us ls op) (nI k) := by
  have := (ok k).1
  refine br_f (nI_pos (by omega)) (br_f (nI_ge (b := 8) hk (by decide)) ⟨vp_in_nI hk (by decide), pk_le (rk_k G k) 0 (fun q => h0 (by omega)) (fun q => h1 (by omega)) (rk_at (f := rk_k G) (by omega)) rfl⟩)
theorem ry_costWith {post : Int32 → SY → Prop} (ok : rk_ok G) (hn : n ≤ 5) {us : Nat → Int32} {x1 x2 : Int32}
    (K0 : ¬ (0 < n ∧ ∃ a0 k, a0 < 3 ∧ x1 = nI a0 ∧ k < 8 ∧ x2 = nI k ∧ rk_k G k ≠ 0) → post (-1) (ry_S G n li co ma us ls op))
    (K : ∀ a0 k, 0 < n → a0 < 3 → x1 = nI a0 → k < 8 → x2 = nI k → rk_k G k ≠ 0 → ∀ co' ma' us' W, ry_Us us' W → rk_AY G n k W → post (us' (rk_nd 0 n a0)) (ry_S G n li co' ma' us' ls op)) :
    wpY_costWith post (ry_S G n li co ma us ls op) x1 x2 := by
  rcases pk_ix x1 (n := 3) (by decide) with h | h | ⟨a0, ha0, rfl⟩
  · refine br_t h (br_t rfl (K0 fun t => ?_))
    obtain ⟨_, a0, k, t1, rfl, _⟩ := t
    exact nI_pos (by omega) h
  · have h' : (3 : Int32) ≤ x1 := h
    refine br_f (fun z => ?_) (br_t (Int32.lt_of_lt_of_le (by decide) h') (br_t rfl (K0 fun t => ?_)))
    · exact absurd (Int32.lt_of_le_of_lt h' z) (by decide)
    · obtain ⟨_, a0, k, t1, rfl, _⟩ := t
      exact nI_ge (b := 3) t1 (by decide) h
  · refine br_f (nI_pos (by omega)) (br_f (nI_nlt (a := 2) (b := a0) (by omega) (by decide)) (pk_le n 0 (fun q => br_t rfl (K0 fun t => absurd t.1 (by omega))) (fun q => br_f (by decide) ?_)))
    rcases pk_ix x2 (n := 8) (by decide) with h | h | ⟨k, hk, rfl⟩
    · refine br_t h (br_t rfl (K0 fun t => ?_))
      obtain ⟨_, a1, k, _, _, t1, rfl, _⟩ := t
      exact nI_pos (by omega) h
    · have h' : (8 : Int32) ≤ x2 := h
      refine br_f (fun z => ?_) (br_t h' (br_t rfl (K0 fun t => ?_)))
      · exact absurd (Int32.lt_of_le_of_lt h' z) (by decide)
      · obtain ⟨_, a1, k, _, _, t1, rfl, _⟩ := t
        exact nI_ge (b := 8) t1 (by decide) h
    · refine ry_is ok hk (fun k0 => br_t rfl (K0 fun t => ?_)) (fun k0 => br_f (by decide) ?_)
      · obtain ⟨_, a1, k', _, _, t1, t2, t3⟩ := t
        rw [nI_eq (by omega) (by omega)] at t2
        subst t2
        exact t3 k0
      · refine ry_work (G := G) (n := n) ok hn fun co' ma' T => ⟨109, ?_⟩
        exact ry_cw24 ok hn (by omega) T hk ha0 (fun us' W hU A => K a0 k (by omega) ha0 rfl hk rfl k0 co' ma' us' W hU A) 108 0 rfl us fun _ h => absurd h (by omega)
end
end
section
/-! the relation -/
def i_Rel (_ : Nat) (u : SX) (v : SY) : Prop := ∃ (G : rk_G) (R n : Nat) (z : rx_Z) (ou tw : Nat → Int32) (li : Int32) (co ma us ls op : Nat → Int32), rk_ok G ∧ rk_rs G R ∧ n ≤ 5 ∧ rx_C G n z ∧ u = rx_S G R n z ou tw ∧ v = ry_S G n li co ma us ls op
theorem i_up {k : Nat} {u : SX} {v : SY} (h : i_Rel k u v) : i_Rel (k + 5) u v := h
theorem rl_mk {k : Nat} {G : rk_G} {R n : Nat} {z : rx_Z} {ou tw : Nat → Int32} {li : Int32} {co ma us ls op : Nat → Int32} (ok : rk_ok G) (hR : rk_rs G R) (hn : n ≤ 5) (C : rx_C G n z) : i_Rel k (rx_S G R n z ou tw) (ry_S G n li co ma us ls op) :=
  ⟨G, R, n, z, ou, tw, li, co, ma, us, ls, op, ok, hR, hn, C, rfl, rfl⟩
/-! numbers by their bounds -/
theorem rk_ge3 {x : Int32} (h : nI 3 ≤ x) : (2 : Int32) < x := Int32.lt_of_lt_of_le (by decide) h
theorem rk_nlt0 {x : Int32} {b : Int32} (hb : (0 : Int32) ≤ b) (h : b ≤ x) : ¬ x < 0 := fun z => absurd (Int32.lt_of_le_of_lt (Int32.le_trans hb h) z) (Int32.lt_irrefl)
def rk_sc (G : rk_G) (i j a k : Nat) : Int32 := if k < rk_mn (rk_N G i j a) then nI (rk_cs (rk_N G i j a) k) else -1
def rk_va (n : Nat) (v1 v2 v3 v4 : Int32) (i j a k : Nat) : Prop := v1 = nI i ∧ v2 = nI j ∧ v3 = nI a ∧ v4 = nI k ∧ i < j ∧ j ≤ n ∧ a < 3 ∧ k < 8
theorem rk_va_u {n : Nat} (hn : n ≤ 5) {v1 v2 v3 v4 : Int32} {i j a k i' j' a' k' : Nat} (h : rk_va n v1 v2 v3 v4 i j a k) (h' : rk_va n v1 v2 v3 v4 i' j' a' k') : i' = i ∧ j' = j ∧ a' = a ∧ k' = k := by
  obtain ⟨rfl, rfl, rfl, rfl, h1, h2, h3, h4⟩ := h
  obtain ⟨e1, e2, e3, e4, g1, g2, g3, g4⟩ := h'
  rw [nI_eq (by omega) (by omega)] at e1 e2 e3 e4
  exact ⟨e1.symm, e2.symm, e3.symm, e4.symm⟩
section
variable {G : rk_G} {R n : Nat} {ou tw : Nat → Int32} {li : Int32} {co ma us ls op : Nat → Int32}
theorem rx_spanCost {post : Int32 → SX → Prop} (ok : rk_ok G) (hR : rk_rs G R) (hn : n ≤ 5) {z : rx_Z} (C : rx_C G n z) {v1 v2 v3 v4 : Int32}
    (K0 : (∀ i j a k, ¬ rk_va n v1 v2 v3 v4 i j a k) → post (-1) (rx_S G R n z ou tw))
    (K : ∀ i j a k z', rk_va n v1 v2 v3 v4 i j a k → rx_C G n z' → post (rk_sc G i j a k) (rx_S G R n z' ou tw)) : wpX_spanCost post (rx_S G R n z ou tw) v1 v2 v3 v4 := by
  refine br_c (fun h => br_t rfl (K0 fun i j a k t => ?_)) (fun h1 => br_c (fun h => br_t rfl (K0 fun i j a k t => ?_)) (fun h2 => br_c (fun h => br_t rfl (K0 fun i j a k t => ?_)) (fun h3 => br_f (by decide) (br_c (fun h => br_t rfl (K0 fun i j a k t => ?_)) (fun h4 => br_c (fun h => br_t rfl (K0 fun i j a k t => ?_)) (fun h5 => br_f (by decide) (br_c (fun h => K0 fun i j a k t => ?_) (fun h6 => br_c (fun h7 => ?_) (fun h => K0 fun i j a k t => ?_)))))))))
  · obtain ⟨rfl, rfl, rfl, rfl, t1, t2, t3, t4⟩ := t
    exact nI_pos (by omega) h
  · obtain ⟨rfl, rfl, rfl, rfl, t1, t2, t3, t4⟩ := t
    exact nI_ge t1 (by omega) h
  · obtain ⟨rfl, rfl, rfl, rfl, t1, t2, t3, t4⟩ := t
    exact nI_nlt t2 (by omega) h
  · obtain ⟨rfl, rfl, rfl, rfl, t1, t2, t3, t4⟩ := t
    exact nI_pos (by omega) h
  · obtain ⟨rfl, rfl, rfl, rfl, t1, t2, t3, t4⟩ := t
    exact nI_ge (b := 3) t3 (by decide) h
  · obtain ⟨rfl, rfl, rfl, rfl, t1, t2, t3, t4⟩ := t
    exact nI_pos (by omega) h
  · obtain ⟨i, hi, rfl⟩ := nI_of h1
    obtain ⟨j, hj, rfl⟩ := nI_of (x := v2) fun q => h2 (Int32.le_trans (Int32.le_of_lt q) (nI_pos' hi))
    obtain ⟨a, ha, rfl⟩ := nI_of h4
    obtain ⟨k, hk, rfl⟩ := nI_of h6
    have a1 : i < j := by
      apply Classical.byContradiction
      intro q
      exact h2 (nI_le (by omega) hi)
    have a2 : j ≤ n := by
      apply Classical.byContradiction
      intro q
      exact h3 (nI_lt (by omega) hj)
    have a3 : a < 3 := by
      apply Classical.byContradiction
      intro q
      exact h5 (nI_le (a := 3) (by omega) ha)
    have a4 : k < 8 := by
      apply Classical.byContradiction
      intro q
      exact absurd h7 (nI_nlt (b := 8) (by omega) hk)
    have va : rk_va n (nI i) (nI j) (nI a) (nI k) i j a k := ⟨rfl, rfl, rfl, rfl, a1, a2, a3, a4⟩
    refine rx_node (i := i) (j := j) (a := a) rfl rfl rfl ?_
    have nn : rk_nd i j a < 108 := rk_nd_lt a1 (by omega) a3
    refine rx_reach (G := G) (R := R) (n := n) (z := z) ok hR hn C a1 a2 a3 a4 fun r z' L C' hL h => ?_
    have kk := K i j a k z' va C'
    unfold rk_sc at kk
    rcases h with ⟨rfl, g1, g2, g3⟩ | ⟨rfl, g1, g2⟩
    · rw [if_pos (by omega)] at kk
      refine br_f (by decide) ⟨pk_in (8 * rk_nd i j a + k) 864 (by omega) (rk_8i _ _), ?_⟩
      rw [rk_8i, nI_clamp (by omega), g3]
      exact kk
    · rw [if_neg (by omega)] at kk
      exact br_t rfl kk
  · obtain ⟨rfl, rfl, rfl, rfl, t1, t2, t3, t4⟩ := t
    exact h (nI_lt (b := 8) t4 (by decide))
theorem ry_spanCost {post : Int32 → SY → Prop} (ok : rk_ok G) (hn : n ≤ 5) {v1 v2 v3 v4 : Int32}
    (K0 : (∀ i j a k, ¬ rk_va n v1 v2 v3 v4 i j a k) → post (-1) (ry_S G n li co ma us ls op))
    (K : ∀ i j a k co' ma', rk_va n v1 v2 v3 v4 i j a k → post (rk_sc G i j a k) (ry_S G n li co' ma' us ls op)) : wpY_spanCost post (ry_S G n li co ma us ls op) v1 v2 v3 v4 := by
  refine br_c (fun h => (K0 fun i j a k t => ?_)) (fun h1 => br_c (fun h => (K0 fun i j a k t => ?_)) (fun h2 => br_c (fun h => (K0 fun i j a k t => ?_)) (fun h3 => (br_c (fun h => (K0 fun i j a k t => ?_)) (fun h4 => br_c (fun h => (K0 fun i j a k t => ?_)) (fun h5 => (br_c (fun h => K0 fun i j a k t => ?_) (fun h6 => br_c (fun h7 => ?_) (fun h => K0 fun i j a k t => ?_)))))))))
  · obtain ⟨rfl, rfl, rfl, rfl, t1, t2, t3, t4⟩ := t
    exact nI_pos (by omega) h
  · obtain ⟨rfl, rfl, rfl, rfl, t1, t2, t3, t4⟩ := t
    exact nI_ge t1 (by omega) h
  · obtain ⟨rfl, rfl, rfl, rfl, t1, t2, t3, t4⟩ := t
    exact nI_nlt t2 (by omega) h
  · obtain ⟨rfl, rfl, rfl, rfl, t1, t2, t3, t4⟩ := t
    exact nI_pos (by omega) h
  · obtain ⟨rfl, rfl, rfl, rfl, t1, t2, t3, t4⟩ := t
    exact nI_nlt (a := 2) (b := a) (by omega) (by decide) h
  · obtain ⟨rfl, rfl, rfl, rfl, t1, t2, t3, t4⟩ := t
    exact nI_pos (by omega) h
  · obtain ⟨i, hi, rfl⟩ := nI_of h1
    obtain ⟨j, hj, rfl⟩ := nI_of (x := v2) fun q => h2 (Int32.le_trans (Int32.le_of_lt q) (nI_pos' hi))
    obtain ⟨a, ha, rfl⟩ := nI_of h4
    obtain ⟨k, hk, rfl⟩ := nI_of h6
    have a1 : i < j := by
      apply Classical.byContradiction
      intro q
      exact h2 (nI_le (by omega) hi)
    have a2 : j ≤ n := by
      apply Classical.byContradiction
      intro q
      exact h3 (nI_lt (by omega) hj)
    have a3 : a < 3 := by
      apply Classical.byContradiction
      intro q
      exact h5 (nI_lt (a := 2) (by omega) ha)
    have a4 : k < 8 := by
      apply Classical.byContradiction
      intro q
      exact absurd h7 (nI_ge (a := 7) (by omega) hk)
    have va : rk_va n (nI i) (nI j) (nI a) (nI k) i j a k := ⟨rfl, rfl, rfl, rfl, a1, a2, a3, a4⟩
    have nn : rk_nd i j a < 108 := rk_nd_lt a1 (by omega) a3
    refine ry_work (G := G) (n := n) ok hn fun co' ma' T => ry_cell (i := i) (j := j) (a := a) rfl rfl rfl ⟨vp_in_nI nn (by decide), ?_⟩
    obtain ⟨t1, t2⟩ := T i j a a1 a2 a3
    have kk := K i j a k co' ma' va
    unfold rk_sc at kk
    have h8 := rk_mn8 (rk_N G i j a)
    refine pk_le (rk_mn (rk_N G i j a)) k (fun q => ?_) (fun q => ⟨pk_in (8 * rk_nd i j a + k) 864 (by omega) (rk_i8 _ _), ?_⟩) (by rw [nI_clamp (by omega)]; exact t1) rfl
    · rw [if_neg (by omega)] at kk; exact kk
    · rw [if_pos q] at kk
      rw [rk_i8, nI_clamp (by omega), t2 k q]
      exact kk
  · obtain ⟨rfl, rfl, rfl, rfl, t1, t2, t3, t4⟩ := t
    exact h (nI_le (b := 7) (by omega) (by decide))
end
theorem i_vc_spanCost {k : Nat} {u : SX} {v : SY} (I : i_Rel k u v) (hk : k + 5 ≤ 2560) (v1 : Int32) (v2 : Int32) (v3 : Int32) (v4 : Int32) : wpX_spanCost (fun r u' => wpY_spanCost (fun r' v' => r' = r ∧ i_Rel (k + 5) u' v') v v1 v2 v3 v4) u v1 v2 v3 v4 := by
  obtain ⟨G, R, n, z, ou, tw, li, co, ma, us, ls, op, ok, hR, hn, C, rfl, rfl⟩ := I
  refine rx_spanCost ok hR hn C (fun h => ?_) (fun i j a q z' va C' => ?_)
  · exact ry_spanCost ok hn (fun _ => ⟨rfl, rl_mk ok hR hn C⟩) (fun i j a q co' ma' va => absurd va (h i j a q))
  · refine ry_spanCost ok hn (fun h => absurd va (h i j a q)) (fun i' j' a' q' co' ma' va' => ?_)
    obtain ⟨rfl, rfl, rfl, rfl⟩ := rk_va_u hn va va'
    exact ⟨rfl, rl_mk ok hR hn C'⟩
theorem i_vc_cost {k : Nat} {u : SX} {v : SY} (I : i_Rel k u v) (hk : k + 5 ≤ 2560) (v1 : Int32) (v2 : Int32) : wpX_cost (fun r u' => wpY_cost (fun r' v' => r' = r ∧ i_Rel (k + 5) u' v') v v1 v2) u v1 v2 := by
  obtain ⟨G, R, n, z, ou, tw, li, co, ma, us, ls, op, ok, hR, hn, C, rfl, rfl⟩ := I
  unfold wpX_cost wpY_cost
  refine rx_spanCost (G := G) (R := R) (n := n) (z := z) ok hR hn C (fun h => ?_) (fun i j a q z' va C' => ?_)
  · exact ry_spanCost (G := G) (n := n) ok hn (fun _ => ⟨rfl, rl_mk ok hR hn C⟩) (fun i j a q co' ma' va => absurd va (h i j a q))
  · refine ry_spanCost (G := G) (n := n) ok hn (fun h => absurd va (h i j a q)) (fun i' j' a' q' co' ma' va' => ?_)
    obtain ⟨rfl, rfl, rfl, rfl⟩ := rk_va_u hn va va'
    exact ⟨rfl, rl_mk ok hR hn C'⟩
theorem i_vc_costWith {k : Nat} {u : SX} {v : SY} (I : i_Rel k u v) (hk : k + 5 ≤ 2560) (v1 : Int32) (v2 : Int32) : wpX_costWith (fun r u' => wpY_costWith (fun r' v' => r' = r ∧ i_Rel (k + 5) u' v') v v1 v2) u v1 v2 := by
  obtain ⟨G, R, n, z, ou, tw, li, co, ma, us, ls, op, ok, hR, hn, C, rfl, rfl⟩ := I
  refine rx_costWith ok hR hn C (fun h => ?_) (fun a0 q h0 h1 h2 h3 h4 h5 z' ou' O B C' I A => ?_)
  · exact ry_costWith ok hn (fun _ => ⟨rfl, rl_mk ok hR hn C⟩) (fun a0 q h0 h1 h2 h3 h4 h5 => absurd ⟨h0, a0, q, h1, h2, h3, h4, h5⟩ h)
  · refine ry_costWith ok hn (fun h => absurd ⟨h0, a0, q, h1, h2, h3, h4, h5⟩ h) (fun a1 q1 g0 g1 g2 g3 g4 g5 co' ma' us' W hU AY => ⟨?_, rl_mk ok hR hn C'⟩)
    have e1 : a1 = a0 := (nI_eq (by omega) (by omega)).mp (g2.symm.trans h2)
    have e2 : q1 = q := (nI_eq (by omega) (by omega)).mp (g4.symm.trans h4)
    subst e1 e2
    have nn : rk_nd 0 n a1 < 108 := rk_nd_lt h0 hn h1
    rcases rk_with ok hn h0 h1 h3 I AY A with ⟨b1, b2, b3⟩ | ⟨b1, b2⟩
    · rw [if_pos b1, b3]
      rcases hU _ nn with w | w
      · exact w.2
      · omega
    · rw [if_neg (by omega)]
      rcases hU _ nn with w | w
      · omega
      · exact w.2
end
section
/-! trees, symbols, bestAt -/
section
variable {G : rk_G} {R n : Nat} {ou tw : Nat → Int32} {li : Int32} {co ma us ls op : Nat → Int32}
theorem rx_isSymbol {post : Int32 → Prop} {x : Int32} (h0 : (∀ a, a < 3 → x ≠ nI a) → post 0) (h1 : ∀ a, a < 3 → x = nI a → post 1) : wpX_isSymbol post x := by
  rcases pk_ix x (n := 3) (by decide) with h | h | ⟨a, ha, rfl⟩
  · exact br_t h (h0 fun a ha e => by subst e; exact nI_pos (by omega) h)
  · exact br_f (rk_nlt0 (by decide) h) (br_t h (h0 fun a ha e => by subst e; exact nI_ge (b := 3) ha (by decide) h))
  · exact br_f (nI_pos (by omega)) (br_f (nI_ge (b := 3) ha (by decide)) (h1 a ha rfl))
theorem ry_whole {post : Int32 → Prop} {x : Int32} (hn : n ≤ 5) (h0 : (∀ a, a < 3 → 0 < n → x ≠ nI a) → post 0) (h1 : ∀ a, a < 3 → 0 < n → x = nI a → post 1) : wpY_whole post (ry_S G n li co ma us ls op) x := by
  rcases pk_ix x (n := 3) (by decide) with h | h | ⟨a, ha, rfl⟩
  · exact br_t h (h0 fun a ha _ e => by subst e; exact nI_pos (by omega) h)
  · exact br_f (rk_nlt0 (by decide) h) (br_t (rk_ge3 h) (h0 fun a ha _ e => by subst e; exact nI_ge (b := 3) ha (by decide) h))
  · exact br_f (nI_pos (by omega)) (br_f (nI_nlt (a := 2) (b := a) (by omega) (by decide)) (pk_le n 0 (fun q => h0 fun _ _ z => absurd z (by omega)) (fun q => h1 a ha q rfl)))
theorem rx_trees {post : Int32 → SX → Prop} (ok : rk_ok G) (hR : rk_rs G R) (hn : n ≤ 5) {z : rx_Z} (C : rx_C G n z) {x : Int32}
    (K0 : (∀ a, a < 3 → 0 < n → x ≠ nI a) → post 0 (rx_S G R n z ou tw))
    (K : ∀ a z', a < 3 → 0 < n → x = nI a → rx_C G n z' → post (nI (rk_mn (rk_N G 0 n a))) (rx_S G R n z' ou tw)) : wpX_trees post (rx_S G R n z ou tw) x := by
  refine pk_eq n 0 (fun q => K0 fun _ _ z => absurd z (by omega)) (fun q => ?_) rfl rfl
  refine rx_isSymbol (fun h => br_t rfl (K0 fun a ha _ => h a ha)) (fun a ha e => br_f (by decide) ?_)
  subst e
  refine rx_node (i := 0) (j := n) (a := a) rfl rfl rfl ?_
  have nn : rk_nd 0 n a < 108 := rk_nd_lt (by omega) hn ha
  refine rx_reach (G := G) (R := R) (n := n) (z := z) (k := 7) ok hR hn C (by omega) (Nat.le_refl n) ha (by omega) fun r z' L C' hL h => ⟨vp_in_nI nn (by decide), ?_⟩
  have kk := K a z' ha (by omega) rfl C'
  have h8 := rk_mn8 (rk_N G 0 n a)
  have e : L = rk_mn (rk_N G 0 n a) := by
    rcases h with h | h
    · omega
    · exact h.2.2
  rw [nI_clamp (by omega), hL, e]
  exact kk
theorem ry_trees {post : Int32 → SY → Prop} (ok : rk_ok G) (hn : n ≤ 5) {x : Int32}
    (K0 : (∀ a, a < 3 → 0 < n → x ≠ nI a) → ∀ co ma, post 0 (ry_S G n li co ma us ls op))
    (K : ∀ a co' ma', a < 3 → 0 < n → x = nI a → ry_T G n ma' co' → post (nI (rk_mn (rk_N G 0 n a))) (ry_S G n li co' ma' us ls op)) : wpY_trees post (ry_S G n li co ma us ls op) x := by
  unfold wpY_trees
  refine ry_work (G := G) (n := n) ok hn fun co' ma' T => ?_
  refine ry_whole (G := G) (n := n) hn (fun h => br_t rfl (K0 h co' ma')) (fun a ha h0 e => br_f (by decide) ?_)
  subst e
  have nn : rk_nd 0 n a < 108 := rk_nd_lt (by omega) hn ha
  refine ry_cell (i := 0) (j := n) (a := a) rfl rfl rfl ⟨vp_in_nI nn (by decide), ?_⟩
  rw [nI_clamp (by omega), (T 0 n a h0 (Nat.le_refl n) ha).1]
  exact K a co' ma' ha h0 rfl T
/-- the set of the symbols of a part -/
def rk_set (G : rk_G) (i j : Nat) : Nat → Int32
  | 0 => 0
  | a + 1 => if 0 < rk_mn (rk_N G i j a) then rk_set G i j a ||| ((1 : Int32) <<< (nI a &&& 31)) else rk_set G i j a
theorem rx_symbols16 {post : Int32 → SX → Prop} (ok : rk_ok G) (hR : rk_rs G R) (hn : n ≤ 5) {i j : Nat} (hi : i < j) (hj : j ≤ n)
    (K : ∀ z', rx_C G n z' → post (rk_set G i j 3) (rx_S G R n z' ou tw)) :
    ∀ d a, a + d = 3 → ∀ z, rx_C G n z → wX_symbols_16 post (nI i) (nI j) (d + 1) (rk_set G i j a) (nI a) (nI R) (nI n) z.1 z.2.1 z.2.2.1 z.2.2.2.1 z.2.2.2.2.1 z.2.2.2.2.2.1 (rk_a (rk_s G)) (rk_a (rk_f G)) (rk_a (rk_c G)) (rk_a (rk_p G)) (rk_a (rk_r G)) z.2.2.2.2.2.2.1 z.2.2.2.2.2.2.2.1 z.2.2.2.2.2.2.2.2.1 z.2.2.2.2.2.2.2.2.2.1 z.2.2.2.2.2.2.2.2.2.2.1 z.2.2.2.2.2.2.2.2.2.2.2 ou tw := by
  intro d
  induction d with
  | zero =>
    intro a ha z C
    have e : a = 3 := by omega
    subst e
    exact br_t (by decide) (K z C)
  | succ d ih =>
    intro a ha z C
    refine br_f (nI_ge (b := 3) (by omega) (by decide)) (rx_node (i := i) (j := j) (a := a) rfl rfl rfl ?_)
    refine rx_reach (G := G) (R := R) (n := n) (z := z) (k := 0) ok hR hn C hi hj (by omega) (by omega) fun r z' L C' hL h => ?_
    have kk := ih (a + 1) (by omega) z' C'
    unfold rk_set at kk
    rcases h with ⟨rfl, g1, g2, g3⟩ | ⟨rfl, g1, g2⟩
    · rw [if_pos (by omega)] at kk
      exact br_f (by decide) (nm_e (nm_r (nI_1 a) kk))
    · rw [if_neg (by omega)] at kk
      exact br_t rfl (nm_r (nI_1 a) kk)
theorem ry_symbols28 {post : Int32 → SY → Prop} (hn : n ≤ 5) (T : ry_T G n ma co) {i j : Nat} (hi : i < j) (hj : j ≤ n)
    (K : post (rk_set G i j 3) (ry_S G n li co ma us ls op)) :
    ∀ d a, a + d = 3 → wY_symbols_28 post (nI i) (nI j) (nI n) li (rk_a (rk_k G)) (rk_a (rk_s G)) (rk_a (rk_f G)) (rk_a (rk_e G)) (rk_a (rk_p G)) (rk_a (rk_r G)) co ma us ls op (d + 1) (rk_set G i j a) (nI a) := by
  intro d
  induction d with
  | zero =>
    intro a ha
    have e : a = 3 := by omega
    subst e
    exact br_t (by decide) K
  | succ d ih =>
    intro a ha
    have nn : rk_nd i j a < 108 := rk_nd_lt hi (by omega) (by omega)
    have h8 := rk_mn8 (rk_N G i j a)
    have kk := ih (a + 1) (by omega)
    unfold rk_set at kk
    refine br_f (nI_ge (b := 3) (by omega) (by decide)) (ry_cell (i := i) (j := j) (a := a) rfl rfl rfl ⟨vp_in_nI nn (by decide), pk_le (rk_mn (rk_N G i j a)) 0 (fun q => ?_) (fun q => ?_) (by rw [nI_clamp (by omega)]; exact (T i j a hi hj (by omega)).1) rfl⟩)
    · rw [if_neg (by omega)] at kk
      exact nm_r (Int32.or_zero) (nm_r (nI_1 a) kk)
    · rw [if_pos q] at kk
      exact nm_e (nm_r (nI_1 a) kk)
end
theorem i_vc_trees {k : Nat} {u : SX} {v : SY} (I : i_Rel k u v) (hk : k + 5 ≤ 2560) (v1 : Int32) : wpX_trees (fun r u' => wpY_trees (fun r' v' => r' = r ∧ i_Rel (k + 5) u' v') v v1) u v1 := by
  obtain ⟨G, R, n, z, ou, tw, li, co, ma, us, ls, op, ok, hR, hn, C, rfl, rfl⟩ := I
  refine rx_trees ok hR hn C (fun h => ?_) (fun a z' ha h0 e C' => ?_)
  · exact ry_trees ok hn (fun _ co ma => ⟨rfl, rl_mk ok hR hn C⟩) (fun a co' ma' ha h0 e _ => absurd e (h a ha h0))
  · refine ry_trees ok hn (fun h => absurd e (h a ha h0)) (fun a' co' ma' ha' h0' e' _ => ⟨?_, rl_mk ok hR hn C'⟩)
    have ea : a' = a := (nI_eq (by omega) (by omega)).mp (e'.symm.trans e)
    rw [ea]
theorem i_vc_symbols {k : Nat} {u : SX} {v : SY} (I : i_Rel k u v) (hk : k + 5 ≤ 2560) (v1 : Int32) (v2 : Int32) : wpX_symbols (fun r u' => wpY_symbols (fun r' v' => r' = r ∧ i_Rel (k + 5) u' v') v v1 v2) u v1 v2 := by
  obtain ⟨G, R, n, z, ou, tw, li, co, ma, us, ls, op, ok, hR, hn, C, rfl, rfl⟩ := I
  by_cases h1 : v1 < 0
  · exact br_t h1 (br_t rfl (br_t h1 ⟨rfl, rl_mk ok hR hn C⟩))
  · by_cases h2 : v2 ≤ v1
    · exact br_f h1 (br_t h2 (br_t rfl (br_f h1 (br_t h2 ⟨rfl, rl_mk ok hR hn C⟩))))
    · by_cases h3 : nI n < v2
      · exact br_f h1 (br_f h2 (br_t h3 (br_t rfl (br_f h1 (br_f h2 (br_f (Int32.not_le.mpr h3) ⟨rfl, rl_mk ok hR hn C⟩))))))
      · obtain ⟨i, hi, rfl⟩ := nI_of h1
        obtain ⟨j, hj, rfl⟩ := nI_of (x := v2) fun q => h2 (Int32.le_trans (Int32.le_of_lt q) (nI_pos' hi))
        have a1 : i < j := by
          apply Classical.byContradiction
          intro q
          exact h2 (nI_le (by omega) hi)
        have a2 : j ≤ n := by
          apply Classical.byContradiction
          intro q
          exact h3 (nI_lt (by omega) hj)
        refine br_f h1 (br_f h2 (br_f h3 (br_f (by decide) ⟨4, ?_⟩)))
        refine rx_symbols16 (G := G) (R := R) (n := n) ok hR hn a1 a2 (fun z' C' => ?_) 3 0 rfl z C
        refine br_f h1 (br_f h2 (br_t (Int32.not_lt.mp h3) ?_))
        refine ry_work (G := G) (n := n) ok hn fun co' ma' T => ⟨4, ?_⟩
        exact ry_symbols28 hn T a1 a2 ⟨rfl, rl_mk ok hR hn C'⟩ 3 0 rfl
section
variable {G : rk_G} {R n : Nat} {ou tw : Nat → Int32} {li : Int32} {co ma us ls op : Nat → Int32}
theorem rx_bestAt {post : Int32 → SX → Prop} (ok : rk_ok G) (hR : rk_rs G R) (hn : n ≤ 5) {z : rx_Z} (C : rx_C G n z) {x1 x2 : Int32}
    (K0 : (∀ a, a < 3 → 0 < n → x1 = nI a → 0 < rk_mn (rk_N G 0 n a) → x2 < 0) → ∀ z', rx_C G n z' → post (-1) (rx_S G R n z' ou tw))
    (K : ∀ a c o z' tw', a < 3 → 0 < n → x1 = nI a → 0 < rk_mn (rk_N G 0 n a) → c < 2 ^ 31 → x2 = nI c → rk_Out G 9 [(0, n, a)] o → o.length ≤ 13 → rx_C G n z' → post (rk_an o c) (rx_S G R n z' ou tw')) : wpX_bestAt post (rx_S G R n z ou tw) x1 x2 := by
  refine pk_eq n 0 (fun q => K0 (fun _ _ z => absurd z (by omega)) z C) (fun q => ?_) rfl rfl
  refine rx_isSymbol (fun h => br_t rfl (K0 (fun a ha _ e => absurd e (h a ha)) z C)) (fun a ha e => br_f (by decide) (br_c (fun h0 => ?_) (fun h0 => K0 (fun _ _ _ _ _ => Int32.not_le.mp h0) z C)))
  subst e
  obtain ⟨c, hc, rfl⟩ := nI_of (Int32.not_lt.mpr h0)
  refine rx_node (i := 0) (j := n) (a := a) rfl rfl rfl ?_
  have nn : rk_nd 0 n a < 108 := rk_nd_lt (by omega) hn ha
  refine rx_reach (G := G) (R := R) (n := n) (z := z) (k := 0) ok hR hn C (by omega) (Nat.le_refl n) ha (by omega) fun r z' L C' hL h => ?_
  rcases h with ⟨rfl, g1, g2, g3⟩ | ⟨rfl, g1, g2⟩
  · have hm : 0 < rk_mn (rk_N G 0 n a) := by omega
    obtain ⟨o, o1, o2⟩ := rk_Out_ex ok hn 9 [(0, n, a)] ⟨⟨by show 0 < n; omega, Nat.le_refl n, ha⟩, trivial⟩ ⟨hm, trivial⟩ (by show (2 * (n - 0) - 1) + 0 ≤ 9; omega)
    have o3 : o.length ≤ 13 := Nat.le_trans o2 (by show (3 * (n - 0) - 2) + 0 ≤ 13; omega)
    refine br_f (by decide) (nm_r (e' := upd tw 0 (nI (rk_nd 0 n a))) (by rw [rk_nb (by omega)]) ⟨10, ?_⟩)
    have b := rx_best58 (post := post) (G := G) (R := R) (n := n) (ou := ou) ok hR hn 9 [(0, n, a)] o o1 ⟨⟨by show 0 < n; omega, Nat.le_refl n, ha⟩, trivial⟩ (by show 1 + 9 ≤ 10; omega) 0 c 0 z' (upd tw 0 (nI (rk_nd 0 n a))) C' ⟨pk_us, trivial⟩ (by omega) (by omega) (fun z2 tw2 C2 => K a c o z2 tw2 ha (by omega) rfl hm hc rfl o1 o3 C2)
    rw [Nat.zero_add] at b
    exact b
  · refine br_t rfl (K0 (fun a' ha' _ e hm => ?_) z' C')
    have ea : a = a' := (nI_eq (by omega) (by omega)).mp e
    subst ea
    omega
theorem ry_bestAt {post : Int32 → SY → Prop} (ok : rk_ok G) (hn : n ≤ 5) {x1 x2 : Int32}
    (K0 : (∀ a, a < 3 → 0 < n → x1 = nI a → ¬ 0 < rk_mn (rk_N G 0 n a)) → ∀ co ma, post (-1) (ry_S G n li co ma us ls op))
    (Kn : x2 < 0 → ∀ li co ma ls op, post (-1) (ry_S G n li co ma us ls op))
    (K : ∀ a o li' co' ma' ls' op', a < 3 → 0 < n → x1 = nI a → 0 < rk_mn (rk_N G 0 n a) → rk_Out G 9 [(0, n, a)] o → ∀ c, c < 2 ^ 31 → x2 = nI c → post (rk_an o c) (ry_S G n li' co' ma' us ls' op')) : wpY_bestAt post (ry_S G n li co ma us ls op) x1 x2 := by
  unfold wpY_bestAt
  refine ry_trees (G := G) (n := n) ok hn (fun h co ma => br_t rfl (K0 (fun a ha h0 e => absurd e (h a ha h0)) co ma)) (fun a co' ma' ha h0 e T => ?_)
  subst e
  have h8 := rk_mn8 (rk_N G 0 n a)
  refine pk_eq (rk_mn (rk_N G 0 n a)) 0 (fun q => K0 (fun a' ha' _ e hm => ?_) co' ma') (fun q => ?_) rfl rfl
  · have ea : a = a' := (nI_eq (by omega) (by omega)).mp e
    subst ea
    omega
  · have hm : 0 < rk_mn (rk_N G 0 n a) := by omega
    obtain ⟨o, o1, o2⟩ := rk_Out_ex ok hn 9 [(0, n, a)] ⟨⟨by show 0 < n; omega, Nat.le_refl n, ha⟩, trivial⟩ ⟨hm, trivial⟩ (by show (2 * (n - 0) - 1) + 0 ≤ 9; omega)
    have o3 : o.length ≤ 13 := Nat.le_trans o2 (by show (3 * (n - 0) - 2) + 0 ≤ 13; omega)
    refine ry_cell (i := 0) (j := n) (a := a) rfl rfl rfl (nm_r (e' := upd op 0 (nI (rk_nd 0 n a))) rfl ⟨10, ?_⟩)
    exact ry_best36 (post := post) (G := G) (n := n) ok hn T 9 [(0, n, a)] o o1 ⟨⟨by show 0 < n; omega, Nat.le_refl n, ha⟩, trivial⟩ (by show 1 + 9 ≤ 10; omega) 0 0 ls (upd op 0 (nI (rk_nd 0 n a))) (by omega) ⟨pk_us, trivial⟩ (by omega) fun ls' op' p1 p2 => ry_164 o3 p2 (fun hx => Kn hx _ co' ma' ls' op') fun c hc ex => K a o _ co' ma' ls' op' ha h0 rfl hm o1 c hc ex
theorem rk_Out_u {G : rk_G} : ∀ f st o o', rk_Out G f st o → rk_Out G f st o' → o = o'
  | 0, st, o, o', h, h' => h.2.trans h'.2.symm
  | f + 1, [], o, o', h, h' => Eq.trans (show o = [] from h) (show o' = [] from h').symm
  | f + 1, e :: st, o, o', ⟨w, p, fw, b⟩, ⟨w', p', fw', b'⟩ => by
    have ew := rk_fw_u fw fw'
    subst ew
    rcases b with b | b
    · rcases b' with b' | b'
      · rw [b.2.1, b'.2.1, rk_Out_u f st p p' b.2.2 b'.2.2]
      · have := b.1; have := b'.1; omega
    · rcases b' with b' | b'
      · have := b.1; have := b'.1; omega
      · rw [b.2.1, b'.2.1, rk_Out_u f _ p p' b.2.2 b'.2.2]
end
theorem i_vc_bestAt {k : Nat} {u : SX} {v : SY} (I : i_Rel k u v) (hk : k + 5 ≤ 2560) (v1 : Int32) (v2 : Int32) : wpX_bestAt (fun r u' => wpY_bestAt (fun r' v' => r' = r ∧ i_Rel (k + 5) u' v') v v1 v2) u v1 v2 := by
  obtain ⟨G, R, n, z, ou, tw, li, co, ma, us, ls, op, ok, hR, hn, C, rfl, rfl⟩ := I
  refine rx_bestAt ok hR hn C (fun h z' C' => ?_) (fun a c o z' tw' ha h0 e hm hc ex o1 o3 C' => ?_)
  · refine ry_bestAt ok hn (fun _ co ma => ⟨rfl, rl_mk ok hR hn C'⟩) (fun _ li co ma ls op => ⟨rfl, rl_mk ok hR hn C'⟩) (fun a o li' co' ma' ls' op' ha h0 e hm o1 c hc ex => ?_)
    have := h a ha h0 e hm
    subst ex
    exact absurd this (nI_pos hc)
  · refine ry_bestAt ok hn (fun h co ma => absurd hm (h a ha h0 e)) (fun hx => ?_) (fun a' o' li' co' ma' ls' op' ha' h0' e' hm' o1' c' hc' ex' => ⟨?_, rl_mk ok hR hn C'⟩)
    · subst ex
      exact absurd hx (nI_pos hc)
    · have ea : a' = a := (nI_eq (by omega) (by omega)).mp (e'.symm.trans e)
      have ec : c' = c := (nI_eq hc' hc).mp (ex'.symm.trans ex)
      subst ea ec
      rw [rk_Out_u 9 _ o o' o1 o1']
end
section
/-! rules and words: the methods that change the grammar -/
theorem rk_or : ∀ R, R < 256 → ∀ k, k < 8 → nI R ||| ((1 : Int32) <<< (nI k &&& 31)) = nI (R ||| 2 ^ k) := by decide +kernel
theorem rk_orb : ∀ R, R < 256 → ∀ k, k < 8 → (R ||| 2 ^ k) < 256 ∧ ∀ j, j < 8 → ((R ||| 2 ^ k) / 2 ^ j % 2 = 0 ↔ (j ≠ k ∧ R / 2 ^ j % 2 = 0)) := by decide +kernel
theorem rk_dr : ∀ R, R < 256 → ∀ k, k < 8 → nI R &&& (((1 : Int32) <<< (nI k &&& 31)) ^^^ (-1)) = nI (R &&& (255 ^^^ 2 ^ k)) := by decide +kernel
theorem rk_drb : ∀ R, R < 256 → ∀ k, k < 8 → (R &&& (255 ^^^ 2 ^ k)) < 256 ∧ ∀ j, j < 8 → ((R &&& (255 ^^^ 2 ^ k)) / 2 ^ j % 2 = 0 ↔ (j = k ∨ R / 2 ^ j % 2 = 0)) := by decide +kernel
def rk_up (f : Nat → Nat) (k v : Nat) : Nat → Nat := fun x => if x = k then v else f x
theorem rk_up_s {f : Nat → Nat} {k v : Nat} : rk_up f k v k = v := if_pos rfl
theorem rk_up_n {f : Nat → Nat} {k v x : Nat} (h : x ≠ k) : rk_up f k v x = f x := if_neg h
theorem rk_a_up (f : Nat → Nat) (k v : Nat) : upd (rk_a f) k (nI v) = rk_a (rk_up f k v) := by
  funext x
  show (if x = k then nI v else nI (f x)) = nI (if x = k then v else f x)
  split <;> rfl
def rk_ent (G : rk_G) (k kd a b c c' p : Nat) : rk_G := (rk_up (rk_k G) k kd, rk_up (rk_s G) k a, rk_up (rk_f G) k b, rk_up (rk_e G) k c, rk_up (rk_p G) k p, rk_r G, rk_up (rk_c G) k c')
theorem rk_ent_ok {G : rk_G} (ok : rk_ok G) {k kd a b c c' p : Nat} (h1 : kd ≤ 2) (h2 : a ≤ 2) (h3 : b ≤ 2) (h4 : c ≤ 2) (h5 : p ≤ 50) (h6 : c' ≤ 3) (h7 : kd = 2 → c' = 3) (h8 : kd = 1 → c' = c) : rk_ok (rk_ent G k kd a b c c' p) := by
  intro x
  show rk_up (rk_k G) k kd x ≤ 2 ∧ rk_up (rk_s G) k a x ≤ 2 ∧ rk_up (rk_f G) k b x ≤ 2 ∧ rk_up (rk_e G) k c x ≤ 2 ∧ rk_up (rk_p G) k p x ≤ 50 ∧ rk_r G x ≤ 2 ∧ rk_up (rk_c G) k c' x ≤ 3 ∧ (rk_up (rk_k G) k kd x = 2 → rk_up (rk_c G) k c' x = 3) ∧ (rk_up (rk_k G) k kd x = 1 → rk_up (rk_c G) k c' x = rk_up (rk_e G) k c x)
  by_cases e : x = k
  · subst e
    simp only [rk_up_s]
    exact ⟨h1, h2, h3, h4, h5, (ok x).2.2.2.2.2.1, h6, h7, h8⟩
  · simp only [rk_up_n e]
    exact ok x
theorem rk_ent_rs {G : rk_G} {R k kd a b c c' p : Nat} (hR : rk_rs G R) (hk : k < 8) (hkd : kd ≠ 0) : rk_rs (rk_ent G k kd a b c c' p) (R ||| 2 ^ k) := by
  have q := rk_orb R hR.1 k hk
  refine ⟨q.1, fun j hj => ?_⟩
  rw [q.2 j hj]
  show _ ↔ rk_up (rk_k G) k kd j = 0
  by_cases e : j = k
  · subst e
    rw [rk_up_s]
    exact ⟨fun z => absurd rfl z.1, fun z => absurd z hkd⟩
  · rw [rk_up_n e]
    exact ⟨fun z => (hR.2 j hj).mp z.2, fun z => ⟨e, (hR.2 j hj).mpr z⟩⟩
def rk_fi (G : rk_G) (k : Nat) : Prop := k < 8 ∧ rk_k G k = 0 ∧ ∀ k', k' < k → rk_k G k' ≠ 0
theorem rk_fi_u {G : rk_G} {k k' : Nat} (h : rk_fi G k) (h' : rk_fi G k') : k' = k := by
  rcases Nat.lt_trichotomy k k' with q | q | q
  · exact absurd h.2.1 (h'.2.2 k q)
  · exact q.symm
  · exact absurd h'.2.1 (h.2.2 k' q)
section
variable {G : rk_G} {R n : Nat} {ou tw : Nat → Int32} {li : Int32} {co ma us ls op : Nat → Int32}
theorem rx_enter3 {post : Int32 → SX → Prop} (hR : rk_rs G R) {z : rx_Z} {kd a b c c' p : Nat} (ha : a < 128) (hb : b < 128) (hc : c' < 128) (hp : p < 128)
    (K8 : (∀ k, k < 8 → rk_k G k ≠ 0) → post (-2) (rx_S G R n z ou tw))
    (K : ∀ k, rk_fi G k → post (nI k) (rx_S (rk_ent G k kd a b c c' p) (R ||| 2 ^ k) n (0, z.2) ou tw)) :
    ∀ d k, k + d = 8 → (∀ k', k' < k → rk_k G k' ≠ 0) → wX_enter_3 post (nI a) (nI b) (nI c') (nI p) (nI R) (nI n) z.1 z.2.1 z.2.2.1 z.2.2.2.1 z.2.2.2.2.1 z.2.2.2.2.2.1 (rk_a (rk_s G)) (rk_a (rk_f G)) (rk_a (rk_c G)) (rk_a (rk_p G)) (rk_a (rk_r G)) z.2.2.2.2.2.2.1 z.2.2.2.2.2.2.2.1 z.2.2.2.2.2.2.2.2.1 z.2.2.2.2.2.2.2.2.2.1 z.2.2.2.2.2.2.2.2.2.2.1 z.2.2.2.2.2.2.2.2.2.2.2 ou tw (d + 1) (nI k) := by
  intro d
  induction d with
  | zero =>
    intro k hk h
    have e : k = 8 := by omega
    subst e
    exact br_t (by decide) (K8 h)
  | succ d ih =>
    intro k hk h
    have i8 : vp_in (nI k) 8 := vp_in_nI (by omega) (by decide)
    have ec : (nI k).toNatClampNeg = k := nI_clamp (by omega)
    refine br_f (nI_ge (b := 8) (by omega) (by decide)) (rx_has hR (by omega) (fun k0 => br_t rfl ?_) (fun k0 => br_f (by decide) (nm_r (nI_1 k) (ih (k + 1) (by omega) fun k' hk' => ?_))))
    · refine nm_r (rk_or R hR.1 k (by omega)) ⟨i8, nm_r (e' := rk_a (rk_up (rk_s G) k a)) (by rw [ec, rk_nb ha, rk_a_up]) ⟨i8, nm_r (e' := rk_a (rk_up (rk_f G) k b)) (by rw [ec, rk_nb hb, rk_a_up]) ⟨i8, nm_r (e' := rk_a (rk_up (rk_c G) k c')) (by rw [ec, rk_nb hc, rk_a_up]) ⟨i8, nm_r (e' := rk_a (rk_up (rk_p G) k p)) (by rw [ec, rk_nb hp, rk_a_up]) ?_⟩⟩⟩⟩
      exact K k ⟨by omega, k0, h⟩
    · by_cases e : k' = k
      · subst e; exact k0
      · exact h k' (by omega)
theorem rx_enter {post : Int32 → SX → Prop} (hR : rk_rs G R) {z : rx_Z} (kd a b c c' p : Nat) (ha : a < 128) (hb : b < 128) (hc : c' < 128) (hp : p < 128)
    (K8 : (∀ k, k < 8 → rk_k G k ≠ 0) → post (-2) (rx_S G R n z ou tw))
    (K : ∀ k, rk_fi G k → post (nI k) (rx_S (rk_ent G k kd a b c c' p) (R ||| 2 ^ k) n (0, z.2) ou tw)) {x1 x2 x3 x4 : Int32} (e1 : x1 = nI a) (e2 : x2 = nI b) (e3 : x3 = nI c') (e4 : x4 = nI p) : wpX_enter post (rx_S G R n z ou tw) x1 x2 x3 x4 := by
  subst e1 e2 e3 e4
  exact ⟨9, rx_enter3 hR ha hb hc hp K8 K 8 0 rfl fun _ h => absurd h (by omega)⟩
theorem ry_add3 {post : Int32 → SY → Prop} (ok : rk_ok G) {kd a b c c' p : Nat}
    (K8 : (∀ k, k < 8 → rk_k G k ≠ 0) → post (-2) (ry_S G n li co ma us ls op))
    (K : ∀ k, rk_fi G k → post (nI k) (ry_S (rk_ent G k kd a b c c' p) n li co ma us ls op)) :
    ∀ d k, k + d = 8 → (∀ k', k' < k → rk_k G k' ≠ 0) → wY_add_3 post (nI kd) (nI a) (nI b) (nI c) (nI p) (nI n) li (rk_a (rk_k G)) (rk_a (rk_s G)) (rk_a (rk_f G)) (rk_a (rk_e G)) (rk_a (rk_p G)) (rk_a (rk_r G)) co ma us ls op (d + 1) (nI k) := by
  intro d
  induction d with
  | zero =>
    intro k hk h
    have e : k = 8 := by omega
    subst e
    exact br_t (by decide) (K8 h)
  | succ d ih =>
    intro k hk h
    have o1 := (ok k).1
    have i8 : vp_in (nI k) 8 := vp_in_nI (by omega) (by decide)
    have ec : (nI k).toNatClampNeg = k := nI_clamp (by omega)
    refine br_f (nI_ge (b := 8) (by omega) (by decide)) ⟨i8, pk_eq (rk_k G k) 0 (fun k0 => ?_) (fun k0 => nm_r (nI_1 k) (ih (k + 1) (by omega) fun k' hk' => ?_)) (rk_at (f := rk_k G) (by omega)) rfl⟩
    · refine ⟨i8, nm_r (e' := rk_a (rk_up (rk_k G) k kd)) (by rw [ec, rk_a_up]) ⟨i8, nm_r (e' := rk_a (rk_up (rk_s G) k a)) (by rw [ec, rk_a_up]) ⟨i8, nm_r (e' := rk_a (rk_up (rk_f G) k b)) (by rw [ec, rk_a_up]) ⟨i8, nm_r (e' := rk_a (rk_up (rk_e G) k c)) (by rw [ec, rk_a_up]) ⟨i8, nm_r (e' := rk_a (rk_up (rk_p G) k p)) (by rw [ec, rk_a_up]) ?_⟩⟩⟩⟩⟩
      exact K k ⟨by omega, k0, h⟩
    · by_cases e : k' = k
      · subst e; exact k0
      · exact h k' (by omega)
theorem ry_add {post : Int32 → SY → Prop} (ok : rk_ok G) (kd a b c c' p : Nat)
    (K8 : (∀ k, k < 8 → rk_k G k ≠ 0) → post (-2) (ry_S G n li co ma us ls op))
    (K : ∀ k, rk_fi G k → post (nI k) (ry_S (rk_ent G k kd a b c c' p) n li co ma us ls op)) {x0 x1 x2 x3 x4 : Int32} (e0 : x0 = nI kd) (e1 : x1 = nI a) (e2 : x2 = nI b) (e3 : x3 = nI c) (e4 : x4 = nI p) : wpY_add post (ry_S G n li co ma us ls op) x0 x1 x2 x3 x4 := by
  subst e0 e1 e2 e3 e4
  exact ⟨9, ry_add3 ok K8 K 8 0 rfl fun _ h => absurd h (by omega)⟩
theorem rx_hasG {post : Int32 → Prop} (hR : rk_rs G R) {z : rx_Z} {x : Int32} (h0 : (∀ k, k < 8 → x = nI k → rk_k G k = 0) → post 0) (h1 : ∀ k, k < 8 → x = nI k → rk_k G k ≠ 0 → post 1) : wpX_has post (rx_S G R n z ou tw) x := by
  rcases pk_ix x (n := 8) (by decide) with h | h | ⟨k, hk, rfl⟩
  · exact br_t h (h0 fun k hk e => by subst e; exact absurd h (nI_pos (by omega)))
  · exact br_f (rk_nlt0 (by decide) h) (br_t h (h0 fun k hk e => by subst e; exact absurd h (nI_ge (b := 8) hk (by decide))))
  · exact rx_has hR hk (fun k0 => h0 fun k' hk' e => by
      have : k = k' := (nI_eq (by omega) (by omega)).mp e
      subst this
      exact k0) (fun k0 => h1 k hk rfl k0)
theorem ry_isG {post : Int32 → Prop} (ok : rk_ok G) {x : Int32} (h0 : (∀ k, k < 8 → x = nI k → rk_k G k = 0) → post 0) (h1 : ∀ k, k < 8 → x = nI k → rk_k G k ≠ 0 → post 1) : wpY_is post (ry_S G n li co ma us ls op) x := by
  rcases pk_ix x (n := 8) (by decide) with h | h | ⟨k, hk, rfl⟩
  · exact br_t h (h0 fun k hk e => by subst e; exact absurd h (nI_pos (by omega)))
  · exact br_f (rk_nlt0 (by decide) h) (br_t h (h0 fun k hk e => by subst e; exact absurd h (nI_ge (b := 8) hk (by decide))))
  · exact ry_is ok hk (fun k0 => h0 fun k' hk' e => by
      have : k = k' := (nI_eq (by omega) (by omega)).mp e
      subst this
      exact k0) (fun k0 => h1 k hk rfl k0)
end
/-! pair, word -/
def rk_vp (v1 v2 : Int32) (a b c p : Nat) : Prop := v1 &&& 3 = nI a ∧ (v1 >>> ((2 : Int32) &&& 31)) &&& 3 = nI b ∧ v1 >>> ((4 : Int32) &&& 31) = nI c ∧ v2 = nI p ∧ a < 3 ∧ b < 3 ∧ c < 3 ∧ p ≤ 50
theorem rk_vp_u {v1 v2 : Int32} {a b c p a' b' c' p' : Nat} (h : rk_vp v1 v2 a b c p) (h' : rk_vp v1 v2 a' b' c' p') : a' = a ∧ b' = b ∧ c' = c ∧ p' = p := by
  obtain ⟨h1, h2, h3, h4, h5, h6, h7, h8⟩ := h
  obtain ⟨g1, g2, g3, g4, g5, g6, g7, g8⟩ := h'
  rw [h1, nI_eq (by omega) (by omega)] at g1
  rw [h2, nI_eq (by omega) (by omega)] at g2
  rw [h3, nI_eq (by omega) (by omega)] at g3
  rw [h4, nI_eq (by omega) (by omega)] at g4
  exact ⟨g1.symm, g2.symm, g3.symm, g4.symm⟩
theorem rk_sgn (v : Int32) : v >>> ((4 : Int32) &&& 31) < 0 ↔ v < 0 := by
  rw [Int32.lt_iff_toInt_lt, Int32.lt_iff_toInt_lt, pk_shr v ((4 : Int32) &&& 31) 4 (by decide), Int.shiftRight_eq_div_pow, show (0 : Int32).toInt = 0 from by decide]
  show v.toInt / 16 < 0 ↔ _
  omega
theorem rk_50 {v : Int32} (h0 : ¬ v < 0) (h : v ≤ 50) : ∃ p, p ≤ 50 ∧ v = nI p := nI_of2 (M := 50) (n := 50) (by decide) h0 h
theorem rk_3 {v : Int32} (h0 : ¬ v < 0) (h : ¬ (3 : Int32) ≤ v) : ∃ p, p < 3 ∧ v = nI p := by
  obtain ⟨j, hj, rfl⟩ := nI_of h0
  refine ⟨j, ?_, rfl⟩
  apply Classical.byContradiction
  intro q
  exact h (nI_le (a := 3) (by omega) hj)
theorem rk_n2 {v : Int32} (h : ¬ (2 : Int32) < v) : ¬ (3 : Int32) ≤ v := fun z => h (rk_ge3 z)
theorem rk_and3 (v : Int32) : ¬ (v &&& 3) < 0 := by
  obtain ⟨j, hj, e⟩ := pk_andE v (m := 3) 2 (by decide)
  rw [e]
  exact nI_pos (Nat.lt_of_lt_of_le hj (by decide))
section
variable {G : rk_G} {R n : Nat} {ou tw : Nat → Int32} {li : Int32} {co ma us ls op : Nat → Int32}
theorem rx_pair {post : Int32 → SX → Prop} (hR : rk_rs G R) {z : rx_Z} {v1 v2 : Int32}
    (K0 : (∀ a b c p, ¬ rk_vp v1 v2 a b c p) → post (-1) (rx_S G R n z ou tw))
    (K8 : ∀ a b c p, rk_vp v1 v2 a b c p → (∀ k, k < 8 → rk_k G k ≠ 0) → post (-2) (rx_S G R n z ou tw))
    (K : ∀ a b c p k, rk_vp v1 v2 a b c p → rk_fi G k → post (nI k) (rx_S (rk_ent G k 1 a b c c p) (R ||| 2 ^ k) n (0, z.2) ou tw)) : wpX_pair post (rx_S G R n z ou tw) v1 v2 := by
  have b27 : post (-1) (rx_S G R n z ou tw) → wX_pair_27 post v1 v2 (nI R) (nI n) z.1 z.2.1 z.2.2.1 z.2.2.2.1 z.2.2.2.2.1 z.2.2.2.2.2.1 (rk_a (rk_s G)) (rk_a (rk_f G)) (rk_a (rk_c G)) (rk_a (rk_p G)) (rk_a (rk_r G)) z.2.2.2.2.2.2.1 z.2.2.2.2.2.2.2.1 z.2.2.2.2.2.2.2.2.1 z.2.2.2.2.2.2.2.2.2.1 z.2.2.2.2.2.2.2.2.2.2.1 z.2.2.2.2.2.2.2.2.2.2.2 ou tw := fun h => br_c (fun _ => h) fun _ => br_t rfl h
  refine br_c (fun h => b27 (K0 fun a b c p t => ?_)) (fun h1 => br_c (fun h => b27 (K0 fun a b c p t => ?_)) (fun h2 => br_c (fun h => b27 (K0 fun a b c p t => ?_)) (fun h3 => br_c (fun h => K0 fun a b c p t => ?_) (fun h4 => br_f (by decide) (br_c (fun h => K0 fun a b c p t => ?_) (fun h5 => br_c (fun h6 => ?_) (fun h => K0 fun a b c p t => ?_)))))))
  · rw [t.1] at h; exact nI_ge (b := 3) t.2.2.2.2.1 (by decide) h
  · rw [t.2.1] at h; exact nI_ge (b := 3) t.2.2.2.2.2.1 (by decide) h
  · rw [t.2.2.1] at h; exact nI_ge (b := 3) t.2.2.2.2.2.2.1 (by decide) h
  · have := (rk_sgn v1).mpr h
    rw [t.2.2.1] at this
    exact nI_pos (by have := t.2.2.2.2.2.2.1; omega) this
  · rw [t.2.2.2.1] at h; exact nI_pos (by have := t.2.2.2.2.2.2.2; omega) h
  · obtain ⟨p, hp, ep⟩ := rk_50 h5 h6
    obtain ⟨a, ha, ea⟩ := rk_3 (rk_and3 v1) h1
    obtain ⟨b, hb, eb⟩ := rk_3 (rk_and3 _) h2
    obtain ⟨c, hc, ec⟩ := rk_3 (fun q => h4 ((rk_sgn v1).mp q)) h3
    have va : rk_vp v1 v2 a b c p := ⟨ea, eb, ec, ep, ha, hb, hc, hp⟩
    exact rx_enter (G := G) (R := R) (n := n) (z := z) hR 1 a b c c p (by omega) (by omega) (by omega) (by omega) (fun h => K8 a b c p va h) (fun k hk => K a b c p k va hk) ea eb ec ep
  · rw [t.2.2.2.1] at h; exact h (nI_le (b := 50) t.2.2.2.2.2.2.2 (by decide))
theorem ry_pair {post : Int32 → SY → Prop} (ok : rk_ok G) {v1 v2 : Int32}
    (K0 : (∀ a b c p, ¬ rk_vp v1 v2 a b c p) → post (-1) (ry_S G n li co ma us ls op))
    (K8 : ∀ a b c p, rk_vp v1 v2 a b c p → (∀ k, k < 8 → rk_k G k ≠ 0) → post (-2) (ry_S G n li co ma us ls op))
    (K : ∀ a b c p k, rk_vp v1 v2 a b c p → rk_fi G k → post (nI k) (ry_S (rk_ent G k 1 a b c c p) n li co ma us ls op)) : wpY_pair post (ry_S G n li co ma us ls op) v1 v2 := by
  refine nm_e (nm_e (nm_e (br_c (fun h => K0 fun a b c p t => ?_) (fun h1 => br_c (fun h => K0 fun a b c p t => ?_) (fun h2 => br_c (fun h => K0 fun a b c p t => ?_) (fun h3 => br_c (fun h => K0 fun a b c p t => ?_) (fun h4 => br_c (fun h => K0 fun a b c p t => ?_) (fun h5 => br_c (fun h6 => ?_) (fun h => K0 fun a b c p t => ?_)))))))))
  · rw [t.1] at h; exact nI_nlt (a := 2) (by have := t.2.2.2.2.1; omega) (by decide) h
  · rw [t.2.1] at h; exact nI_nlt (a := 2) (by have := t.2.2.2.2.2.1; omega) (by decide) h
  · rw [t.2.2.1] at h; exact nI_pos (by have := t.2.2.2.2.2.2.1; omega) h
  · rw [t.2.2.1] at h; exact nI_nlt (a := 2) (by have := t.2.2.2.2.2.2.1; omega) (by decide) h
  · rw [t.2.2.2.1] at h; exact nI_pos (by have := t.2.2.2.2.2.2.2; omega) h
  · obtain ⟨p, hp, ep⟩ := rk_50 h5 h6
    obtain ⟨a, ha, ea⟩ := rk_3 (rk_and3 v1) (rk_n2 h1)
    obtain ⟨b, hb, eb⟩ := rk_3 (rk_and3 _) (rk_n2 h2)
    obtain ⟨c, hc, ec⟩ := rk_3 h3 (rk_n2 h4)
    have va : rk_vp v1 v2 a b c p := ⟨ea, eb, ec, ep, ha, hb, hc, hp⟩
    exact ry_add (G := G) (n := n) ok 1 a b c c p (fun h => K8 a b c p va h) (fun k hk => K a b c p k va hk) rfl ea eb ec ep
  · rw [t.2.2.2.1] at h; exact h (nI_le (b := 50) t.2.2.2.2.2.2.2 (by decide))
end
theorem i_vc_pair {k : Nat} {u : SX} {v : SY} (I : i_Rel k u v) (hk : k + 5 ≤ 2560) (v1 : Int32) (v2 : Int32) : wpX_pair (fun r u' => wpY_pair (fun r' v' => r' = r ∧ i_Rel (k + 5) u' v') v v1 v2) u v1 v2 := by
  obtain ⟨G, R, n, z, ou, tw, li, co, ma, us, ls, op, ok, hR, hn, C, rfl, rfl⟩ := I
  refine rx_pair hR (fun h => ?_) (fun a b c p va h8 => ?_) (fun a b c p q va f => ?_)
  · exact ry_pair ok (fun _ => ⟨rfl, rl_mk ok hR hn C⟩) (fun a b c p va => absurd va (h a b c p)) (fun a b c p q va => absurd va (h a b c p))
  · exact ry_pair ok (fun h => absurd va (h a b c p)) (fun _ _ _ _ _ _ => ⟨rfl, rl_mk ok hR hn C⟩) (fun _ _ _ _ q _ f => absurd f.2.1 (h8 q f.1))
  · refine ry_pair ok (fun h => absurd va (h a b c p)) (fun _ _ _ _ _ h8 => absurd f.2.1 (h8 q f.1)) (fun a' b' c' p' q' va' f' => ?_)
    obtain ⟨rfl, rfl, rfl, rfl⟩ := rk_vp_u va va'
    have eq := rk_fi_u f f'
    subst eq
    obtain ⟨_, _, _, _, h5, h6, h7, h8⟩ := va
    exact ⟨rfl, rl_mk (rk_ent_ok ok (by omega) (by omega) (by omega) (by omega) h8 (by omega) (fun z => absurd z (by omega)) (fun _ => rfl)) (rk_ent_rs hR f.1 (by omega)) hn (Or.inl rfl)⟩
def rk_vw (v1 v2 v3 : Int32) (a b p : Nat) : Prop := v1 = nI a ∧ v2 = nI b ∧ v3 = nI p ∧ a < 3 ∧ b < 3 ∧ p ≤ 50
theorem rk_vw_u {v1 v2 v3 : Int32} {a b p a' b' p' : Nat} (h : rk_vw v1 v2 v3 a b p) (h' : rk_vw v1 v2 v3 a' b' p') : a' = a ∧ b' = b ∧ p' = p := by
  obtain ⟨h1, h2, h4, h5, h6, h8⟩ := h
  obtain ⟨g1, g2, g4, g5, g6, g8⟩ := h'
  rw [h1, nI_eq (by omega) (by omega)] at g1
  rw [h2, nI_eq (by omega) (by omega)] at g2
  rw [h4, nI_eq (by omega) (by omega)] at g4
  exact ⟨g1.symm, g2.symm, g4.symm⟩
section
variable {G : rk_G} {R n : Nat} {ou tw : Nat → Int32} {li : Int32} {co ma us ls op : Nat → Int32}
theorem rx_word {post : Int32 → SX → Prop} (hR : rk_rs G R) {z : rx_Z} {v1 v2 v3 : Int32}
    (K0 : (∀ a b p, ¬ rk_vw v1 v2 v3 a b p) → post (-1) (rx_S G R n z ou tw))
    (K8 : ∀ a b p, rk_vw v1 v2 v3 a b p → (∀ k, k < 8 → rk_k G k ≠ 0) → post (-2) (rx_S G R n z ou tw))
    (K : ∀ a b p k, rk_vw v1 v2 v3 a b p → rk_fi G k → post (nI k) (rx_S (rk_ent G k 2 a b 0 3 p) (R ||| 2 ^ k) n (0, z.2) ou tw)) : wpX_word post (rx_S G R n z ou tw) v1 v2 v3 := by
  refine br_c (fun h => K0 fun a b p t => ?_) (fun h1 => br_c (fun h => K0 fun a b p t => ?_) (fun h2 => br_c (fun h => K0 fun a b p t => ?_) (fun h3 => br_c (fun h => K0 fun a b p t => ?_) (fun h4 => br_c (fun h => K0 fun a b p t => ?_) (fun h5 => br_c (fun h6 => ?_) (fun h => K0 fun a b p t => ?_))))))
  · rw [t.1] at h; exact nI_pos (by have := t.2.2.2.1; omega) h
  · rw [t.1] at h; exact nI_ge (b := 3) t.2.2.2.1 (by decide) h
  · rw [t.2.1] at h; exact nI_pos (by have := t.2.2.2.2.1; omega) h
  · rw [t.2.1] at h; exact nI_nlt (a := 2) (by have := t.2.2.2.2.1; omega) (by decide) h
  · rw [t.2.2.1] at h; exact nI_pos (by have := t.2.2.2.2.2; omega) h
  · obtain ⟨p, hp, ep⟩ := rk_50 h5 h6
    obtain ⟨a, ha, ea⟩ := rk_3 h1 h2
    obtain ⟨b, hb, eb⟩ := rk_3 h3 (rk_n2 h4)
    have va : rk_vw v1 v2 v3 a b p := ⟨ea, eb, ep, ha, hb, hp⟩
    exact rx_enter (G := G) (R := R) (n := n) (z := z) hR 2 a b 0 3 p (by omega) (by omega) (by omega) (by omega) (fun h => K8 a b p va h) (fun k hk => K a b p k va hk) ea eb rfl ep
  · rw [t.2.2.1] at h; exact h (nI_le (b := 50) t.2.2.2.2.2 (by decide))
theorem ry_word {post : Int32 → SY → Prop} (ok : rk_ok G) {v1 v2 v3 : Int32}
    (K0 : (∀ a b p, ¬ rk_vw v1 v2 v3 a b p) → post (-1) (ry_S G n li co ma us ls op))
    (K8 : ∀ a b p, rk_vw v1 v2 v3 a b p → (∀ k, k < 8 → rk_k G k ≠ 0) → post (-2) (ry_S G n li co ma us ls op))
    (K : ∀ a b p k, rk_vw v1 v2 v3 a b p → rk_fi G k → post (nI k) (ry_S (rk_ent G k 2 a b 0 3 p) n li co ma us ls op)) : wpY_word post (ry_S G n li co ma us ls op) v1 v2 v3 := by
  refine br_c (fun h => K0 fun a b p t => ?_) (fun h1 => br_c (fun h => K0 fun a b p t => ?_) (fun h2 => br_c (fun h => K0 fun a b p t => ?_) (fun h3 => br_c (fun h => K0 fun a b p t => ?_) (fun h4 => br_c (fun h => K0 fun a b p t => ?_) (fun h5 => br_c (fun h6 => ?_) (fun h => K0 fun a b p t => ?_))))))
  · rw [t.1] at h; exact nI_pos (by have := t.2.2.2.1; omega) h
  · rw [t.1] at h; exact nI_nlt (a := 2) (by have := t.2.2.2.1; omega) (by decide) h
  · rw [t.2.1] at h; exact nI_pos (by have := t.2.2.2.2.1; omega) h
  · rw [t.2.1] at h; exact nI_nlt (a := 2) (by have := t.2.2.2.2.1; omega) (by decide) h
  · rw [t.2.2.1] at h; exact nI_pos (by have := t.2.2.2.2.2; omega) h
  · obtain ⟨p, hp, ep⟩ := rk_50 h5 h6
    obtain ⟨a, ha, ea⟩ := rk_3 h1 (rk_n2 h2)
    obtain ⟨b, hb, eb⟩ := rk_3 h3 (rk_n2 h4)
    have va : rk_vw v1 v2 v3 a b p := ⟨ea, eb, ep, ha, hb, hp⟩
    exact ry_add (G := G) (n := n) ok 2 a b 0 3 p (fun h => K8 a b p va h) (fun k hk => K a b p k va hk) rfl ea eb rfl ep
  · rw [t.2.2.1] at h; exact h (nI_le (b := 50) t.2.2.2.2.2 (by decide))
end
theorem i_vc_word {k : Nat} {u : SX} {v : SY} (I : i_Rel k u v) (hk : k + 5 ≤ 2560) (v1 : Int32) (v2 : Int32) (v3 : Int32) : wpX_word (fun r u' => wpY_word (fun r' v' => r' = r ∧ i_Rel (k + 5) u' v') v v1 v2 v3) u v1 v2 v3 := by
  obtain ⟨G, R, n, z, ou, tw, li, co, ma, us, ls, op, ok, hR, hn, C, rfl, rfl⟩ := I
  refine rx_word hR (fun h => ?_) (fun a b p va h8 => ?_) (fun a b p q va f => ?_)
  · exact ry_word ok (fun _ => ⟨rfl, rl_mk ok hR hn C⟩) (fun a b p va => absurd va (h a b p)) (fun a b p q va => absurd va (h a b p))
  · exact ry_word ok (fun h => absurd va (h a b p)) (fun _ _ _ _ _ => ⟨rfl, rl_mk ok hR hn C⟩) (fun _ _ _ q _ f => absurd f.2.1 (h8 q f.1))
  · refine ry_word ok (fun h => absurd va (h a b p)) (fun _ _ _ _ h8 => absurd f.2.1 (h8 q f.1)) (fun a' b' p' q' va' f' => ?_)
    obtain ⟨rfl, rfl, rfl⟩ := rk_vw_u va va'
    have eq := rk_fi_u f f'
    subst eq
    obtain ⟨_, _, _, h5, h6, h8⟩ := va
    exact ⟨rfl, rl_mk (rk_ent_ok ok (by omega) (by omega) (by omega) (by omega) h8 (by omega) (fun _ => rfl) (fun z => absurd z (by omega))) (rk_ent_rs hR f.1 (by omega)) hn (Or.inl rfl)⟩
end
section
/-! drop, price, rules, say, unsay, length; the constructors -/
def rk_del (G : rk_G) (k : Nat) : rk_G := (rk_up (rk_k G) k 0, rk_s G, rk_f G, rk_e G, rk_p G, rk_r G, rk_c G)
def rk_pri (G : rk_G) (k p : Nat) : rk_G := (rk_k G, rk_s G, rk_f G, rk_e G, rk_up (rk_p G) k p, rk_r G, rk_c G)
def rk_row (G : rk_G) (k w : Nat) : rk_G := (rk_k G, rk_s G, rk_f G, rk_e G, rk_p G, rk_up (rk_r G) k w, rk_c G)
theorem rk_del_ok {G : rk_G} (ok : rk_ok G) {k : Nat} : rk_ok (rk_del G k) := by
  intro x
  show rk_up (rk_k G) k 0 x ≤ 2 ∧ rk_s G x ≤ 2 ∧ rk_f G x ≤ 2 ∧ rk_e G x ≤ 2 ∧ rk_p G x ≤ 50 ∧ rk_r G x ≤ 2 ∧ rk_c G x ≤ 3 ∧ (rk_up (rk_k G) k 0 x = 2 → rk_c G x = 3) ∧ (rk_up (rk_k G) k 0 x = 1 → rk_c G x = rk_e G x)
  obtain ⟨h1, h2, h3, h4, h5, h6, h7, h8, h9⟩ := ok x
  by_cases e : x = k
  · subst e
    simp only [rk_up_s]
    exact ⟨by omega, h2, h3, h4, h5, h6, h7, fun z => absurd z (by omega), fun z => absurd z (by omega)⟩
  · simp only [rk_up_n e]
    exact ⟨h1, h2, h3, h4, h5, h6, h7, h8, h9⟩
theorem rk_del_rs {G : rk_G} {R k : Nat} (hR : rk_rs G R) (hk : k < 8) : rk_rs (rk_del G k) (R &&& (255 ^^^ 2 ^ k)) := by
  have q := rk_drb R hR.1 k hk
  refine ⟨q.1, fun j hj => ?_⟩
  rw [q.2 j hj]
  show _ ↔ rk_up (rk_k G) k 0 j = 0
  by_cases e : j = k
  · subst e
    rw [rk_up_s]
    exact ⟨fun _ => rfl, fun _ => Or.inl rfl⟩
  · rw [rk_up_n e]
    exact ⟨fun z => (hR.2 j hj).mp (z.resolve_left e), fun z => Or.inr ((hR.2 j hj).mpr z)⟩
theorem rk_pri_ok {G : rk_G} (ok : rk_ok G) {k p : Nat} (hp : p ≤ 50) : rk_ok (rk_pri G k p) := by
  intro x
  show rk_k G x ≤ 2 ∧ rk_s G x ≤ 2 ∧ rk_f G x ≤ 2 ∧ rk_e G x ≤ 2 ∧ rk_up (rk_p G) k p x ≤ 50 ∧ rk_r G x ≤ 2 ∧ rk_c G x ≤ 3 ∧ (rk_k G x = 2 → rk_c G x = 3) ∧ (rk_k G x = 1 → rk_c G x = rk_e G x)
  obtain ⟨h1, h2, h3, h4, h5, h6, h7, h8, h9⟩ := ok x
  by_cases e : x = k
  · subst e
    simp only [rk_up_s]
    exact ⟨h1, h2, h3, h4, hp, h6, h7, h8, h9⟩
  · simp only [rk_up_n e]
    exact ⟨h1, h2, h3, h4, h5, h6, h7, h8, h9⟩
theorem rk_row_ok {G : rk_G} (ok : rk_ok G) {k w : Nat} (hw : w ≤ 2) : rk_ok (rk_row G k w) := by
  intro x
  show rk_k G x ≤ 2 ∧ rk_s G x ≤ 2 ∧ rk_f G x ≤ 2 ∧ rk_e G x ≤ 2 ∧ rk_p G x ≤ 50 ∧ rk_up (rk_r G) k w x ≤ 2 ∧ rk_c G x ≤ 3 ∧ (rk_k G x = 2 → rk_c G x = 3) ∧ (rk_k G x = 1 → rk_c G x = rk_e G x)
  obtain ⟨h1, h2, h3, h4, h5, h6, h7, h8, h9⟩ := ok x
  by_cases e : x = k
  · subst e
    simp only [rk_up_s]
    exact ⟨h1, h2, h3, h4, h5, hw, h7, h8, h9⟩
  · simp only [rk_up_n e]
    exact ⟨h1, h2, h3, h4, h5, h6, h7, h8, h9⟩
theorem i_vc_drop {k : Nat} {u : SX} {v : SY} (I : i_Rel k u v) (hk : k + 5 ≤ 2560) (v1 : Int32) : wpX_drop (fun r u' => wpY_drop (fun r' v' => r' = r ∧ i_Rel (k + 5) u' v') v v1) u v1 := by
  obtain ⟨G, R, n, z, ou, tw, li, co, ma, us, ls, op, ok, hR, hn, C, rfl, rfl⟩ := I
  unfold wpX_drop wpY_drop
  refine rx_hasG (G := G) (R := R) (n := n) (z := z) hR (fun h => br_t rfl ?_) (fun q hq e k0 => br_f (by decide) ?_)
  · exact ry_isG (G := G) (n := n) ok (fun _ => br_t rfl ⟨rfl, rl_mk ok hR hn C⟩) (fun q hq e k0 => absurd (h q hq e) k0)
  · subst e
    refine nm_r (rk_dr R hR.1 q hq) ?_
    refine ry_isG (G := G) (n := n) ok (fun h => absurd (h q hq rfl) k0) (fun q' hq' e' _ => br_f (by decide) ⟨vp_in_nI hq (by decide), nm_r (e' := rk_a (rk_up (rk_k G) q 0)) ?_ ⟨rfl, ?_⟩⟩)
    · rw [nI_clamp (by omega)]
      exact rk_a_up (rk_k G) q 0
    · exact rl_mk (G := rk_del G q) (z := (0, z.2)) (rk_del_ok ok) (rk_del_rs hR hq) hn (Or.inl rfl)
theorem i_vc_price {k : Nat} {u : SX} {v : SY} (I : i_Rel k u v) (hk : k + 5 ≤ 2560) (v1 : Int32) (v2 : Int32) : wpX_price (fun r u' => wpY_price (fun r' v' => r' = r ∧ i_Rel (k + 5) u' v') v v1 v2) u v1 v2 := by
  obtain ⟨G, R, n, z, ou, tw, li, co, ma, us, ls, op, ok, hR, hn, C, rfl, rfl⟩ := I
  unfold wpX_price wpY_price
  refine rx_hasG (G := G) (R := R) (n := n) (z := z) hR (fun h => br_t rfl ?_) (fun q hq e k0 => br_f (by decide) ?_)
  · exact ry_isG (G := G) (n := n) ok (fun _ => br_t rfl ⟨rfl, rl_mk ok hR hn C⟩) (fun q hq e k0 => absurd (h q hq e) k0)
  · subst e
    refine br_c (fun h2 => ?_) (fun h2 => br_c (fun h3 => ?_) (fun h3 => ?_))
    · exact ry_isG (G := G) (n := n) ok (fun h => absurd (h q hq rfl) k0) (fun q' hq' e' _ => br_f (by decide) (br_t h2 ⟨rfl, rl_mk ok hR hn C⟩))
    · obtain ⟨p, hp, rfl⟩ := rk_50 h2 h3
      refine ⟨vp_in_nI hq (by decide), nm_r (e' := rk_a (rk_up (rk_p G) q p)) ?_ ?_⟩
      · rw [nI_clamp (by omega), rk_nb (by omega)]
        exact rk_a_up (rk_p G) q p
      · refine ry_isG (G := G) (n := n) ok (fun h => absurd (h q hq rfl) k0) (fun q' hq' e' _ => br_f (by decide) (br_f h2 (br_t h3 ⟨vp_in_nI hq (by decide), nm_r (e' := rk_a (rk_up (rk_p G) q p)) ?_ ⟨rfl, ?_⟩⟩)))
        · rw [nI_clamp (by omega)]
          exact rk_a_up (rk_p G) q p
        · exact rl_mk (G := rk_pri G q p) (z := (0, z.2)) (rk_pri_ok ok hp) hR hn (Or.inl rfl)
    · exact ry_isG (G := G) (n := n) ok (fun h => absurd (h q hq rfl) k0) (fun q' hq' e' _ => br_f (by decide) (br_f h2 (br_f h3 ⟨rfl, rl_mk ok hR hn C⟩)))
/-! rules -/
def rk_rb (R : Nat) : Nat → Int32
  | 0 => 0
  | k + 1 => if R / 2 ^ k % 2 = 0 then rk_rb R k else rk_rb R k ||| ((1 : Int32) <<< (nI k &&& 31))
theorem rk_rb8 : ∀ R, R < 256 → rk_rb R 8 = nI R := by decide +kernel
theorem ry_rules4 {G : rk_G} {R n : Nat} {li : Int32} {co ma us ls op : Nat → Int32} {post : Int32 → Prop} (ok : rk_ok G) (hR : rk_rs G R) (K : post (nI R)) :
    ∀ d k, k + d = 8 → wY_rules_4 post (nI n) li (rk_a (rk_k G)) (rk_a (rk_s G)) (rk_a (rk_f G)) (rk_a (rk_e G)) (rk_a (rk_p G)) (rk_a (rk_r G)) co ma us ls op (d + 1) (rk_rb R k) (nI k) := by
  intro d
  induction d with
  | zero =>
    intro k hk
    have e : k = 8 := by omega
    subst e
    rw [rk_rb8 R hR.1]
    exact br_t (by decide) K
  | succ d ih =>
    intro k hk
    have kk := ih (k + 1) (by omega)
    have hb := hR.2 k (by omega)
    unfold rk_rb at kk
    refine br_f (nI_ge (b := 8) (by omega) (by decide)) (ry_is (G := G) (n := n) ok (by omega) (fun k0 => br_t rfl ?_) (fun k0 => br_f (by decide) ?_))
    · rw [if_pos (hb.mpr k0)] at kk
      exact nm_r (Int32.or_zero) (nm_r (nI_1 k) kk)
    · rw [if_neg (fun z => k0 (hb.mp z))] at kk
      exact nm_e (nm_r (nI_1 k) kk)
theorem i_vc_rules {k : Nat} {u : SX} {v : SY} (I : i_Rel k u v) (hk : k + 5 ≤ 2560) : wpX_rules (fun r => wpY_rules (fun r' => r' = r ∧ i_Rel (k + 5) u v) v) u := by
  obtain ⟨G, R, n, z, ou, tw, li, co, ma, us, ls, op, ok, hR, hn, C, rfl, rfl⟩ := I
  exact ⟨9, ry_rules4 ok hR ⟨rfl, rl_mk ok hR hn C⟩ 8 0 rfl⟩
theorem i_vc_length {k : Nat} {u : SX} {v : SY} (I : i_Rel k u v) (hk : k + 5 ≤ 2560) : wpX_length (fun r => wpY_length (fun r' => r' = r ∧ i_Rel (k + 5) u v) v) u := by
  obtain ⟨G, R, n, z, ou, tw, li, co, ma, us, ls, op, ok, hR, hn, C, rfl, rfl⟩ := I
  exact ⟨rfl, rl_mk ok hR hn C⟩
theorem i_vc_say {k : Nat} {u : SX} {v : SY} (I : i_Rel k u v) (hk : k + 5 ≤ 2560) (v1 : Int32) : wpX_say (fun r u' => wpY_say (fun r' v' => r' = r ∧ i_Rel (k + 5) u' v') v v1) u v1 := by
  obtain ⟨G, R, n, z, ou, tw, li, co, ma, us, ls, op, ok, hR, hn, C, rfl, rfl⟩ := I
  refine br_c (fun h1 => br_t h1 ⟨rfl, rl_mk ok hR hn C⟩) (fun h1 => br_c (fun h2 => br_f h1 (br_t h2 ⟨rfl, rl_mk ok hR hn C⟩)) (fun h2 => pk_lt n 5 (fun q => ?_) (fun q => br_f h1 (br_f h2 (br_f (nI_nlt (b := 5) q (by omega)) ⟨rfl, rl_mk ok hR hn C⟩))) rfl rfl))
  obtain ⟨w, hw, rfl⟩ := rk_3 h1 (rk_n2 h2)
  have i5 : vp_in (nI n) 5 := vp_in_nI q (by decide)
  refine ⟨i5, nm_r (e' := rk_a (rk_up (rk_r G) n w)) ?_ (nm_r (nI_1 n) ?_)⟩
  · rw [nI_clamp (by omega), rk_nb (by omega)]
    exact rk_a_up (rk_r G) n w
  · refine br_f h1 (br_f h2 (br_t (nI_lt (b := 5) q (by decide)) ⟨i5, nm_r (e' := rk_a (rk_up (rk_r G) n w)) ?_ (nm_r (nI_1 n) ⟨rfl, ?_⟩)⟩))
    · rw [nI_clamp (by omega)]
      exact rk_a_up (rk_r G) n w
    · exact rl_mk (G := rk_row G n w) (n := n + 1) (z := (0, z.2)) (rk_row_ok ok (by omega)) hR (by omega) (Or.inl rfl)
theorem i_vc_unsay {k : Nat} {u : SX} {v : SY} (I : i_Rel k u v) (hk : k + 5 ≤ 2560) : wpX_unsay (fun r u' => wpY_unsay (fun r' v' => r' = r ∧ i_Rel (k + 5) u' v') v) u := by
  obtain ⟨G, R, n, z, ou, tw, li, co, ma, us, ls, op, ok, hR, hn, C, rfl, rfl⟩ := I
  refine pk_eq n 0 (fun q => br_t (by rw [q]; rfl) ⟨rfl, rl_mk ok hR hn C⟩) (fun q => ?_) rfl rfl
  obtain ⟨m, rfl⟩ : ∃ m, n = m + 1 := ⟨n - 1, by omega⟩
  have i5 : vp_in (nI m) 5 := vp_in_nI (by omega) (by decide)
  refine nm_r (nI_pred m) ⟨i5, br_f (nI_ne0 (by omega) (by omega)) (nm_r (nI_pred m) ⟨i5, rfl, ?_⟩)⟩
  exact rl_mk (G := G) (n := m) (z := (0, z.2)) ok hR (by omega) (Or.inl rfl)
theorem i_vc0 : wpX_init (fun u => wpY_init (fun v => i_Rel 0 u v)) := by
  have h : i_Rel 0 (rx_S ((fun _ => 0), (fun _ => 0), (fun _ => 0), (fun _ => 0), (fun _ => 0), (fun _ => 0), (fun _ => 0)) 0 0 (0, 0, 0, 0, 0, 0, (fun _ => 0), (fun _ => 0), (fun _ => 0), (fun _ => 0), (fun _ => 0), (fun _ => 0)) (fun _ => 0) (fun _ => 0)) (ry_S ((fun _ => 0), (fun _ => 0), (fun _ => 0), (fun _ => 0), (fun _ => 0), (fun _ => 0), (fun _ => 0)) 0 0 (fun _ => 0) (fun _ => 0) (fun _ => 0) (fun _ => 0) (fun _ => 0)) := by
    refine rl_mk (fun x => ?_) ⟨by decide, fun j hj => ?_⟩ (by omega) (Or.inl rfl)
    · exact ⟨Nat.zero_le _, Nat.zero_le _, Nat.zero_le _, Nat.zero_le _, Nat.zero_le _, Nat.zero_le _, Nat.zero_le _, fun z => absurd (show (0 : Nat) = 2 from z) (by decide), fun _ => rfl⟩
    · exact ⟨fun _ => rfl, fun _ => by rw [Nat.zero_div]⟩
  exact h
end
