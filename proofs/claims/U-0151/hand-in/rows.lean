section
/-! pure rows to paste: stores, nI and lN arithmetic, masks, shifts, narrowing, branches by naturals (pk_le, pk_lt, pk_eq), loops (lp1 .. lp16: the measure of the state; rp1 ..: recursion), negatives. Take what you need -/
theorem pk_us {f : Nat → Int32} {k : Nat} {x : Int32} : upd f k x k = x := if_pos rfl
theorem pk_un {f : Nat → Int32} {k j : Nat} {x : Int32} (h : j ≠ k) : upd f k x j = f j := if_neg h
theorem pk_uLs {f : Nat → Int64} {k : Nat} {x : Int64} : vp_updL f k x k = x := if_pos rfl
theorem pk_uLn {f : Nat → Int64} {k j : Nat} {x : Int64} (h : j ≠ k) : vp_updL f k x j = f j := if_neg h
theorem pk_sub {a b : Nat} (h : b ≤ a) : nI a - nI b = nI (a - b) := by
  obtain ⟨c, rfl⟩ : ∃ c, a = c + b := ⟨a - b, by omega⟩
  rw [← nI_add, Int32.add_sub_cancel, Nat.add_sub_cancel]
theorem pk_m1 (n : Nat) : nI (n + 1) + (-1) = nI n := by
  rw [← nI_1, Int32.add_assoc, show (1 : Int32) + (-1) = 0 from rfl, Int32.add_zero]
theorem pk_mul (a b : Nat) : nI a * nI b = nI (a * b) := (Int32.ofNat_mul a b).symm
theorem pk_div {a d : Nat} (ha : a < 2 ^ 31) (h0 : 0 < d) (hd : d < 2 ^ 31) : nI a / nI d = nI (a / d) := by
  apply Int32.toInt_inj.mp
  rw [lg_idiv_nonneg (by rw [nI_toInt ha]; omega) (by rw [nI_toInt hd]; omega), nI_toInt ha, nI_toInt hd, nI_toInt (Nat.lt_of_le_of_lt (Nat.div_le_self a d) ha)]
  first | rfl | exact (Int.natCast_ediv _ _).symm
theorem pk_rem {a d : Nat} (ha : a < 2 ^ 31) (h0 : 0 < d) (hd : d < 2 ^ 31) : nI a - nI a / nI d * nI d = nI (a % d) := by
  rw [pk_div ha h0 hd, pk_mul, pk_sub (Nat.div_mul_le_self a d)]
  exact congrArg nI (by have := Nat.div_add_mod' a d; omega)
theorem pk_sub_toInt {a b : Nat} (ha : a < 2 ^ 30) (hb : b < 2 ^ 30) : (nI a - nI b).toInt = (a : Int) - b := by
  rw [Int32.toInt_sub, nI_toInt (by omega), nI_toInt (by omega)]
  exact Int.bmod_eq_of_le (by omega) (by omega)
theorem pk_sneg {a b : Nat} (hb : b < 2 ^ 30) (h : a < b) : nI a - nI b < 0 := by
  rw [Int32.lt_iff_toInt_lt, pk_sub_toInt (by omega) hb, show (0 : Int32).toInt = 0 from by decide]
  omega
theorem pk_ix (x : Int32) {n : Nat} (hn : n < 2 ^ 31) : x < 0 ∨ nI n ≤ x ∨ ∃ j : Nat, j < n ∧ x = nI j := by
  by_cases h : x < 0
  · exact Or.inl h
  · obtain ⟨j, hj, rfl⟩ := nI_of h
    by_cases h2 : j < n
    · exact Or.inr (Or.inr ⟨j, h2, rfl⟩)
    · exact Or.inr (Or.inl (nI_le (by omega) hj))
theorem pk_le {x y : Int32} {A B : Prop} (a b : Nat) (f : a ≤ b → A) (g : b < a → B) (hx : x = nI a := by rfl) (hy : y = nI b := by rfl) (ha : a < 2 ^ 31 := by omega) (hb : b < 2 ^ 31 := by omega) : (x ≤ y → A) ∧ (¬ x ≤ y → B) := by
  subst hx hy
  rw [nI_leI ha hb]
  exact ⟨f, fun z => g (by omega)⟩
theorem pk_lt {x y : Int32} {A B : Prop} (a b : Nat) (f : a < b → A) (g : b ≤ a → B) (hx : x = nI a := by rfl) (hy : y = nI b := by rfl) (ha : a < 2 ^ 31 := by omega) (hb : b < 2 ^ 31 := by omega) : (x < y → A) ∧ (¬ x < y → B) := by
  subst hx hy
  rw [nI_ltI ha hb]
  exact ⟨f, fun z => g (by omega)⟩
theorem pk_eq {x y : Int32} {A B : Prop} (a b : Nat) (f : a = b → A) (g : a ≠ b → B) (hx : x = nI a := by rfl) (hy : y = nI b := by rfl) (ha : a < 2 ^ 31 := by omega) (hb : b < 2 ^ 31 := by omega) : (x = y → A) ∧ (¬ x = y → B) := by
  subst hx hy
  rw [nI_eq ha hb]
  exact ⟨f, g⟩
theorem pk_in {x : Int32} (n N : Nat) (h : n < N) (hx : x = nI n := by rfl) (hN : N < 2 ^ 31 := by omega) : vp_in x N := by
  subst hx
  exact vp_in_nI h hN
theorem pk_cl {x : Int32} (n : Nat) (hx : x = nI n := by rfl) (h : n < 2 ^ 31 := by omega) : x.toNatClampNeg = n := by
  subst hx
  exact nI_clamp h
theorem pk_tn {n : Nat} (h : n < 2 ^ 32) : (nI n).toBitVec.toNat = n := Nat.mod_eq_of_lt h
theorem pk_and (x : Int32) {m : Int32} (k : Nat) (hm : m.toBitVec.toNat = 2 ^ k - 1) : x &&& m = nI (x.toBitVec.toNat % 2 ^ k) := by
  apply Int32.toBitVec_inj.mp
  apply BitVec.eq_of_toNat_eq
  rw [Int32.toBitVec_and, BitVec.toNat_and, hm, Nat.and_two_pow_sub_one_eq_mod]
  show _ = (BitVec.ofNat 32 _).toNat
  rw [BitVec.toNat_ofNat]
  exact (Nat.mod_eq_of_lt (Nat.lt_of_le_of_lt (Nat.mod_le _ _) x.toBitVec.isLt)).symm
theorem pk_andN {n : Nat} (h : n < 2 ^ 32) {m : Int32} (k : Nat) (hm : m.toBitVec.toNat = 2 ^ k - 1) : nI n &&& m = nI (n % 2 ^ k) := by
  rw [pk_and _ k hm, pk_tn h]
theorem pk_andE (x : Int32) {m : Int32} (k : Nat) (hm : m.toBitVec.toNat = 2 ^ k - 1) : ∃ j : Nat, j < 2 ^ k ∧ x &&& m = nI j := ⟨_, Nat.mod_lt _ (Nat.two_pow_pos k), pk_and x k hm⟩
theorem pk_andIn (x : Int32) {m : Int32} (k : Nat) (hm : m.toBitVec.toNat = 2 ^ k - 1) (hk : k ≤ 30) : vp_in (x &&& m) (2 ^ k) := by
  obtain ⟨j, hj, e⟩ := pk_andE x k hm
  rw [e]
  exact vp_in_nI hj (Nat.lt_of_le_of_lt (Nat.pow_le_pow_right (by decide) hk) (by decide))
theorem pk_shl (a s : Int32) (k : Nat) (hs : (s.toBitVec.smod 32).toNat = k) : (a <<< s).toBitVec.toNat = a.toBitVec.toNat * 2 ^ k % 2 ^ 32 := by
  show (a.toBitVec <<< (s.toBitVec.smod 32).toNat).toNat = _
  rw [hs, BitVec.toNat_shiftLeft, Nat.shiftLeft_eq]
theorem pk_shlN {n : Nat} (s : Int32) (k : Nat) (hs : (s.toBitVec.smod 32).toNat = k) (h : n * 2 ^ k < 2 ^ 32) : nI n <<< s = nI (n * 2 ^ k) := by
  apply Int32.toBitVec_inj.mp
  apply BitVec.eq_of_toNat_eq
  have hn : n < 2 ^ 32 := Nat.lt_of_le_of_lt (Nat.le_mul_of_pos_right n (Nat.two_pow_pos k)) h
  rw [pk_shl _ _ k hs, pk_tn hn, pk_tn h, Nat.mod_eq_of_lt h]
theorem pk_shr (a s : Int32) (k : Nat) (hs : (s.toBitVec.smod 32).toNat = k) : (a >>> s).toInt = a.toInt >>> k := by
  show (a.toBitVec.sshiftRight (s.toBitVec.smod 32).toNat).toInt = _
  rw [hs, BitVec.toInt_sshiftRight]
  rfl
theorem pk_shrN {n : Nat} (h : n < 2 ^ 31) (s : Int32) (k : Nat) (hs : (s.toBitVec.smod 32).toNat = k) : nI n >>> s = nI (n / 2 ^ k) := by
  apply Int32.toInt_inj.mp
  have h2 : n / 2 ^ k ≤ n := Nat.div_le_self _ _
  rw [pk_shr _ _ k hs, nI_toInt h, nI_toInt (by omega), Int.shiftRight_eq_div_pow]
  rfl
theorem pk_ushr (x s : Int32) (k : Nat) (hs : ((s.toUInt32 &&& Int32.toUInt32 31).toBitVec % 32).toNat = k) : (x.toUInt32 >>> (s.toUInt32 &&& Int32.toUInt32 31)).toInt32.toBitVec.toNat = x.toBitVec.toNat / 2 ^ k := by
  have e : (x.toUInt32 >>> (s.toUInt32 &&& Int32.toUInt32 31)).toInt32.toBitVec = x.toBitVec >>> k := by
    rw [← hs]
    exact UInt32.toBitVec_shiftRight _ _
  rw [e, BitVec.toNat_ushiftRight, Nat.shiftRight_eq_div_pow]
theorem pk_ushrN {n : Nat} (hn : n < 2 ^ 32) (s : Int32) (k : Nat) (hs : ((s.toUInt32 &&& Int32.toUInt32 31).toBitVec % 32).toNat = k) : ((nI n).toUInt32 >>> (s.toUInt32 &&& Int32.toUInt32 31)).toInt32 = nI (n / 2 ^ k) := by
  apply Int32.toBitVec_inj.mp
  apply BitVec.eq_of_toNat_eq
  rw [pk_ushr _ s k hs, pk_tn hn, pk_tn (Nat.lt_of_le_of_lt (Nat.div_le_self _ _) hn)]
theorem pk_nb (z : Int32) : narrow .byte (.int z.toInt8.toInt32) = .int z.toInt8.toInt32 := congrArg Value.int (by simp)
theorem pk_ns (z : Int32) : narrow .short (.int z.toInt16.toInt32) = .int z.toInt16.toInt32 := congrArg Value.int (by simp)
theorem pk_fb (r : Int32) : fits .byte (.int r.toInt8.toInt32) = true := by
  have ⟨a, b⟩ := lg_i2b_range r
  have h1 : (-128 : Int32).toInt = -128 := by decide
  have h2 : (127 : Int32).toInt = 127 := by decide
  simp only [fits, Bool.and_eq_true, decide_eq_true_eq, Int32.le_iff_toInt_le, h1, h2]
  omega
theorem pk_fs (r : Int32) : fits .short (.int r.toInt16.toInt32) = true := by
  have ⟨a, b⟩ := lg_i2s_range r
  have h1 : (-32768 : Int32).toInt = -32768 := by decide
  have h2 : (32767 : Int32).toInt = 32767 := by decide
  simp only [fits, Bool.and_eq_true, decide_eq_true_eq, Int32.le_iff_toInt_le, h1, h2]
  omega
theorem pk_charN {q : Nat} (hq : q < 65536) : narrow .char (.int (nI q)) = .int (nI q) ∧ fits .char (.int (nI q)) = true := by
  constructor
  · have e : (nI q).toUInt32.toUInt16.toUInt32.toInt32 = nI q := by
      apply Int32.toBitVec_inj.mp
      apply BitVec.eq_of_toNat_eq
      show (nI q).toUInt32.toUInt16.toUInt32.toNat = q % 2 ^ 32
      rw [UInt16.toNat_toUInt32, UInt32.toNat_toUInt16, show (nI q).toUInt32.toNat = q % 2 ^ 32 from rfl]
      omega
    exact congrArg Value.int e
  · have a : (0 : Int32) ≤ nI q := nI_pos' (by omega)
    have b : nI q ≤ 65535 := nI_le (b := 65535) (by omega) (by decide)
    show (decide ((0 : Int32) ≤ nI q) && decide (nI q ≤ 65535)) = true
    rw [decide_eq_true a, decide_eq_true b]
    rfl
theorem pk_char (x : Int32) : (x.toUInt32 % 65536).toInt32 = nI (x.toBitVec.toNat % 65536) := by
  apply Int32.toBitVec_inj.mp
  apply BitVec.eq_of_toNat_eq
  rw [pk_tn (by omega)]
  show (x.toUInt32 % 65536).toNat = _
  rw [UInt32.toNat_mod]
  rfl
theorem pk_nc (x : Int32) : narrow .char (.int (x.toUInt32 % 65536).toInt32) = .int (x.toUInt32 % 65536).toInt32 := by
  rw [pk_char]
  exact (pk_charN (Nat.mod_lt _ (by decide))).1
theorem pk_fc (x : Int32) : fits .char (.int (x.toUInt32 % 65536).toInt32) = true := by
  rw [pk_char]
  exact (pk_charN (Nat.mod_lt _ (by decide))).2
theorem pk_vb (z : Int32) : vp_nar .byte z.toInt8.toInt32 = z.toInt8.toInt32 := by rw [vp_nar_byte]; simp
theorem pk_vs (z : Int32) : vp_nar .short z.toInt16.toInt32 = z.toInt16.toInt32 := by rw [vp_nar_short]; simp
theorem pk_vc (z : Int32) : vp_nar .char (z.toUInt32 % 65536).toInt32 = (z.toUInt32 % 65536).toInt32 := Value.int.inj (pk_nc z)
theorem pk_lT {n : Nat} (h : n < 2 ^ 63) : (lN n).toInt = (n : Int) := lg_ofNat_toInt h
theorem pk_lLT {a b : Nat} (ha : a < 2 ^ 63) (hb : b < 2 ^ 63) : lN a < lN b ↔ a < b := by
  rw [Int64.lt_iff_toInt_lt, pk_lT ha, pk_lT hb]; omega
theorem pk_lLE {a b : Nat} (ha : a < 2 ^ 63) (hb : b < 2 ^ 63) : lN a ≤ lN b ↔ a ≤ b := by
  rw [Int64.le_iff_toInt_le, pk_lT ha, pk_lT hb]; omega
theorem pk_lEQ {a b : Nat} (ha : a < 2 ^ 63) (hb : b < 2 ^ 63) : lN a = lN b ↔ a = b := by
  rw [← Int64.toInt_inj, pk_lT ha, pk_lT hb]; omega
theorem pk_lOf {x : Int64} (h : ¬ x < 0) : ∃ k : Nat, k < 2 ^ 63 ∧ x = lN k := by
  rw [Int64.lt_iff_toInt_lt] at h
  have h0 : (0 : Int64).toInt = 0 := by decide
  have hx := Int64.toInt_lt x
  refine ⟨x.toInt.toNat, by omega, Int64.toInt_inj.mp ?_⟩
  rw [pk_lT (by omega)]
  omega
theorem pk_lDiv {a b : Nat} (ha : a < 2 ^ 63) (h0 : 0 < b) (hb : b < 2 ^ 63) : lN a / lN b = lN (a / b) := by
  apply Int64.toInt_inj.mp
  rw [lg_ldiv_nonneg (by rw [pk_lT ha]; omega) (by rw [pk_lT hb]; omega), pk_lT ha, pk_lT hb, pk_lT (Nat.lt_of_le_of_lt (Nat.div_le_self a b) ha)]
  rfl
theorem pk_lRem {a b : Nat} (ha : a < 2 ^ 63) (h0 : 0 < b) (hb : b < 2 ^ 63) : lN a - lN a / lN b * lN b = lN (a % b) := by
  rw [pk_lDiv ha h0 hb, lN_mul, lN_sub (Nat.div_mul_le_self a b)]
  exact congrArg lN (by have := Nat.div_add_mod' a b; omega)
theorem pk_loop {σ : Type} (W : Nat → Nat → σ → Prop) (I : Nat → σ → Prop) (e i0 : Nat) (s : σ) (hi : i0 ≤ e) (h0 : I i0 s) (hx : ∀ n s, I e s → W (n + 1) e s)
    (hs : ∀ n i s, i < e → I i s → (∀ s', I (i + 1) s' → W n (i + 1) s') → W (n + 1) i s) : ∃ n, W n i0 s :=
  ⟨e + 1, loop_i W I e hx hs (e + 1) i0 s hi (by omega) h0⟩
theorem pk_loopD {σ : Type} (W : Nat → Nat → σ → Prop) (I : Nat → σ → Prop) (hx : ∀ n s, I 0 s → W (n + 1) 0 s)
    (hs : ∀ n i s, I (i + 1) s → (∀ s', I i s' → W n i s') → W (n + 1) (i + 1) s) : ∀ (e : Nat) (s : σ), I e s → W (e + 1) e s := by
  intro e
  induction e with
  | zero => exact fun s h => hx 0 s h
  | succ e ih => exact fun s h => hs (e + 1) e s h (fun s' h' => ih s' h')
theorem lp1 {A1 : Type} (W : Nat → A1 → Prop) (I : A1 → Prop) (μ : A1 → Nat) (hs : ∀ (n : Nat) (a1 : A1), I a1 → (∀ (b1 : A1), I b1 → μ b1 < μ a1 → W n b1) → W (n + 1) a1) (a1 : A1) (h : I a1) : ∃ n, W n a1 :=
  loop_m (σ := A1) (fun n s => W n s) (fun s => I s) (fun s => μ s) (fun n s hI hk => hs n s hI (fun b1 h9 hm => hk b1 h9 hm)) a1 h
theorem lp2 {A1 A2 : Type} (W : Nat → A1 → A2 → Prop) (I : A1 → A2 → Prop) (μ : A1 → A2 → Nat) (hs : ∀ (n : Nat) (a1 : A1) (a2 : A2), I a1 a2 → (∀ (b1 : A1) (b2 : A2), I b1 b2 → μ b1 b2 < μ a1 a2 → W n b1 b2) → W (n + 1) a1 a2) (a1 : A1) (a2 : A2) (h : I a1 a2) : ∃ n, W n a1 a2 :=
  loop_m (σ := A1 × A2) (fun n s => W n s.1 s.2) (fun s => I s.1 s.2) (fun s => μ s.1 s.2) (fun n s hI hk => hs n s.1 s.2 hI (fun b1 b2 h9 hm => hk (b1, b2) h9 hm)) (a1, a2) h
theorem lp3 {A1 A2 A3 : Type} (W : Nat → A1 → A2 → A3 → Prop) (I : A1 → A2 → A3 → Prop) (μ : A1 → A2 → A3 → Nat) (hs : ∀ (n : Nat) (a1 : A1) (a2 : A2) (a3 : A3), I a1 a2 a3 → (∀ (b1 : A1) (b2 : A2) (b3 : A3), I b1 b2 b3 → μ b1 b2 b3 < μ a1 a2 a3 → W n b1 b2 b3) → W (n + 1) a1 a2 a3) (a1 : A1) (a2 : A2) (a3 : A3) (h : I a1 a2 a3) : ∃ n, W n a1 a2 a3 :=
  loop_m (σ := A1 × A2 × A3) (fun n s => W n s.1 s.2.1 s.2.2) (fun s => I s.1 s.2.1 s.2.2) (fun s => μ s.1 s.2.1 s.2.2) (fun n s hI hk => hs n s.1 s.2.1 s.2.2 hI (fun b1 b2 b3 h9 hm => hk (b1, b2, b3) h9 hm)) (a1, a2, a3) h
theorem lp4 {A1 A2 A3 A4 : Type} (W : Nat → A1 → A2 → A3 → A4 → Prop) (I : A1 → A2 → A3 → A4 → Prop) (μ : A1 → A2 → A3 → A4 → Nat) (hs : ∀ (n : Nat) (a1 : A1) (a2 : A2) (a3 : A3) (a4 : A4), I a1 a2 a3 a4 → (∀ (b1 : A1) (b2 : A2) (b3 : A3) (b4 : A4), I b1 b2 b3 b4 → μ b1 b2 b3 b4 < μ a1 a2 a3 a4 → W n b1 b2 b3 b4) → W (n + 1) a1 a2 a3 a4) (a1 : A1) (a2 : A2) (a3 : A3) (a4 : A4) (h : I a1 a2 a3 a4) : ∃ n, W n a1 a2 a3 a4 :=
  loop_m (σ := A1 × A2 × A3 × A4) (fun n s => W n s.1 s.2.1 s.2.2.1 s.2.2.2) (fun s => I s.1 s.2.1 s.2.2.1 s.2.2.2) (fun s => μ s.1 s.2.1 s.2.2.1 s.2.2.2) (fun n s hI hk => hs n s.1 s.2.1 s.2.2.1 s.2.2.2 hI (fun b1 b2 b3 b4 h9 hm => hk (b1, b2, b3, b4) h9 hm)) (a1, a2, a3, a4) h
theorem lp5 {A1 A2 A3 A4 A5 : Type} (W : Nat → A1 → A2 → A3 → A4 → A5 → Prop) (I : A1 → A2 → A3 → A4 → A5 → Prop) (μ : A1 → A2 → A3 → A4 → A5 → Nat) (hs : ∀ (n : Nat) (a1 : A1) (a2 : A2) (a3 : A3) (a4 : A4) (a5 : A5), I a1 a2 a3 a4 a5 → (∀ (b1 : A1) (b2 : A2) (b3 : A3) (b4 : A4) (b5 : A5), I b1 b2 b3 b4 b5 → μ b1 b2 b3 b4 b5 < μ a1 a2 a3 a4 a5 → W n b1 b2 b3 b4 b5) → W (n + 1) a1 a2 a3 a4 a5) (a1 : A1) (a2 : A2) (a3 : A3) (a4 : A4) (a5 : A5) (h : I a1 a2 a3 a4 a5) : ∃ n, W n a1 a2 a3 a4 a5 :=
  loop_m (σ := A1 × A2 × A3 × A4 × A5) (fun n s => W n s.1 s.2.1 s.2.2.1 s.2.2.2.1 s.2.2.2.2) (fun s => I s.1 s.2.1 s.2.2.1 s.2.2.2.1 s.2.2.2.2) (fun s => μ s.1 s.2.1 s.2.2.1 s.2.2.2.1 s.2.2.2.2) (fun n s hI hk => hs n s.1 s.2.1 s.2.2.1 s.2.2.2.1 s.2.2.2.2 hI (fun b1 b2 b3 b4 b5 h9 hm => hk (b1, b2, b3, b4, b5) h9 hm)) (a1, a2, a3, a4, a5) h
theorem lp6 {A1 A2 A3 A4 A5 A6 : Type} (W : Nat → A1 → A2 → A3 → A4 → A5 → A6 → Prop) (I : A1 → A2 → A3 → A4 → A5 → A6 → Prop) (μ : A1 → A2 → A3 → A4 → A5 → A6 → Nat) (hs : ∀ (n : Nat) (a1 : A1) (a2 : A2) (a3 : A3) (a4 : A4) (a5 : A5) (a6 : A6), I a1 a2 a3 a4 a5 a6 → (∀ (b1 : A1) (b2 : A2) (b3 : A3) (b4 : A4) (b5 : A5) (b6 : A6), I b1 b2 b3 b4 b5 b6 → μ b1 b2 b3 b4 b5 b6 < μ a1 a2 a3 a4 a5 a6 → W n b1 b2 b3 b4 b5 b6) → W (n + 1) a1 a2 a3 a4 a5 a6) (a1 : A1) (a2 : A2) (a3 : A3) (a4 : A4) (a5 : A5) (a6 : A6) (h : I a1 a2 a3 a4 a5 a6) : ∃ n, W n a1 a2 a3 a4 a5 a6 :=
  loop_m (σ := A1 × A2 × A3 × A4 × A5 × A6) (fun n s => W n s.1 s.2.1 s.2.2.1 s.2.2.2.1 s.2.2.2.2.1 s.2.2.2.2.2) (fun s => I s.1 s.2.1 s.2.2.1 s.2.2.2.1 s.2.2.2.2.1 s.2.2.2.2.2) (fun s => μ s.1 s.2.1 s.2.2.1 s.2.2.2.1 s.2.2.2.2.1 s.2.2.2.2.2) (fun n s hI hk => hs n s.1 s.2.1 s.2.2.1 s.2.2.2.1 s.2.2.2.2.1 s.2.2.2.2.2 hI (fun b1 b2 b3 b4 b5 b6 h9 hm => hk (b1, b2, b3, b4, b5, b6) h9 hm)) (a1, a2, a3, a4, a5, a6) h
theorem lp7 {A1 A2 A3 A4 A5 A6 A7 : Type} (W : Nat → A1 → A2 → A3 → A4 → A5 → A6 → A7 → Prop) (I : A1 → A2 → A3 → A4 → A5 → A6 → A7 → Prop) (μ : A1 → A2 → A3 → A4 → A5 → A6 → A7 → Nat) (hs : ∀ (n : Nat) (a1 : A1) (a2 : A2) (a3 : A3) (a4 : A4) (a5 : A5) (a6 : A6) (a7 : A7), I a1 a2 a3 a4 a5 a6 a7 → (∀ (b1 : A1) (b2 : A2) (b3 : A3) (b4 : A4) (b5 : A5) (b6 : A6) (b7 : A7), I b1 b2 b3 b4 b5 b6 b7 → μ b1 b2 b3 b4 b5 b6 b7 < μ a1 a2 a3 a4 a5 a6 a7 → W n b1 b2 b3 b4 b5 b6 b7) → W (n + 1) a1 a2 a3 a4 a5 a6 a7) (a1 : A1) (a2 : A2) (a3 : A3) (a4 : A4) (a5 : A5) (a6 : A6) (a7 : A7) (h : I a1 a2 a3 a4 a5 a6 a7) : ∃ n, W n a1 a2 a3 a4 a5 a6 a7 :=
  loop_m (σ := A1 × A2 × A3 × A4 × A5 × A6 × A7) (fun n s => W n s.1 s.2.1 s.2.2.1 s.2.2.2.1 s.2.2.2.2.1 s.2.2.2.2.2.1 s.2.2.2.2.2.2) (fun s => I s.1 s.2.1 s.2.2.1 s.2.2.2.1 s.2.2.2.2.1 s.2.2.2.2.2.1 s.2.2.2.2.2.2) (fun s => μ s.1 s.2.1 s.2.2.1 s.2.2.2.1 s.2.2.2.2.1 s.2.2.2.2.2.1 s.2.2.2.2.2.2) (fun n s hI hk => hs n s.1 s.2.1 s.2.2.1 s.2.2.2.1 s.2.2.2.2.1 s.2.2.2.2.2.1 s.2.2.2.2.2.2 hI (fun b1 b2 b3 b4 b5 b6 b7 h9 hm => hk (b1, b2, b3, b4, b5, b6, b7) h9 hm)) (a1, a2, a3, a4, a5, a6, a7) h
theorem lp8 {A1 A2 A3 A4 A5 A6 A7 A8 : Type} (W : Nat → A1 → A2 → A3 → A4 → A5 → A6 → A7 → A8 → Prop) (I : A1 → A2 → A3 → A4 → A5 → A6 → A7 → A8 → Prop) (μ : A1 → A2 → A3 → A4 → A5 → A6 → A7 → A8 → Nat) (hs : ∀ (n : Nat) (a1 : A1) (a2 : A2) (a3 : A3) (a4 : A4) (a5 : A5) (a6 : A6) (a7 : A7) (a8 : A8), I a1 a2 a3 a4 a5 a6 a7 a8 → (∀ (b1 : A1) (b2 : A2) (b3 : A3) (b4 : A4) (b5 : A5) (b6 : A6) (b7 : A7) (b8 : A8), I b1 b2 b3 b4 b5 b6 b7 b8 → μ b1 b2 b3 b4 b5 b6 b7 b8 < μ a1 a2 a3 a4 a5 a6 a7 a8 → W n b1 b2 b3 b4 b5 b6 b7 b8) → W (n + 1) a1 a2 a3 a4 a5 a6 a7 a8) (a1 : A1) (a2 : A2) (a3 : A3) (a4 : A4) (a5 : A5) (a6 : A6) (a7 : A7) (a8 : A8) (h : I a1 a2 a3 a4 a5 a6 a7 a8) : ∃ n, W n a1 a2 a3 a4 a5 a6 a7 a8 :=
  loop_m (σ := A1 × A2 × A3 × A4 × A5 × A6 × A7 × A8) (fun n s => W n s.1 s.2.1 s.2.2.1 s.2.2.2.1 s.2.2.2.2.1 s.2.2.2.2.2.1 s.2.2.2.2.2.2.1 s.2.2.2.2.2.2.2) (fun s => I s.1 s.2.1 s.2.2.1 s.2.2.2.1 s.2.2.2.2.1 s.2.2.2.2.2.1 s.2.2.2.2.2.2.1 s.2.2.2.2.2.2.2) (fun s => μ s.1 s.2.1 s.2.2.1 s.2.2.2.1 s.2.2.2.2.1 s.2.2.2.2.2.1 s.2.2.2.2.2.2.1 s.2.2.2.2.2.2.2) (fun n s hI hk => hs n s.1 s.2.1 s.2.2.1 s.2.2.2.1 s.2.2.2.2.1 s.2.2.2.2.2.1 s.2.2.2.2.2.2.1 s.2.2.2.2.2.2.2 hI (fun b1 b2 b3 b4 b5 b6 b7 b8 h9 hm => hk (b1, b2, b3, b4, b5, b6, b7, b8) h9 hm)) (a1, a2, a3, a4, a5, a6, a7, a8) h
theorem lp9 {A1 A2 A3 A4 A5 A6 A7 A8 A9 : Type} (W : Nat → A1 → A2 → A3 → A4 → A5 → A6 → A7 → A8 → A9 → Prop) (I : A1 → A2 → A3 → A4 → A5 → A6 → A7 → A8 → A9 → Prop) (μ : A1 → A2 → A3 → A4 → A5 → A6 → A7 → A8 → A9 → Nat) (hs : ∀ (n : Nat) (a1 : A1) (a2 : A2) (a3 : A3) (a4 : A4) (a5 : A5) (a6 : A6) (a7 : A7) (a8 : A8) (a9 : A9), I a1 a2 a3 a4 a5 a6 a7 a8 a9 → (∀ (b1 : A1) (b2 : A2) (b3 : A3) (b4 : A4) (b5 : A5) (b6 : A6) (b7 : A7) (b8 : A8) (b9 : A9), I b1 b2 b3 b4 b5 b6 b7 b8 b9 → μ b1 b2 b3 b4 b5 b6 b7 b8 b9 < μ a1 a2 a3 a4 a5 a6 a7 a8 a9 → W n b1 b2 b3 b4 b5 b6 b7 b8 b9) → W (n + 1) a1 a2 a3 a4 a5 a6 a7 a8 a9) (a1 : A1) (a2 : A2) (a3 : A3) (a4 : A4) (a5 : A5) (a6 : A6) (a7 : A7) (a8 : A8) (a9 : A9) (h : I a1 a2 a3 a4 a5 a6 a7 a8 a9) : ∃ n, W n a1 a2 a3 a4 a5 a6 a7 a8 a9 :=
  loop_m (σ := A1 × A2 × A3 × A4 × A5 × A6 × A7 × A8 × A9) (fun n s => W n s.1 s.2.1 s.2.2.1 s.2.2.2.1 s.2.2.2.2.1 s.2.2.2.2.2.1 s.2.2.2.2.2.2.1 s.2.2.2.2.2.2.2.1 s.2.2.2.2.2.2.2.2) (fun s => I s.1 s.2.1 s.2.2.1 s.2.2.2.1 s.2.2.2.2.1 s.2.2.2.2.2.1 s.2.2.2.2.2.2.1 s.2.2.2.2.2.2.2.1 s.2.2.2.2.2.2.2.2) (fun s => μ s.1 s.2.1 s.2.2.1 s.2.2.2.1 s.2.2.2.2.1 s.2.2.2.2.2.1 s.2.2.2.2.2.2.1 s.2.2.2.2.2.2.2.1 s.2.2.2.2.2.2.2.2) (fun n s hI hk => hs n s.1 s.2.1 s.2.2.1 s.2.2.2.1 s.2.2.2.2.1 s.2.2.2.2.2.1 s.2.2.2.2.2.2.1 s.2.2.2.2.2.2.2.1 s.2.2.2.2.2.2.2.2 hI (fun b1 b2 b3 b4 b5 b6 b7 b8 b9 h9 hm => hk (b1, b2, b3, b4, b5, b6, b7, b8, b9) h9 hm)) (a1, a2, a3, a4, a5, a6, a7, a8, a9) h
theorem lp10 {A1 A2 A3 A4 A5 A6 A7 A8 A9 A10 : Type} (W : Nat → A1 → A2 → A3 → A4 → A5 → A6 → A7 → A8 → A9 → A10 → Prop) (I : A1 → A2 → A3 → A4 → A5 → A6 → A7 → A8 → A9 → A10 → Prop) (μ : A1 → A2 → A3 → A4 → A5 → A6 → A7 → A8 → A9 → A10 → Nat) (hs : ∀ (n : Nat) (a1 : A1) (a2 : A2) (a3 : A3) (a4 : A4) (a5 : A5) (a6 : A6) (a7 : A7) (a8 : A8) (a9 : A9) (a10 : A10), I a1 a2 a3 a4 a5 a6 a7 a8 a9 a10 → (∀ (b1 : A1) (b2 : A2) (b3 : A3) (b4 : A4) (b5 : A5) (b6 : A6) (b7 : A7) (b8 : A8) (b9 : A9) (b10 : A10), I b1 b2 b3 b4 b5 b6 b7 b8 b9 b10 → μ b1 b2 b3 b4 b5 b6 b7 b8 b9 b10 < μ a1 a2 a3 a4 a5 a6 a7 a8 a9 a10 → W n b1 b2 b3 b4 b5 b6 b7 b8 b9 b10) → W (n + 1) a1 a2 a3 a4 a5 a6 a7 a8 a9 a10) (a1 : A1) (a2 : A2) (a3 : A3) (a4 : A4) (a5 : A5) (a6 : A6) (a7 : A7) (a8 : A8) (a9 : A9) (a10 : A10) (h : I a1 a2 a3 a4 a5 a6 a7 a8 a9 a10) : ∃ n, W n a1 a2 a3 a4 a5 a6 a7 a8 a9 a10 :=
  loop_m (σ := A1 × A2 × A3 × A4 × A5 × A6 × A7 × A8 × A9 × A10) (fun n s => W n s.1 s.2.1 s.2.2.1 s.2.2.2.1 s.2.2.2.2.1 s.2.2.2.2.2.1 s.2.2.2.2.2.2.1 s.2.2.2.2.2.2.2.1 s.2.2.2.2.2.2.2.2.1 s.2.2.2.2.2.2.2.2.2) (fun s => I s.1 s.2.1 s.2.2.1 s.2.2.2.1 s.2.2.2.2.1 s.2.2.2.2.2.1 s.2.2.2.2.2.2.1 s.2.2.2.2.2.2.2.1 s.2.2.2.2.2.2.2.2.1 s.2.2.2.2.2.2.2.2.2) (fun s => μ s.1 s.2.1 s.2.2.1 s.2.2.2.1 s.2.2.2.2.1 s.2.2.2.2.2.1 s.2.2.2.2.2.2.1 s.2.2.2.2.2.2.2.1 s.2.2.2.2.2.2.2.2.1 s.2.2.2.2.2.2.2.2.2) (fun n s hI hk => hs n s.1 s.2.1 s.2.2.1 s.2.2.2.1 s.2.2.2.2.1 s.2.2.2.2.2.1 s.2.2.2.2.2.2.1 s.2.2.2.2.2.2.2.1 s.2.2.2.2.2.2.2.2.1 s.2.2.2.2.2.2.2.2.2 hI (fun b1 b2 b3 b4 b5 b6 b7 b8 b9 b10 h9 hm => hk (b1, b2, b3, b4, b5, b6, b7, b8, b9, b10) h9 hm)) (a1, a2, a3, a4, a5, a6, a7, a8, a9, a10) h
theorem lp11 {A1 A2 A3 A4 A5 A6 A7 A8 A9 A10 A11 : Type} (W : Nat → A1 → A2 → A3 → A4 → A5 → A6 → A7 → A8 → A9 → A10 → A11 → Prop) (I : A1 → A2 → A3 → A4 → A5 → A6 → A7 → A8 → A9 → A10 → A11 → Prop) (μ : A1 → A2 → A3 → A4 → A5 → A6 → A7 → A8 → A9 → A10 → A11 → Nat) (hs : ∀ (n : Nat) (a1 : A1) (a2 : A2) (a3 : A3) (a4 : A4) (a5 : A5) (a6 : A6) (a7 : A7) (a8 : A8) (a9 : A9) (a10 : A10) (a11 : A11), I a1 a2 a3 a4 a5 a6 a7 a8 a9 a10 a11 → (∀ (b1 : A1) (b2 : A2) (b3 : A3) (b4 : A4) (b5 : A5) (b6 : A6) (b7 : A7) (b8 : A8) (b9 : A9) (b10 : A10) (b11 : A11), I b1 b2 b3 b4 b5 b6 b7 b8 b9 b10 b11 → μ b1 b2 b3 b4 b5 b6 b7 b8 b9 b10 b11 < μ a1 a2 a3 a4 a5 a6 a7 a8 a9 a10 a11 → W n b1 b2 b3 b4 b5 b6 b7 b8 b9 b10 b11) → W (n + 1) a1 a2 a3 a4 a5 a6 a7 a8 a9 a10 a11) (a1 : A1) (a2 : A2) (a3 : A3) (a4 : A4) (a5 : A5) (a6 : A6) (a7 : A7) (a8 : A8) (a9 : A9) (a10 : A10) (a11 : A11) (h : I a1 a2 a3 a4 a5 a6 a7 a8 a9 a10 a11) : ∃ n, W n a1 a2 a3 a4 a5 a6 a7 a8 a9 a10 a11 :=
  loop_m (σ := A1 × A2 × A3 × A4 × A5 × A6 × A7 × A8 × A9 × A10 × A11) (fun n s => W n s.1 s.2.1 s.2.2.1 s.2.2.2.1 s.2.2.2.2.1 s.2.2.2.2.2.1 s.2.2.2.2.2.2.1 s.2.2.2.2.2.2.2.1 s.2.2.2.2.2.2.2.2.1 s.2.2.2.2.2.2.2.2.2.1 s.2.2.2.2.2.2.2.2.2.2) (fun s => I s.1 s.2.1 s.2.2.1 s.2.2.2.1 s.2.2.2.2.1 s.2.2.2.2.2.1 s.2.2.2.2.2.2.1 s.2.2.2.2.2.2.2.1 s.2.2.2.2.2.2.2.2.1 s.2.2.2.2.2.2.2.2.2.1 s.2.2.2.2.2.2.2.2.2.2) (fun s => μ s.1 s.2.1 s.2.2.1 s.2.2.2.1 s.2.2.2.2.1 s.2.2.2.2.2.1 s.2.2.2.2.2.2.1 s.2.2.2.2.2.2.2.1 s.2.2.2.2.2.2.2.2.1 s.2.2.2.2.2.2.2.2.2.1 s.2.2.2.2.2.2.2.2.2.2) (fun n s hI hk => hs n s.1 s.2.1 s.2.2.1 s.2.2.2.1 s.2.2.2.2.1 s.2.2.2.2.2.1 s.2.2.2.2.2.2.1 s.2.2.2.2.2.2.2.1 s.2.2.2.2.2.2.2.2.1 s.2.2.2.2.2.2.2.2.2.1 s.2.2.2.2.2.2.2.2.2.2 hI (fun b1 b2 b3 b4 b5 b6 b7 b8 b9 b10 b11 h9 hm => hk (b1, b2, b3, b4, b5, b6, b7, b8, b9, b10, b11) h9 hm)) (a1, a2, a3, a4, a5, a6, a7, a8, a9, a10, a11) h
theorem lp12 {A1 A2 A3 A4 A5 A6 A7 A8 A9 A10 A11 A12 : Type} (W : Nat → A1 → A2 → A3 → A4 → A5 → A6 → A7 → A8 → A9 → A10 → A11 → A12 → Prop) (I : A1 → A2 → A3 → A4 → A5 → A6 → A7 → A8 → A9 → A10 → A11 → A12 → Prop) (μ : A1 → A2 → A3 → A4 → A5 → A6 → A7 → A8 → A9 → A10 → A11 → A12 → Nat) (hs : ∀ (n : Nat) (a1 : A1) (a2 : A2) (a3 : A3) (a4 : A4) (a5 : A5) (a6 : A6) (a7 : A7) (a8 : A8) (a9 : A9) (a10 : A10) (a11 : A11) (a12 : A12), I a1 a2 a3 a4 a5 a6 a7 a8 a9 a10 a11 a12 → (∀ (b1 : A1) (b2 : A2) (b3 : A3) (b4 : A4) (b5 : A5) (b6 : A6) (b7 : A7) (b8 : A8) (b9 : A9) (b10 : A10) (b11 : A11) (b12 : A12), I b1 b2 b3 b4 b5 b6 b7 b8 b9 b10 b11 b12 → μ b1 b2 b3 b4 b5 b6 b7 b8 b9 b10 b11 b12 < μ a1 a2 a3 a4 a5 a6 a7 a8 a9 a10 a11 a12 → W n b1 b2 b3 b4 b5 b6 b7 b8 b9 b10 b11 b12) → W (n + 1) a1 a2 a3 a4 a5 a6 a7 a8 a9 a10 a11 a12) (a1 : A1) (a2 : A2) (a3 : A3) (a4 : A4) (a5 : A5) (a6 : A6) (a7 : A7) (a8 : A8) (a9 : A9) (a10 : A10) (a11 : A11) (a12 : A12) (h : I a1 a2 a3 a4 a5 a6 a7 a8 a9 a10 a11 a12) : ∃ n, W n a1 a2 a3 a4 a5 a6 a7 a8 a9 a10 a11 a12 :=
  loop_m (σ := A1 × A2 × A3 × A4 × A5 × A6 × A7 × A8 × A9 × A10 × A11 × A12) (fun n s => W n s.1 s.2.1 s.2.2.1 s.2.2.2.1 s.2.2.2.2.1 s.2.2.2.2.2.1 s.2.2.2.2.2.2.1 s.2.2.2.2.2.2.2.1 s.2.2.2.2.2.2.2.2.1 s.2.2.2.2.2.2.2.2.2.1 s.2.2.2.2.2.2.2.2.2.2.1 s.2.2.2.2.2.2.2.2.2.2.2) (fun s => I s.1 s.2.1 s.2.2.1 s.2.2.2.1 s.2.2.2.2.1 s.2.2.2.2.2.1 s.2.2.2.2.2.2.1 s.2.2.2.2.2.2.2.1 s.2.2.2.2.2.2.2.2.1 s.2.2.2.2.2.2.2.2.2.1 s.2.2.2.2.2.2.2.2.2.2.1 s.2.2.2.2.2.2.2.2.2.2.2) (fun s => μ s.1 s.2.1 s.2.2.1 s.2.2.2.1 s.2.2.2.2.1 s.2.2.2.2.2.1 s.2.2.2.2.2.2.1 s.2.2.2.2.2.2.2.1 s.2.2.2.2.2.2.2.2.1 s.2.2.2.2.2.2.2.2.2.1 s.2.2.2.2.2.2.2.2.2.2.1 s.2.2.2.2.2.2.2.2.2.2.2) (fun n s hI hk => hs n s.1 s.2.1 s.2.2.1 s.2.2.2.1 s.2.2.2.2.1 s.2.2.2.2.2.1 s.2.2.2.2.2.2.1 s.2.2.2.2.2.2.2.1 s.2.2.2.2.2.2.2.2.1 s.2.2.2.2.2.2.2.2.2.1 s.2.2.2.2.2.2.2.2.2.2.1 s.2.2.2.2.2.2.2.2.2.2.2 hI (fun b1 b2 b3 b4 b5 b6 b7 b8 b9 b10 b11 b12 h9 hm => hk (b1, b2, b3, b4, b5, b6, b7, b8, b9, b10, b11, b12) h9 hm)) (a1, a2, a3, a4, a5, a6, a7, a8, a9, a10, a11, a12) h
theorem lp13 {A1 A2 A3 A4 A5 A6 A7 A8 A9 A10 A11 A12 A13 : Type} (W : Nat → A1 → A2 → A3 → A4 → A5 → A6 → A7 → A8 → A9 → A10 → A11 → A12 → A13 → Prop) (I : A1 → A2 → A3 → A4 → A5 → A6 → A7 → A8 → A9 → A10 → A11 → A12 → A13 → Prop) (μ : A1 → A2 → A3 → A4 → A5 → A6 → A7 → A8 → A9 → A10 → A11 → A12 → A13 → Nat) (hs : ∀ (n : Nat) (a1 : A1) (a2 : A2) (a3 : A3) (a4 : A4) (a5 : A5) (a6 : A6) (a7 : A7) (a8 : A8) (a9 : A9) (a10 : A10) (a11 : A11) (a12 : A12) (a13 : A13), I a1 a2 a3 a4 a5 a6 a7 a8 a9 a10 a11 a12 a13 → (∀ (b1 : A1) (b2 : A2) (b3 : A3) (b4 : A4) (b5 : A5) (b6 : A6) (b7 : A7) (b8 : A8) (b9 : A9) (b10 : A10) (b11 : A11) (b12 : A12) (b13 : A13), I b1 b2 b3 b4 b5 b6 b7 b8 b9 b10 b11 b12 b13 → μ b1 b2 b3 b4 b5 b6 b7 b8 b9 b10 b11 b12 b13 < μ a1 a2 a3 a4 a5 a6 a7 a8 a9 a10 a11 a12 a13 → W n b1 b2 b3 b4 b5 b6 b7 b8 b9 b10 b11 b12 b13) → W (n + 1) a1 a2 a3 a4 a5 a6 a7 a8 a9 a10 a11 a12 a13) (a1 : A1) (a2 : A2) (a3 : A3) (a4 : A4) (a5 : A5) (a6 : A6) (a7 : A7) (a8 : A8) (a9 : A9) (a10 : A10) (a11 : A11) (a12 : A12) (a13 : A13) (h : I a1 a2 a3 a4 a5 a6 a7 a8 a9 a10 a11 a12 a13) : ∃ n, W n a1 a2 a3 a4 a5 a6 a7 a8 a9 a10 a11 a12 a13 :=
  loop_m (σ := A1 × A2 × A3 × A4 × A5 × A6 × A7 × A8 × A9 × A10 × A11 × A12 × A13) (fun n s => W n s.1 s.2.1 s.2.2.1 s.2.2.2.1 s.2.2.2.2.1 s.2.2.2.2.2.1 s.2.2.2.2.2.2.1 s.2.2.2.2.2.2.2.1 s.2.2.2.2.2.2.2.2.1 s.2.2.2.2.2.2.2.2.2.1 s.2.2.2.2.2.2.2.2.2.2.1 s.2.2.2.2.2.2.2.2.2.2.2.1 s.2.2.2.2.2.2.2.2.2.2.2.2) (fun s => I s.1 s.2.1 s.2.2.1 s.2.2.2.1 s.2.2.2.2.1 s.2.2.2.2.2.1 s.2.2.2.2.2.2.1 s.2.2.2.2.2.2.2.1 s.2.2.2.2.2.2.2.2.1 s.2.2.2.2.2.2.2.2.2.1 s.2.2.2.2.2.2.2.2.2.2.1 s.2.2.2.2.2.2.2.2.2.2.2.1 s.2.2.2.2.2.2.2.2.2.2.2.2) (fun s => μ s.1 s.2.1 s.2.2.1 s.2.2.2.1 s.2.2.2.2.1 s.2.2.2.2.2.1 s.2.2.2.2.2.2.1 s.2.2.2.2.2.2.2.1 s.2.2.2.2.2.2.2.2.1 s.2.2.2.2.2.2.2.2.2.1 s.2.2.2.2.2.2.2.2.2.2.1 s.2.2.2.2.2.2.2.2.2.2.2.1 s.2.2.2.2.2.2.2.2.2.2.2.2) (fun n s hI hk => hs n s.1 s.2.1 s.2.2.1 s.2.2.2.1 s.2.2.2.2.1 s.2.2.2.2.2.1 s.2.2.2.2.2.2.1 s.2.2.2.2.2.2.2.1 s.2.2.2.2.2.2.2.2.1 s.2.2.2.2.2.2.2.2.2.1 s.2.2.2.2.2.2.2.2.2.2.1 s.2.2.2.2.2.2.2.2.2.2.2.1 s.2.2.2.2.2.2.2.2.2.2.2.2 hI (fun b1 b2 b3 b4 b5 b6 b7 b8 b9 b10 b11 b12 b13 h9 hm => hk (b1, b2, b3, b4, b5, b6, b7, b8, b9, b10, b11, b12, b13) h9 hm)) (a1, a2, a3, a4, a5, a6, a7, a8, a9, a10, a11, a12, a13) h
theorem lp14 {A1 A2 A3 A4 A5 A6 A7 A8 A9 A10 A11 A12 A13 A14 : Type} (W : Nat → A1 → A2 → A3 → A4 → A5 → A6 → A7 → A8 → A9 → A10 → A11 → A12 → A13 → A14 → Prop) (I : A1 → A2 → A3 → A4 → A5 → A6 → A7 → A8 → A9 → A10 → A11 → A12 → A13 → A14 → Prop) (μ : A1 → A2 → A3 → A4 → A5 → A6 → A7 → A8 → A9 → A10 → A11 → A12 → A13 → A14 → Nat) (hs : ∀ (n : Nat) (a1 : A1) (a2 : A2) (a3 : A3) (a4 : A4) (a5 : A5) (a6 : A6) (a7 : A7) (a8 : A8) (a9 : A9) (a10 : A10) (a11 : A11) (a12 : A12) (a13 : A13) (a14 : A14), I a1 a2 a3 a4 a5 a6 a7 a8 a9 a10 a11 a12 a13 a14 → (∀ (b1 : A1) (b2 : A2) (b3 : A3) (b4 : A4) (b5 : A5) (b6 : A6) (b7 : A7) (b8 : A8) (b9 : A9) (b10 : A10) (b11 : A11) (b12 : A12) (b13 : A13) (b14 : A14), I b1 b2 b3 b4 b5 b6 b7 b8 b9 b10 b11 b12 b13 b14 → μ b1 b2 b3 b4 b5 b6 b7 b8 b9 b10 b11 b12 b13 b14 < μ a1 a2 a3 a4 a5 a6 a7 a8 a9 a10 a11 a12 a13 a14 → W n b1 b2 b3 b4 b5 b6 b7 b8 b9 b10 b11 b12 b13 b14) → W (n + 1) a1 a2 a3 a4 a5 a6 a7 a8 a9 a10 a11 a12 a13 a14) (a1 : A1) (a2 : A2) (a3 : A3) (a4 : A4) (a5 : A5) (a6 : A6) (a7 : A7) (a8 : A8) (a9 : A9) (a10 : A10) (a11 : A11) (a12 : A12) (a13 : A13) (a14 : A14) (h : I a1 a2 a3 a4 a5 a6 a7 a8 a9 a10 a11 a12 a13 a14) : ∃ n, W n a1 a2 a3 a4 a5 a6 a7 a8 a9 a10 a11 a12 a13 a14 :=
  loop_m (σ := A1 × A2 × A3 × A4 × A5 × A6 × A7 × A8 × A9 × A10 × A11 × A12 × A13 × A14) (fun n s => W n s.1 s.2.1 s.2.2.1 s.2.2.2.1 s.2.2.2.2.1 s.2.2.2.2.2.1 s.2.2.2.2.2.2.1 s.2.2.2.2.2.2.2.1 s.2.2.2.2.2.2.2.2.1 s.2.2.2.2.2.2.2.2.2.1 s.2.2.2.2.2.2.2.2.2.2.1 s.2.2.2.2.2.2.2.2.2.2.2.1 s.2.2.2.2.2.2.2.2.2.2.2.2.1 s.2.2.2.2.2.2.2.2.2.2.2.2.2) (fun s => I s.1 s.2.1 s.2.2.1 s.2.2.2.1 s.2.2.2.2.1 s.2.2.2.2.2.1 s.2.2.2.2.2.2.1 s.2.2.2.2.2.2.2.1 s.2.2.2.2.2.2.2.2.1 s.2.2.2.2.2.2.2.2.2.1 s.2.2.2.2.2.2.2.2.2.2.1 s.2.2.2.2.2.2.2.2.2.2.2.1 s.2.2.2.2.2.2.2.2.2.2.2.2.1 s.2.2.2.2.2.2.2.2.2.2.2.2.2) (fun s => μ s.1 s.2.1 s.2.2.1 s.2.2.2.1 s.2.2.2.2.1 s.2.2.2.2.2.1 s.2.2.2.2.2.2.1 s.2.2.2.2.2.2.2.1 s.2.2.2.2.2.2.2.2.1 s.2.2.2.2.2.2.2.2.2.1 s.2.2.2.2.2.2.2.2.2.2.1 s.2.2.2.2.2.2.2.2.2.2.2.1 s.2.2.2.2.2.2.2.2.2.2.2.2.1 s.2.2.2.2.2.2.2.2.2.2.2.2.2) (fun n s hI hk => hs n s.1 s.2.1 s.2.2.1 s.2.2.2.1 s.2.2.2.2.1 s.2.2.2.2.2.1 s.2.2.2.2.2.2.1 s.2.2.2.2.2.2.2.1 s.2.2.2.2.2.2.2.2.1 s.2.2.2.2.2.2.2.2.2.1 s.2.2.2.2.2.2.2.2.2.2.1 s.2.2.2.2.2.2.2.2.2.2.2.1 s.2.2.2.2.2.2.2.2.2.2.2.2.1 s.2.2.2.2.2.2.2.2.2.2.2.2.2 hI (fun b1 b2 b3 b4 b5 b6 b7 b8 b9 b10 b11 b12 b13 b14 h9 hm => hk (b1, b2, b3, b4, b5, b6, b7, b8, b9, b10, b11, b12, b13, b14) h9 hm)) (a1, a2, a3, a4, a5, a6, a7, a8, a9, a10, a11, a12, a13, a14) h
theorem lp15 {A1 A2 A3 A4 A5 A6 A7 A8 A9 A10 A11 A12 A13 A14 A15 : Type} (W : Nat → A1 → A2 → A3 → A4 → A5 → A6 → A7 → A8 → A9 → A10 → A11 → A12 → A13 → A14 → A15 → Prop) (I : A1 → A2 → A3 → A4 → A5 → A6 → A7 → A8 → A9 → A10 → A11 → A12 → A13 → A14 → A15 → Prop) (μ : A1 → A2 → A3 → A4 → A5 → A6 → A7 → A8 → A9 → A10 → A11 → A12 → A13 → A14 → A15 → Nat) (hs : ∀ (n : Nat) (a1 : A1) (a2 : A2) (a3 : A3) (a4 : A4) (a5 : A5) (a6 : A6) (a7 : A7) (a8 : A8) (a9 : A9) (a10 : A10) (a11 : A11) (a12 : A12) (a13 : A13) (a14 : A14) (a15 : A15), I a1 a2 a3 a4 a5 a6 a7 a8 a9 a10 a11 a12 a13 a14 a15 → (∀ (b1 : A1) (b2 : A2) (b3 : A3) (b4 : A4) (b5 : A5) (b6 : A6) (b7 : A7) (b8 : A8) (b9 : A9) (b10 : A10) (b11 : A11) (b12 : A12) (b13 : A13) (b14 : A14) (b15 : A15), I b1 b2 b3 b4 b5 b6 b7 b8 b9 b10 b11 b12 b13 b14 b15 → μ b1 b2 b3 b4 b5 b6 b7 b8 b9 b10 b11 b12 b13 b14 b15 < μ a1 a2 a3 a4 a5 a6 a7 a8 a9 a10 a11 a12 a13 a14 a15 → W n b1 b2 b3 b4 b5 b6 b7 b8 b9 b10 b11 b12 b13 b14 b15) → W (n + 1) a1 a2 a3 a4 a5 a6 a7 a8 a9 a10 a11 a12 a13 a14 a15) (a1 : A1) (a2 : A2) (a3 : A3) (a4 : A4) (a5 : A5) (a6 : A6) (a7 : A7) (a8 : A8) (a9 : A9) (a10 : A10) (a11 : A11) (a12 : A12) (a13 : A13) (a14 : A14) (a15 : A15) (h : I a1 a2 a3 a4 a5 a6 a7 a8 a9 a10 a11 a12 a13 a14 a15) : ∃ n, W n a1 a2 a3 a4 a5 a6 a7 a8 a9 a10 a11 a12 a13 a14 a15 :=
  loop_m (σ := A1 × A2 × A3 × A4 × A5 × A6 × A7 × A8 × A9 × A10 × A11 × A12 × A13 × A14 × A15) (fun n s => W n s.1 s.2.1 s.2.2.1 s.2.2.2.1 s.2.2.2.2.1 s.2.2.2.2.2.1 s.2.2.2.2.2.2.1 s.2.2.2.2.2.2.2.1 s.2.2.2.2.2.2.2.2.1 s.2.2.2.2.2.2.2.2.2.1 s.2.2.2.2.2.2.2.2.2.2.1 s.2.2.2.2.2.2.2.2.2.2.2.1 s.2.2.2.2.2.2.2.2.2.2.2.2.1 s.2.2.2.2.2.2.2.2.2.2.2.2.2.1 s.2.2.2.2.2.2.2.2.2.2.2.2.2.2) (fun s => I s.1 s.2.1 s.2.2.1 s.2.2.2.1 s.2.2.2.2.1 s.2.2.2.2.2.1 s.2.2.2.2.2.2.1 s.2.2.2.2.2.2.2.1 s.2.2.2.2.2.2.2.2.1 s.2.2.2.2.2.2.2.2.2.1 s.2.2.2.2.2.2.2.2.2.2.1 s.2.2.2.2.2.2.2.2.2.2.2.1 s.2.2.2.2.2.2.2.2.2.2.2.2.1 s.2.2.2.2.2.2.2.2.2.2.2.2.2.1 s.2.2.2.2.2.2.2.2.2.2.2.2.2.2) (fun s => μ s.1 s.2.1 s.2.2.1 s.2.2.2.1 s.2.2.2.2.1 s.2.2.2.2.2.1 s.2.2.2.2.2.2.1 s.2.2.2.2.2.2.2.1 s.2.2.2.2.2.2.2.2.1 s.2.2.2.2.2.2.2.2.2.1 s.2.2.2.2.2.2.2.2.2.2.1 s.2.2.2.2.2.2.2.2.2.2.2.1 s.2.2.2.2.2.2.2.2.2.2.2.2.1 s.2.2.2.2.2.2.2.2.2.2.2.2.2.1 s.2.2.2.2.2.2.2.2.2.2.2.2.2.2) (fun n s hI hk => hs n s.1 s.2.1 s.2.2.1 s.2.2.2.1 s.2.2.2.2.1 s.2.2.2.2.2.1 s.2.2.2.2.2.2.1 s.2.2.2.2.2.2.2.1 s.2.2.2.2.2.2.2.2.1 s.2.2.2.2.2.2.2.2.2.1 s.2.2.2.2.2.2.2.2.2.2.1 s.2.2.2.2.2.2.2.2.2.2.2.1 s.2.2.2.2.2.2.2.2.2.2.2.2.1 s.2.2.2.2.2.2.2.2.2.2.2.2.2.1 s.2.2.2.2.2.2.2.2.2.2.2.2.2.2 hI (fun b1 b2 b3 b4 b5 b6 b7 b8 b9 b10 b11 b12 b13 b14 b15 h9 hm => hk (b1, b2, b3, b4, b5, b6, b7, b8, b9, b10, b11, b12, b13, b14, b15) h9 hm)) (a1, a2, a3, a4, a5, a6, a7, a8, a9, a10, a11, a12, a13, a14, a15) h
theorem lp16 {A1 A2 A3 A4 A5 A6 A7 A8 A9 A10 A11 A12 A13 A14 A15 A16 : Type} (W : Nat → A1 → A2 → A3 → A4 → A5 → A6 → A7 → A8 → A9 → A10 → A11 → A12 → A13 → A14 → A15 → A16 → Prop) (I : A1 → A2 → A3 → A4 → A5 → A6 → A7 → A8 → A9 → A10 → A11 → A12 → A13 → A14 → A15 → A16 → Prop) (μ : A1 → A2 → A3 → A4 → A5 → A6 → A7 → A8 → A9 → A10 → A11 → A12 → A13 → A14 → A15 → A16 → Nat) (hs : ∀ (n : Nat) (a1 : A1) (a2 : A2) (a3 : A3) (a4 : A4) (a5 : A5) (a6 : A6) (a7 : A7) (a8 : A8) (a9 : A9) (a10 : A10) (a11 : A11) (a12 : A12) (a13 : A13) (a14 : A14) (a15 : A15) (a16 : A16), I a1 a2 a3 a4 a5 a6 a7 a8 a9 a10 a11 a12 a13 a14 a15 a16 → (∀ (b1 : A1) (b2 : A2) (b3 : A3) (b4 : A4) (b5 : A5) (b6 : A6) (b7 : A7) (b8 : A8) (b9 : A9) (b10 : A10) (b11 : A11) (b12 : A12) (b13 : A13) (b14 : A14) (b15 : A15) (b16 : A16), I b1 b2 b3 b4 b5 b6 b7 b8 b9 b10 b11 b12 b13 b14 b15 b16 → μ b1 b2 b3 b4 b5 b6 b7 b8 b9 b10 b11 b12 b13 b14 b15 b16 < μ a1 a2 a3 a4 a5 a6 a7 a8 a9 a10 a11 a12 a13 a14 a15 a16 → W n b1 b2 b3 b4 b5 b6 b7 b8 b9 b10 b11 b12 b13 b14 b15 b16) → W (n + 1) a1 a2 a3 a4 a5 a6 a7 a8 a9 a10 a11 a12 a13 a14 a15 a16) (a1 : A1) (a2 : A2) (a3 : A3) (a4 : A4) (a5 : A5) (a6 : A6) (a7 : A7) (a8 : A8) (a9 : A9) (a10 : A10) (a11 : A11) (a12 : A12) (a13 : A13) (a14 : A14) (a15 : A15) (a16 : A16) (h : I a1 a2 a3 a4 a5 a6 a7 a8 a9 a10 a11 a12 a13 a14 a15 a16) : ∃ n, W n a1 a2 a3 a4 a5 a6 a7 a8 a9 a10 a11 a12 a13 a14 a15 a16 :=
  loop_m (σ := A1 × A2 × A3 × A4 × A5 × A6 × A7 × A8 × A9 × A10 × A11 × A12 × A13 × A14 × A15 × A16) (fun n s => W n s.1 s.2.1 s.2.2.1 s.2.2.2.1 s.2.2.2.2.1 s.2.2.2.2.2.1 s.2.2.2.2.2.2.1 s.2.2.2.2.2.2.2.1 s.2.2.2.2.2.2.2.2.1 s.2.2.2.2.2.2.2.2.2.1 s.2.2.2.2.2.2.2.2.2.2.1 s.2.2.2.2.2.2.2.2.2.2.2.1 s.2.2.2.2.2.2.2.2.2.2.2.2.1 s.2.2.2.2.2.2.2.2.2.2.2.2.2.1 s.2.2.2.2.2.2.2.2.2.2.2.2.2.2.1 s.2.2.2.2.2.2.2.2.2.2.2.2.2.2.2) (fun s => I s.1 s.2.1 s.2.2.1 s.2.2.2.1 s.2.2.2.2.1 s.2.2.2.2.2.1 s.2.2.2.2.2.2.1 s.2.2.2.2.2.2.2.1 s.2.2.2.2.2.2.2.2.1 s.2.2.2.2.2.2.2.2.2.1 s.2.2.2.2.2.2.2.2.2.2.1 s.2.2.2.2.2.2.2.2.2.2.2.1 s.2.2.2.2.2.2.2.2.2.2.2.2.1 s.2.2.2.2.2.2.2.2.2.2.2.2.2.1 s.2.2.2.2.2.2.2.2.2.2.2.2.2.2.1 s.2.2.2.2.2.2.2.2.2.2.2.2.2.2.2) (fun s => μ s.1 s.2.1 s.2.2.1 s.2.2.2.1 s.2.2.2.2.1 s.2.2.2.2.2.1 s.2.2.2.2.2.2.1 s.2.2.2.2.2.2.2.1 s.2.2.2.2.2.2.2.2.1 s.2.2.2.2.2.2.2.2.2.1 s.2.2.2.2.2.2.2.2.2.2.1 s.2.2.2.2.2.2.2.2.2.2.2.1 s.2.2.2.2.2.2.2.2.2.2.2.2.1 s.2.2.2.2.2.2.2.2.2.2.2.2.2.1 s.2.2.2.2.2.2.2.2.2.2.2.2.2.2.1 s.2.2.2.2.2.2.2.2.2.2.2.2.2.2.2) (fun n s hI hk => hs n s.1 s.2.1 s.2.2.1 s.2.2.2.1 s.2.2.2.2.1 s.2.2.2.2.2.1 s.2.2.2.2.2.2.1 s.2.2.2.2.2.2.2.1 s.2.2.2.2.2.2.2.2.1 s.2.2.2.2.2.2.2.2.2.1 s.2.2.2.2.2.2.2.2.2.2.1 s.2.2.2.2.2.2.2.2.2.2.2.1 s.2.2.2.2.2.2.2.2.2.2.2.2.1 s.2.2.2.2.2.2.2.2.2.2.2.2.2.1 s.2.2.2.2.2.2.2.2.2.2.2.2.2.2.1 s.2.2.2.2.2.2.2.2.2.2.2.2.2.2.2 hI (fun b1 b2 b3 b4 b5 b6 b7 b8 b9 b10 b11 b12 b13 b14 b15 b16 h9 hm => hk (b1, b2, b3, b4, b5, b6, b7, b8, b9, b10, b11, b12, b13, b14, b15, b16) h9 hm)) (a1, a2, a3, a4, a5, a6, a7, a8, a9, a10, a11, a12, a13, a14, a15, a16) h
theorem pk_least (P : Nat → Prop) (h : ∃ k, P k) : ∃ k, P k ∧ ∀ j, j < k → ¬ P j := by
  obtain ⟨k, hk⟩ := h
  induction k using Nat.strongRecOn with
  | ind k ih =>
    by_cases e : ∃ j, j < k ∧ P j
    · obtain ⟨j, hj, pj⟩ := e
      exact ih j hj pj
    · exact ⟨k, hk, fun j hj pj => e ⟨j, hj, pj⟩⟩
theorem rp1 {ρ A1 : Type} (W : Nat → (ρ → Prop) → A1 → Prop) (ok : A1 → Prop) (μ : A1 → Nat) (val : A1 → ρ)
    (hs : ∀ (d : Nat) (post : ρ → Prop) (a1 : A1), ok a1 → post (val a1) → (∀ (post' : ρ → Prop) (b1 : A1), ok b1 → μ b1 < μ a1 → post' (val b1) → W d post' b1) → W (d + 1) post a1) :
    ∀ (d : Nat) (post : ρ → Prop) (a1 : A1), ok a1 → μ a1 < d → post (val a1) → W d post a1 := by
  intro d
  induction d with
  | zero => intro post a1 _ h; omega
  | succ d ih =>
    intro post a1 ho hm hp
    exact hs d post a1 ho hp (fun post' b1 ho' hm' hp' => ih post' b1 ho' (by omega) hp')
theorem rp2 {ρ A1 A2 : Type} (W : Nat → (ρ → Prop) → A1 → A2 → Prop) (ok : A1 → A2 → Prop) (μ : A1 → A2 → Nat) (val : A1 → A2 → ρ)
    (hs : ∀ (d : Nat) (post : ρ → Prop) (a1 : A1) (a2 : A2), ok a1 a2 → post (val a1 a2) → (∀ (post' : ρ → Prop) (b1 : A1) (b2 : A2), ok b1 b2 → μ b1 b2 < μ a1 a2 → post' (val b1 b2) → W d post' b1 b2) → W (d + 1) post a1 a2) :
    ∀ (d : Nat) (post : ρ → Prop) (a1 : A1) (a2 : A2), ok a1 a2 → μ a1 a2 < d → post (val a1 a2) → W d post a1 a2 := by
  intro d
  induction d with
  | zero => intro post a1 a2 _ h; omega
  | succ d ih =>
    intro post a1 a2 ho hm hp
    exact hs d post a1 a2 ho hp (fun post' b1 b2 ho' hm' hp' => ih post' b1 b2 ho' (by omega) hp')
theorem rp3 {ρ A1 A2 A3 : Type} (W : Nat → (ρ → Prop) → A1 → A2 → A3 → Prop) (ok : A1 → A2 → A3 → Prop) (μ : A1 → A2 → A3 → Nat) (val : A1 → A2 → A3 → ρ)
    (hs : ∀ (d : Nat) (post : ρ → Prop) (a1 : A1) (a2 : A2) (a3 : A3), ok a1 a2 a3 → post (val a1 a2 a3) → (∀ (post' : ρ → Prop) (b1 : A1) (b2 : A2) (b3 : A3), ok b1 b2 b3 → μ b1 b2 b3 < μ a1 a2 a3 → post' (val b1 b2 b3) → W d post' b1 b2 b3) → W (d + 1) post a1 a2 a3) :
    ∀ (d : Nat) (post : ρ → Prop) (a1 : A1) (a2 : A2) (a3 : A3), ok a1 a2 a3 → μ a1 a2 a3 < d → post (val a1 a2 a3) → W d post a1 a2 a3 := by
  intro d
  induction d with
  | zero => intro post a1 a2 a3 _ h; omega
  | succ d ih =>
    intro post a1 a2 a3 ho hm hp
    exact hs d post a1 a2 a3 ho hp (fun post' b1 b2 b3 ho' hm' hp' => ih post' b1 b2 b3 ho' (by omega) hp')
theorem rp4 {ρ A1 A2 A3 A4 : Type} (W : Nat → (ρ → Prop) → A1 → A2 → A3 → A4 → Prop) (ok : A1 → A2 → A3 → A4 → Prop) (μ : A1 → A2 → A3 → A4 → Nat) (val : A1 → A2 → A3 → A4 → ρ)
    (hs : ∀ (d : Nat) (post : ρ → Prop) (a1 : A1) (a2 : A2) (a3 : A3) (a4 : A4), ok a1 a2 a3 a4 → post (val a1 a2 a3 a4) → (∀ (post' : ρ → Prop) (b1 : A1) (b2 : A2) (b3 : A3) (b4 : A4), ok b1 b2 b3 b4 → μ b1 b2 b3 b4 < μ a1 a2 a3 a4 → post' (val b1 b2 b3 b4) → W d post' b1 b2 b3 b4) → W (d + 1) post a1 a2 a3 a4) :
    ∀ (d : Nat) (post : ρ → Prop) (a1 : A1) (a2 : A2) (a3 : A3) (a4 : A4), ok a1 a2 a3 a4 → μ a1 a2 a3 a4 < d → post (val a1 a2 a3 a4) → W d post a1 a2 a3 a4 := by
  intro d
  induction d with
  | zero => intro post a1 a2 a3 a4 _ h; omega
  | succ d ih =>
    intro post a1 a2 a3 a4 ho hm hp
    exact hs d post a1 a2 a3 a4 ho hp (fun post' b1 b2 b3 b4 ho' hm' hp' => ih post' b1 b2 b3 b4 ho' (by omega) hp')
theorem rp5 {ρ A1 A2 A3 A4 A5 : Type} (W : Nat → (ρ → Prop) → A1 → A2 → A3 → A4 → A5 → Prop) (ok : A1 → A2 → A3 → A4 → A5 → Prop) (μ : A1 → A2 → A3 → A4 → A5 → Nat) (val : A1 → A2 → A3 → A4 → A5 → ρ)
    (hs : ∀ (d : Nat) (post : ρ → Prop) (a1 : A1) (a2 : A2) (a3 : A3) (a4 : A4) (a5 : A5), ok a1 a2 a3 a4 a5 → post (val a1 a2 a3 a4 a5) → (∀ (post' : ρ → Prop) (b1 : A1) (b2 : A2) (b3 : A3) (b4 : A4) (b5 : A5), ok b1 b2 b3 b4 b5 → μ b1 b2 b3 b4 b5 < μ a1 a2 a3 a4 a5 → post' (val b1 b2 b3 b4 b5) → W d post' b1 b2 b3 b4 b5) → W (d + 1) post a1 a2 a3 a4 a5) :
    ∀ (d : Nat) (post : ρ → Prop) (a1 : A1) (a2 : A2) (a3 : A3) (a4 : A4) (a5 : A5), ok a1 a2 a3 a4 a5 → μ a1 a2 a3 a4 a5 < d → post (val a1 a2 a3 a4 a5) → W d post a1 a2 a3 a4 a5 := by
  intro d
  induction d with
  | zero => intro post a1 a2 a3 a4 a5 _ h; omega
  | succ d ih =>
    intro post a1 a2 a3 a4 a5 ho hm hp
    exact hs d post a1 a2 a3 a4 a5 ho hp (fun post' b1 b2 b3 b4 b5 ho' hm' hp' => ih post' b1 b2 b3 b4 b5 ho' (by omega) hp')
theorem rp6 {ρ A1 A2 A3 A4 A5 A6 : Type} (W : Nat → (ρ → Prop) → A1 → A2 → A3 → A4 → A5 → A6 → Prop) (ok : A1 → A2 → A3 → A4 → A5 → A6 → Prop) (μ : A1 → A2 → A3 → A4 → A5 → A6 → Nat) (val : A1 → A2 → A3 → A4 → A5 → A6 → ρ)
    (hs : ∀ (d : Nat) (post : ρ → Prop) (a1 : A1) (a2 : A2) (a3 : A3) (a4 : A4) (a5 : A5) (a6 : A6), ok a1 a2 a3 a4 a5 a6 → post (val a1 a2 a3 a4 a5 a6) → (∀ (post' : ρ → Prop) (b1 : A1) (b2 : A2) (b3 : A3) (b4 : A4) (b5 : A5) (b6 : A6), ok b1 b2 b3 b4 b5 b6 → μ b1 b2 b3 b4 b5 b6 < μ a1 a2 a3 a4 a5 a6 → post' (val b1 b2 b3 b4 b5 b6) → W d post' b1 b2 b3 b4 b5 b6) → W (d + 1) post a1 a2 a3 a4 a5 a6) :
    ∀ (d : Nat) (post : ρ → Prop) (a1 : A1) (a2 : A2) (a3 : A3) (a4 : A4) (a5 : A5) (a6 : A6), ok a1 a2 a3 a4 a5 a6 → μ a1 a2 a3 a4 a5 a6 < d → post (val a1 a2 a3 a4 a5 a6) → W d post a1 a2 a3 a4 a5 a6 := by
  intro d
  induction d with
  | zero => intro post a1 a2 a3 a4 a5 a6 _ h; omega
  | succ d ih =>
    intro post a1 a2 a3 a4 a5 a6 ho hm hp
    exact hs d post a1 a2 a3 a4 a5 a6 ho hp (fun post' b1 b2 b3 b4 b5 b6 ho' hm' hp' => ih post' b1 b2 b3 b4 b5 b6 ho' (by omega) hp')
theorem rec_p {σ ρ : Type} (W : Nat → (ρ → Prop) → σ → Prop) (ok : σ → Prop) (μ : σ → Nat) (val : σ → ρ)
    (hs : ∀ d s post, ok s → post (val s) → (∀ s' post', ok s' → μ s' < μ s → post' (val s') → W d post' s') → W (d + 1) post s) :
    ∀ d s post, ok s → μ s < d → post (val s) → W d post s := by
  intro d
  induction d with
  | zero => intro s post _ h; omega
  | succ d ih =>
    intro s post ho hm hp
    exact hs d s post ho hp (fun s' post' ho' hm' hp' => ih s' post' ho' (by omega) hp')
theorem rec_q {σ ρ : Type} (W : Nat → (ρ → Prop) → σ → Prop) (ok : σ → Prop) (μ : σ → Nat) (Q : σ → ρ → Prop)
    (hs : ∀ d s post, ok s → (∀ r, Q s r → post r) → (∀ s' post', ok s' → μ s' < μ s → (∀ r, Q s' r → post' r) → W d post' s') → W (d + 1) post s) :
    ∀ d s post, ok s → μ s < d → (∀ r, Q s r → post r) → W d post s := by
  intro d
  induction d with
  | zero => intro s post _ h; omega
  | succ d ih =>
    intro s post ho hm hp
    exact hs d s post ho hp (fun s' post' ho' hm' hp' => ih s' post' ho' (by omega) hp')
def bx_sum (f : Nat → Int32) : Nat → Int32
  | 0 => 0
  | n + 1 => bx_sum f n + f n
theorem ek_u {A : Prop} {B : Nat → Prop} {k N : Nat} (hk : k < N) (h : B k) : (some k = none → A) ∧ (∀ y : Nat, some k = some y → (y < N ∧ B y)) :=
  ⟨fun z => absurd z (Option.some_ne_none k), fun _ e => (by cases e; exact ⟨hk, h⟩)⟩
theorem ek_nu {A : Prop} {B : Nat → Prop} (h : A) : ((none : Option Nat) = none → A) ∧ (∀ y : Nat, (none : Option Nat) = some y → B y) :=
  ⟨fun _ => h, fun _ e => (by cases e)⟩
theorem ek_if {c d A B : Prop} (e : c ↔ d) (f : d → A) (g : ¬ d → B) : (c → A) ∧ (¬ c → B) :=
  ⟨fun z => f (e.mp z), fun z => g (fun y => z (e.mpr y))⟩
theorem ek_v {α : Sort _} {P : α → Prop} {a b : α} (e : a = b) (h : P b) : P a := e ▸ h
theorem co_some {x : Option Nat} {A : Prop} {B : Nat → Prop} (i : Nat) (h : B i) (hx : x = some i := by rfl) : (x = none → A) ∧ (∀ y : Nat, x = some y → B y) := by
  subst hx
  exact ⟨fun e => (nomatch e), fun y e => Option.some.inj e ▸ h⟩
theorem co_none {x : Option Nat} {A : Prop} {B : Nat → Prop} (h : A) (hx : x = none := by rfl) : (x = none → A) ∧ (∀ y : Nat, x = some y → B y) := by
  subst hx
  exact ⟨fun _ => h, fun y e => (nomatch e)⟩
theorem co_any {x : Option Nat} {A : Prop} {B : Nat → Prop} (hn : x = none → A) (hs : ∀ i : Nat, x = some i → B i) : (x = none → A) ∧ (∀ y : Nat, x = some y → B y) := ⟨hn, hs⟩
theorem co_2 {P : Nat → Prop} (h0 : P 0) (h1 : P 1) {i : Nat} (hi : i < 2) : P i :=
  match i, hi with
  | 0, _ => h0
  | 1, _ => h1
theorem co_3 {P : Nat → Prop} (h0 : P 0) (h1 : P 1) (h2 : P 2) {i : Nat} (hi : i < 3) : P i :=
  match i, hi with
  | 0, _ => h0
  | 1, _ => h1
  | 2, _ => h2
theorem co_4 {P : Nat → Prop} (h0 : P 0) (h1 : P 1) (h2 : P 2) (h3 : P 3) {i : Nat} (hi : i < 4) : P i :=
  match i, hi with
  | 0, _ => h0
  | 1, _ => h1
  | 2, _ => h2
  | 3, _ => h3
theorem co_dec {N : Nat} {P : Nat → Prop} [DecidablePred P] (h : (List.range N).all (fun i => decide (P i)) = true) {i : Nat} (hi : i < N) : P i := by
  have := List.all_eq_true.mp h i (List.mem_range.mpr hi)
  exact of_decide_eq_true this
theorem co_tab {α : Type} {l : List α} {d : α} {P : α → Prop} (h : ∀ a, a ∈ l → P a) {i : Nat} (hi : i < l.length) : P (l.getD i d) := by
  rw [List.getD_eq_getElem?_getD, List.getElem?_eq_getElem hi]
  exact h _ (List.getElem_mem hi)
theorem pk_mu {x : Int32} {L : Nat} (h0 : ¬ x < 0) (h : ¬ nI L ≤ x) (hL : L < 2 ^ 31) : ∃ j : Nat, j < L ∧ x = nI j ∧ x + 1 = nI (j + 1) ∧ x.toNatClampNeg = j ∧ L - (x + 1).toNatClampNeg < L - x.toNatClampNeg := by
  obtain ⟨j, hj, rfl⟩ := nI_of h0
  have hl : j < L := Nat.not_le.mp fun q => h (nI_le q hj)
  refine ⟨j, hl, rfl, nI_1 j, nI_clamp hj, ?_⟩
  rw [nI_1, nI_clamp (by omega), nI_clamp hj]
  omega
theorem op_s {α : Type} {r : Option α} {A : Prop} {B : α → Prop} {y : α} (h : r = some y) (b : B y) : (r = none → A) ∧ ∀ z, r = some z → B z :=
  ⟨fun e => (by rw [h] at e; cases e), fun z e => (by rw [h] at e; cases e; exact b)⟩
def l_holds {α : Type} (a : Nat → Option Nat) (LP : List Nat) (p : Nat → α) (c : Nat) (b : Nat → α) : Prop :=
  ∀ j, j < c → ∃ y, a j = some y ∧ y ∈ LP ∧ p y = b j
theorem l_holds_0 {α : Type} {a : Nat → Option Nat} {LP : List Nat} {p b : Nat → α} : l_holds a LP p 0 b := fun j h => absurd h (Nat.not_lt_zero j)
theorem l_in_new (LP : List Nat) (q : Nat) : q ∈ LP ++ [q] := List.mem_append.mpr (Or.inr (List.mem_singleton.mpr rfl))
def l_sum (b : Nat → Int32) : Nat → Int32
  | 0 => 0
  | k + 1 => l_sum b k + b k
theorem sb_shr0 (x : Int32) : x >>> ((0 : Int32) &&& 31) = x := by
  rw [show ((0 : Int32) &&& 31) = 0 by decide]
  simp
theorem sb_shl0 (x : Int32) : x <<< ((0 : Int32) &&& 31) = x := by
  rw [show ((0 : Int32) &&& 31) = 0 by decide]
  simp
theorem sb_cl0 : (0 : Int32).toNatClampNeg = 0 := by decide
theorem sb_m1 {p : Nat} (h : 0 < p) : nI p + (-1) = nI (p - 1) := by
  obtain ⟨q, rfl⟩ : ∃ q, p = q + 1 := ⟨p - 1, by omega⟩
  exact pk_m1 q
def sb_b (c : Nat) : Int32 := (nI c).toInt8.toInt32
theorem sb_byte : ∀ c, c < 256 → sb_b c &&& 255 = nI c ∧ ((nI c).toUInt32 % 65536).toInt32 = nI c ∧ nI c ≤ 255 := by decide +kernel
def sb_Fit (a : Nat → Int32) : Prop := ∀ j, fits .byte (.int (a j)) = true
def sb_Lat (t : Nat → Nat) (n : Nat) (a : Nat → Int32) : Prop := ∀ j, j < n → t j < 256 ∧ a j = sb_b (t j)
theorem sb_fitB (c : Nat) : fits .byte (.int (sb_b c)) = true := pk_fb _
theorem sb_fit0 : sb_Fit (fun _ => 0) := fun _ => by
  show fits .byte (.int 0) = true
  decide
theorem sb_fitU {a : Nat → Int32} {k : Nat} {x : Int32} (h : sb_Fit a) (hx : fits .byte (.int x) = true) : sb_Fit (upd a k x) := by
  intro j
  by_cases e : j = k
  · subst e
    rw [pk_us]
    exact hx
  · rw [pk_un e]
    exact h j
def sb_cat (t : Nat → Nat) (n : Nat) (s : Nat → Nat) : Nat → Nat := fun j => if j < n then t j else s (j - n)
theorem sb_cat_lo {t s : Nat → Nat} {n j : Nat} (h : j < n) : sb_cat t n s j = t j := if_pos h
theorem sb_cat_hi {t s : Nat → Nat} {n j : Nat} : sb_cat t n s (n + j) = s j := by
  show (if n + j < n then t (n + j) else s (n + j - n)) = s j
  rw [if_neg (by omega), Nat.add_sub_cancel_left]
theorem sb_latPut {t s : Nat → Nat} {n w : Nat} {a a' : Nat → Int32} (h : sb_Lat t n a) (hk : ∀ j, j < n → a' j = a j) (hs : ∀ i, i < w → s i < 256 ∧ a' (n + i) = sb_b (s i)) : sb_Lat (sb_cat t n s) (n + w) a' := by
  intro j hj
  by_cases e : j < n
  · rw [sb_cat_lo e, hk j e]
    exact h j e
  · obtain ⟨i, rfl⟩ : ∃ i, j = n + i := ⟨j - n, by omega⟩
    rw [sb_cat_hi]
    exact hs i (by omega)
theorem sb_latKeep {t : Nat → Nat} {n : Nat} {a a' : Nat → Int32} (h : sb_Lat t n a) (hk : ∀ j, j < n → a' j = a j) : sb_Lat t n a' := fun j hj => by
  rw [hk j hj]
  exact h j hj
def sb_cap (q m : Nat) : Nat := if q ≤ m then m else if 2 * m + 2 < q then q else 2 * m + 2
def sb_Room (q m mc ms : Nat) : Prop := q ≤ m ∨ (1 ≤ mc ∧ sb_cap q m ≤ ms ∧ sb_cap q m ≤ 65536)
theorem sb_cap_ge (q m : Nat) : q ≤ sb_cap q m := by
  unfold sb_cap
  split
  · omega
  · split <;> omega
theorem sb_cap_gem (q m : Nat) : m ≤ sb_cap q m := by
  unfold sb_cap
  split
  · omega
  · split <;> omega
theorem sb_cap_le {q m mc ms : Nat} (hm : m ≤ 65536) (hr : sb_Room q m mc ms) : sb_cap q m ≤ 65536 := by
  rcases hr with h | h
  · rw [sb_cap, if_pos h]
    exact hm
  · exact h.2.2
theorem sb_at {P : Int32 → Prop} {x y : Int32} (e : x = y) (h : P y) : P x := e ▸ h
def sb_dg (w : Nat) : Nat := if w < 10 then 1 else if w < 100 then 2 else if w < 1000 then 3 else if w < 10000 then 4 else if w < 100000 then 5 else if w < 1000000 then 6 else if w < 10000000 then 7 else if w < 100000000 then 8 else if w < 1000000000 then 9 else 10
def sb_dec (v : Nat) : Nat → Nat := fun i => 48 + v / 10 ^ (sb_dg v - 1 - i) % 10
theorem sb_dg_in (w : Nat) : 1 ≤ sb_dg w ∧ sb_dg w ≤ 10 := by
  unfold sb_dg
  constructor <;> (repeat' split) <;> omega
theorem sb_dg100 {w : Nat} (h : 100 ≤ w) (hw : w < 2 ^ 31) : sb_dg w = sb_dg (w / 100) + 2 := by
  rw [sb_dg, sb_dg, if_neg (show ¬ w < 10 by omega), if_neg (show ¬ w < 100 by omega)]
  by_cases h3 : w < 1000
  · rw [if_pos h3, if_pos (show w / 100 < 10 by omega)]
  rw [if_neg h3, if_neg (show ¬ w / 100 < 10 by omega)]
  by_cases h4 : w < 10000
  · rw [if_pos h4, if_pos (show w / 100 < 100 by omega)]
  rw [if_neg h4, if_neg (show ¬ w / 100 < 100 by omega)]
  by_cases h5 : w < 100000
  · rw [if_pos h5, if_pos (show w / 100 < 1000 by omega)]
  rw [if_neg h5, if_neg (show ¬ w / 100 < 1000 by omega)]
  by_cases h6 : w < 1000000
  · rw [if_pos h6, if_pos (show w / 100 < 10000 by omega)]
  rw [if_neg h6, if_neg (show ¬ w / 100 < 10000 by omega)]
  by_cases h7 : w < 10000000
  · rw [if_pos h7, if_pos (show w / 100 < 100000 by omega)]
  rw [if_neg h7, if_neg (show ¬ w / 100 < 100000 by omega)]
  by_cases h8 : w < 100000000
  · rw [if_pos h8, if_pos (show w / 100 < 1000000 by omega)]
  rw [if_neg h8, if_neg (show ¬ w / 100 < 1000000 by omega)]
  by_cases h9 : w < 1000000000
  · rw [if_pos h9, if_pos (show w / 100 < 10000000 by omega)]
  rw [if_neg h9, if_neg (show ¬ w / 100 < 10000000 by omega)]
  rw [if_pos (show w / 100 < 100000000 by omega)]
theorem sb_negT {w : Nat} (h : w < 2 ^ 31) : (-nI w).toInt = -(w : Int) := by
  rw [Int32.toInt_neg, nI_toInt h]
  exact Int.bmod_eq_of_le (by omega) (by omega)
theorem sb_nle {a b : Nat} (ha : a < 2 ^ 31) (hb : b < 2 ^ 31) : -nI a ≤ -nI b ↔ b ≤ a := by
  rw [Int32.le_iff_toInt_le, sb_negT ha, sb_negT hb]
  omega
theorem sb_nlt {a b : Nat} (ha : a < 2 ^ 31) (hb : b < 2 ^ 31) : -nI a < -nI b ↔ b < a := by
  rw [Int32.lt_iff_toInt_lt, sb_negT ha, sb_negT hb]
  omega
theorem sb_cmp {A B : Prop} {x : Int32} (v c : Nat) (f : c ≤ v → A) (g : v < c → B) (hv : v < 2 ^ 31) (hx : x = -nI c := by rfl) (hc : c < 2 ^ 31 := by omega) : (-nI v ≤ x → A) ∧ (¬ -nI v ≤ x → B) := by
  subst hx
  rw [sb_nle hv hc]
  exact ⟨f, fun z => g (by omega)⟩
theorem sb_ndiv {w : Nat} (hw : w < 2 ^ 31) : (-nI w) / 100 = -nI (w / 100) := by
  apply Int32.toInt_inj.mp
  have h100 : (100 : Int32).toInt = 100 := by decide
  rw [Int32.toInt_div, sb_negT hw, h100, sb_negT (by omega), Int.neg_tdiv, Int.tdiv_eq_ediv_of_nonneg (by omega), Int.bmod_eq_of_le (by omega) (by omega)]
  omega
theorem sb_nrem {w : Nat} (hw : w < 2 ^ 31) : (-nI (w / 100)) * 100 - (-nI w) = nI (w % 100) := by
  have h := pk_rem (a := w) (d := 100) hw (by decide) (by decide)
  rw [pk_div hw (by decide) (by decide)] at h
  rw [← h]
  show (-nI (w / 100)) * nI 100 - (-nI w) = nI w - nI (w / 100) * nI 100
  rw [Int32.neg_mul, Int32.sub_neg, Int32.add_comm, ← Int32.sub_eq_add_neg]
end
section
/-! the held form, its ghost states, and what rewriting does to them: no program in sight -/
abbrev oz_aim (o : Nat) : Prop := (11 ≤ o ∧ o ≤ 13) ∨ o = 15 ∨ o = 17
abbrev oz_end (o : Nat) : Prop := o = 10 ∨ o = 16 ∨ o = 17
abbrev oz_int (o : Nat) : Prop := o < 10 ∨ o = 15
abbrev oz_hid (o : Nat) : Prop := o = 15 ∨ o = 17
/-- p is the target of an instruction -/
def oz_tg (w : Nat → Nat) (h p : Nat) : Prop := ∃ q, q < h ∧ oz_aim (w q / 256) ∧ w q % 32 = p
def oz_inn (site : Nat → Prop) (len p : Nat) : Prop := ∃ s, site s ∧ s < p ∧ p < s + len
def oz_rel (mv : Nat → Nat) (x : Nat) : Nat := if oz_aim (x / 256) then x - x % 32 + mv (x % 32) else x
def oz_De (w : Nat → Nat) : Nat → Nat → Prop
  | 0, p => ¬ oz_hid (w p / 256)
  | n + 1, p => oz_hid (w p / 256) → oz_De w n (w p % 32)
theorem oz_De_s {w : Nat → Nat} : ∀ n p, oz_De w n p → oz_De w (n + 1) p := by
  intro n
  induction n with
  | zero => intro p h hh; exact absurd hh h
  | succ n ih => intro p h hh; exact ih _ (h hh)
theorem oz_De_le {w : Nat → Nat} {n p : Nat} (h : oz_De w n p) : ∀ k, oz_De w (n + k) p := by
  intro k
  induction k with
  | zero => exact h
  | succ k ih => exact oz_De_s _ _ ih
/-- the emitted word e is what the held word p says at hidden depth d -/
def oz_EM (w og E : Nat → Nat) (e p d : Nat) : Prop :=
  E e / 32 = w p / 32 ∧
  (11 ≤ w p / 256 → w p / 256 ≤ 13 → E e % 32 = og (w p % 32)) ∧
  ((w p / 256 = 5 ∨ w p / 256 = 6) → w p % 32 = E e % 32 + d) ∧
  (¬ (11 ≤ w p / 256 ∧ w p / 256 ≤ 13) → ¬ (w p / 256 = 5 ∨ w p / 256 = 6) → w p % 32 = E e % 32)
/-- static facts of the held form -/
def oz_St (w : Nat → Nat) (h ms : Nat) (og : Nat → Nat) (cnt r : Nat) : Prop :=
  (cnt ≤ 32 ∧ h ≤ cnt ∧ ms ≤ h ∧ og 0 = 0 ∧ og ms = cnt) ∧
  (∀ p, p < h → w p / 256 < 18) ∧
  (∀ p, p < h → oz_aim (w p / 256) → w p % 32 < h) ∧
  (∀ p, p < h → oz_hid (w p / 256) → ¬ w (w p % 32) / 256 = 16) ∧
  (∀ p, p < h → oz_De w r p) ∧
  (∀ p, p < h → 11 ≤ w p / 256 → w p / 256 ≤ 14 → p < ms) ∧
  (∀ p, p < h → 11 ≤ w p / 256 → w p / 256 ≤ 13 → w p % 32 < ms) ∧
  (∀ p, p < ms → w p / 256 ≤ 14 → og (p + 1) = og p + 1) ∧
  (ms < h → oz_tg w h ms) ∧
  (∀ p, p < h → (w p / 256 = 5 ∨ w p / 256 = 6) → w p % 32 ≤ 7 + r)
/-- what a ghost state asks of the next -/
def oz_Stp (R : Nat → List Nat → Nat → Nat → Prop) (w : Nat → Nat) (h ms : Nat) (og E : Nat → Nat) (p : Nat) (S : List Nat) (e x : Nat) : Prop :=
  p < h ∧
  (w p / 256 = 15 → R (w p % 32) ((p + 1) :: S) e x) ∧
  (w p / 256 = 16 → ∃ q S', S = q :: S' ∧ R q S' e x) ∧
  (w p / 256 = 17 → (p < ms → R (w p % 32) S e (og (p + 1))) ∧ (ms ≤ p → R (w p % 32) S e x)) ∧
  (w p / 256 ≤ 14 → oz_EM w og E e p S.length ∧ (8 ≤ w p / 256 → S = []) ∧ (w p / 256 ≠ 10 → R (p + 1) S (e + 1) x) ∧ (w p / 256 = 10 → ms ≤ p → x = e + 1))
def oz_Dy (R : Nat → List Nat → Nat → Nat → Prop) (w : Nat → Nat) (h ms : Nat) (og E : Nat → Nat) (cnt r : Nat) : Prop :=
  (∀ p x, p ≤ ms → R p [] (og p) x) ∧
  (∀ p S e x, R p S e x → p ≤ h ∧ e ≤ cnt ∧ S.length ≤ r ∧ (p < ms → S = [] ∧ e = og p)) ∧
  (∀ p S e x, R p S e x → e < cnt → oz_Stp R w h ms og E p S e x)
/-- a window of len words from f, its disjoint sites -/
def oz_Win (w : Nat → Nat) (h len f : Nat) (site : Nat → Prop) (tail : Prop) : Prop :=
  2 ≤ len ∧ site f ∧
  (∀ s, site s → s + len ≤ h ∧ (∀ i, i < len → w (s + i) = w (f + i)) ∧ (∀ i, 0 < i → i < len → ¬ oz_tg w h (s + i))) ∧
  (∀ s t, site s → site t → s < t → s + len ≤ t) ∧
  (tail → oz_end (w (f + (len - 1)) / 256) ∧ ∀ i, i + 1 < len → oz_int (w (f + i) / 256)) ∧
  (¬ tail → ∀ i, i < len → w (f + i) / 256 ≤ 7)
def oz_Mv (h len : Nat) (site : Nat → Prop) (mv : Nat → Nat) : Prop :=
  mv 0 = 0 ∧ ∀ p, p < h → (oz_inn site len p → mv (p + 1) = mv p) ∧ (¬ oz_inn site len p → mv (p + 1) = mv p + 1)
def oz_New (w : Nat → Nat) (h len f : Nat) (site : Nat → Prop) (tail : Prop) (mv w' : Nat → Nat) (h' : Nat) : Prop :=
  (∀ p, p < h → site p → (tail → w' (mv p) = 17 * 256 + mv h) ∧ (¬ tail → w' (mv p) = 15 * 256 + mv h)) ∧
  (∀ p, p < h → ¬ oz_inn site len p → ¬ site p → w' (mv p) = oz_rel mv (w p)) ∧
  (∀ i, i < len → ((¬ tail ∧ (w (f + i) / 256 = 5 ∨ w (f + i) / 256 = 6)) → w' (mv h + i) = oz_rel mv (w (f + i)) + 1) ∧
    (¬ (¬ tail ∧ (w (f + i) / 256 = 5 ∨ w (f + i) / 256 = 6)) → w' (mv h + i) = oz_rel mv (w (f + i)))) ∧
  (¬ tail → w' (mv h + len) = 4096 ∧ h' = mv h + len + 1) ∧ (tail → h' = mv h + len) ∧ h' < h
def oz_Og (ms len : Nat) (site : Nat → Prop) (mv og og' : Nat → Nat) (cnt : Nat) : Prop :=
  (∀ p, p < ms → ¬ oz_inn site len p → og' (mv p) = og p) ∧ og' (mv ms) = cnt
section
variable {w w' og og' E mv : Nat → Nat} {h h' ms cnt r len f : Nat} {site : Nat → Prop} {tail : Prop}
theorem oz_mv1 (hM : oz_Mv h len site mv) {p : Nat} (hp : p < h) : mv p ≤ mv (p + 1) ∧ mv (p + 1) ≤ mv p + 1 := by
  by_cases hi : oz_inn site len p
  · have := (hM.2 p hp).1 hi; omega
  · have := (hM.2 p hp).2 hi; omega
theorem oz_mono (hM : oz_Mv h len site mv) : ∀ q, q ≤ h → ∀ p, p ≤ q → mv p ≤ mv q := by
  intro q
  induction q with
  | zero => intro _ p hp; have : p = 0 := by omega
            rw [this]; exact Nat.le_refl _
  | succ q ih =>
    intro hq p hp
    by_cases e : p = q + 1
    · rw [e]; exact Nat.le_refl _
    · have a := ih (by omega) p (by omega)
      have b := (oz_mv1 hM (p := q) (by omega)).1
      omega
theorem oz_mvle (hM : oz_Mv h len site mv) : ∀ q, q ≤ h → mv q ≤ q := by
  intro q
  induction q with
  | zero => intro _; rw [hM.1]; exact Nat.le_refl _
  | succ q ih =>
    intro hq
    have a := ih (by omega)
    have b := (oz_mv1 hM (p := q) (by omega)).2
    omega
theorem oz_mvlt (hM : oz_Mv h len site mv) {p q : Nat} (hp : ¬ oz_inn site len p) (hpq : p < q) (hq : q ≤ h) : mv p < mv q := by
  have a := (hM.2 p (by omega)).2 hp
  have b := oz_mono hM q hq (p + 1) (by omega)
  omega
theorem oz_mvinj (hM : oz_Mv h len site mv) {p q : Nat} (hp : ¬ oz_inn site len p) (hq : ¬ oz_inn site len q) (h1 : p ≤ h) (h2 : q ≤ h) (e : mv p = mv q) : p = q := by
  by_cases a : p < q
  · have := oz_mvlt hM hp a h2; omega
  · by_cases b : q < p
    · have := oz_mvlt hM hq b h1; omega
    · omega
theorem oz_surj (hM : oz_Mv h len site mv) : ∀ q, q ≤ h → ∀ P, P < mv q → ∃ p, p < q ∧ ¬ oz_inn site len p ∧ mv p = P := by
  intro q
  induction q with
  | zero => intro _ P hP; rw [hM.1] at hP; omega
  | succ q ih =>
    intro hq P hP
    by_cases hi : oz_inn site len q
    · rw [(hM.2 q (by omega)).1 hi] at hP
      obtain ⟨p, a, b, c⟩ := ih (by omega) P hP
      exact ⟨p, by omega, b, c⟩
    · rw [(hM.2 q (by omega)).2 hi] at hP
      by_cases e : P = mv q
      · exact ⟨q, by omega, hi, e.symm⟩
      · obtain ⟨p, a, b, c⟩ := ih (by omega) P (by omega)
        exact ⟨p, by omega, b, c⟩
theorem oz_sni (hW : oz_Win w h len f site tail) {s : Nat} (hs : site s) : ¬ oz_inn site len s := by
  rintro ⟨t, ht, a, b⟩
  have := hW.2.2.2.1 t s ht hs a
  omega
theorem oz_eni (hW : oz_Win w h len f site tail) {s : Nat} (hs : site s) : ¬ oz_inn site len (s + len) := by
  rintro ⟨t, ht, a, b⟩
  by_cases c : t < s
  · have := hW.2.2.2.1 t s ht hs c; omega
  · by_cases d : s < t
    · have := hW.2.2.2.1 s t hs ht d; omega
    · omega
theorem oz_mvs (hW : oz_Win w h len f site tail) (hM : oz_Mv h len site mv) {s : Nat} (hs : site s) : ∀ i, i + 1 ≤ len → mv (s + (i + 1)) = mv s + 1 := by
  have hl := (hW.2.2.1 s hs).1
  have h2 := hW.1
  intro i
  induction i with
  | zero => intro _; exact (hM.2 s (by omega)).2 (oz_sni hW hs)
  | succ i ih =>
    intro hi
    have a := ih (by omega)
    have b := (hM.2 (s + (i + 1)) (by omega)).1 ⟨s, hs, by omega, by omega⟩
    rw [show s + (i + 1 + 1) = s + (i + 1) + 1 from rfl, b, a]
theorem oz_mvsl (hW : oz_Win w h len f site tail) (hM : oz_Mv h len site mv) {s : Nat} (hs : site s) : mv (s + len) = mv s + 1 := by
  have h2 := hW.1
  have := oz_mvs hW hM hs (len - 1) (by omega)
  rw [show len - 1 + 1 = len from by omega] at this
  exact this
theorem oz_suc {p : Nat} (h1 : ¬ oz_inn site len p) (h2 : ¬ site p) : ¬ oz_inn site len (p + 1) := by
  rintro ⟨s, hs, a, b⟩
  by_cases c : s = p
  · exact h2 (c ▸ hs)
  · exact h1 ⟨s, hs, by omega, by omega⟩
theorem oz_tni (hW : oz_Win w h len f site tail) {p : Nat} (ht : oz_tg w h p) : ¬ oz_inn site len p := by
  rintro ⟨s, hs, a, b⟩
  have := (hW.2.2.1 s hs).2.2 (p - s) (by omega) (by omega)
  rw [show s + (p - s) = p from by omega] at this
  exact this ht
theorem oz_msni (hW : oz_Win w h len f site tail) (h1 : ms ≤ h) (h2 : ms < h → oz_tg w h ms) : ¬ oz_inn site len ms := by
  by_cases c : ms < h
  · exact oz_tni hW (h2 c)
  · rintro ⟨s, hs, a, b⟩
    have := (hW.2.2.1 s hs).1
    omega
theorem oz_sms (hn : ¬ oz_inn site len ms) {s : Nat} (hs : site s) (h1 : s < ms) : s + len ≤ ms := by
  by_cases c : s + len ≤ ms
  · exact c
  · exact absurd ⟨s, hs, h1, by omega⟩ hn
theorem oz_relop {x : Nat} (hh : oz_aim (x / 256) → mv (x % 32) < 32) : oz_rel mv x / 256 = x / 256 ∧ oz_rel mv x / 32 = x / 32 ∧ (oz_aim (x / 256) → oz_rel mv x % 32 = mv (x % 32)) ∧ (¬ oz_aim (x / 256) → oz_rel mv x = x) := by
  unfold oz_rel
  by_cases c : oz_aim (x / 256)
  · rw [if_pos c]
    have := hh c
    refine ⟨by omega, by omega, fun _ => by omega, fun z => absurd c z⟩
  · rw [if_neg c]
    exact ⟨rfl, rfl, fun z => absurd z c, fun _ => rfl⟩
theorem oz_hhlt (hN : oz_New w h len f site tail mv w' h') : mv h < h' ∨ len = 0 := by
  by_cases t : tail
  · have := hN.2.2.2.2.1 t; omega
  · have := (hN.2.2.2.1 t).2; omega
/-- the new address of a kept word -/
theorem oz_F1 (hM : oz_Mv h len site mv) (hN : oz_New w h len f site tail mv w' h') (h32 : h ≤ 32) (hS : ∀ p, p < h → oz_aim (w p / 256) → w p % 32 < h) {p : Nat} (hp : p < h) (hi : ¬ oz_inn site len p) (hs : ¬ site p) :
    w' (mv p) / 256 = w p / 256 ∧ w' (mv p) / 32 = w p / 32 ∧ (oz_aim (w p / 256) → w' (mv p) % 32 = mv (w p % 32)) ∧ (¬ oz_aim (w p / 256) → w' (mv p) = w p) := by
  rw [hN.2.1 p hp hi hs]
  refine oz_relop fun c => ?_
  have a := hS p hp c
  have b := oz_mvle hM (w p % 32) (by omega)
  omega
theorem oz_F3 (hW : oz_Win w h len f site tail) (hM : oz_Mv h len site mv) (hN : oz_New w h len f site tail mv w' h') (h32 : h ≤ 32) (hS : ∀ p, p < h → oz_aim (w p / 256) → w p % 32 < h) (hb : ∀ p, p < h → (w p / 256 = 5 ∨ w p / 256 = 6) → w p % 32 ≤ 7 + r) (hr : r ≤ 8) {i : Nat} (hi : i < len) :
    w' (mv h + i) / 256 = w (f + i) / 256 ∧ w' (mv h + i) / 32 = w (f + i) / 32 ∧ (oz_aim (w (f + i) / 256) → w' (mv h + i) % 32 = mv (w (f + i) % 32)) ∧
    (¬ oz_aim (w (f + i) / 256) → ¬ (¬ tail ∧ (w (f + i) / 256 = 5 ∨ w (f + i) / 256 = 6)) → w' (mv h + i) = w (f + i)) ∧
    (¬ tail → (w (f + i) / 256 = 5 ∨ w (f + i) / 256 = 6) → w' (mv h + i) % 32 = w (f + i) % 32 + 1) := by
  have hf := (hW.2.2.1 f hW.2.1).1
  have hr1 := oz_relop (mv := mv) (x := w (f + i)) fun c => by
    have a := hS (f + i) (by omega) c
    have b := oz_mvle hM (w (f + i) % 32) (by omega)
    omega
  by_cases c : ¬ tail ∧ (w (f + i) / 256 = 5 ∨ w (f + i) / 256 = 6)
  · have e := (hN.2.2.1 i hi).1 c
    have hna : ¬ oz_aim (w (f + i) / 256) := by
      rintro (h1 | h1 | h1) <;> omega
    have hb1 := hb (f + i) (by omega) c.2
    rw [hr1.2.2.2 hna] at e
    rw [e]
    refine ⟨by omega, by omega, fun z => absurd z hna, fun _ z => absurd c z, fun _ _ => by omega⟩
  · have e := (hN.2.2.1 i hi).2 c
    rw [e]
    exact ⟨hr1.1, hr1.2.1, hr1.2.2.1, fun z _ => hr1.2.2.2 z, fun z1 z2 => absurd ⟨z1, z2⟩ c⟩
theorem oz_cls (hM : oz_Mv h len site mv) (hN : oz_New w h len f site tail mv w' h') {P : Nat} (hP : P < h') : (∃ p, p < h ∧ ¬ oz_inn site len p ∧ mv p = P) ∨ (∃ i, i < len ∧ P = mv h + i) ∨ (¬ tail ∧ P = mv h + len) := by
  by_cases a : P < mv h
  · exact Or.inl (oz_surj hM h (Nat.le_refl _) P a)
  · by_cases b : P < mv h + len
    · exact Or.inr (Or.inl ⟨P - mv h, by omega, by omega⟩)
    · refine Or.inr (Or.inr ?_)
      by_cases t : tail
      · have := hN.2.2.2.2.1 t; omega
      · have := (hN.2.2.2.1 t).2
        exact ⟨t, by omega⟩
end
end
section
section
variable {w w' og og' E mv : Nat → Nat} {h h' ms cnt r len f : Nat} {site : Nat → Prop} {tail : Prop}
theorem oz_hh (hW : oz_Win w h len f site tail) (hN : oz_New w h len f site tail mv w' h') : mv h < h' := by
  have h2 := hW.1
  rcases oz_hhlt hN with a | a
  · exact a
  · omega
theorem oz_F2 (hW : oz_Win w h len f site tail) (hN : oz_New w h len f site tail mv w' h') (h32 : h ≤ 32) {s : Nat} (hs : site s) :
    (tail → w' (mv s) / 256 = 17) ∧ (¬ tail → w' (mv s) / 256 = 15) ∧ w' (mv s) % 32 = mv h := by
  have hl := (hW.2.2.1 s hs).1
  have h2 := hW.1
  have hh := oz_hh hW hN
  have h4 := hN.2.2.2.2.2
  have e := hN.1 s (by omega) hs
  refine ⟨fun t => ?_, fun t => ?_, ?_⟩
  · have := e.1 t; omega
  · have := e.2 t; omega
  · by_cases t : tail
    · have := e.1 t; omega
    · have := e.2 t; omega
theorem oz_F2h (hW : oz_Win w h len f site tail) (hN : oz_New w h len f site tail mv w' h') (h32 : h ≤ 32) {s : Nat} (hs : site s) : oz_hid (w' (mv s) / 256) := by
  have a := oz_F2 hW hN h32 hs
  by_cases t : tail
  · exact Or.inr (a.1 t)
  · exact Or.inl (a.2.1 t)
theorem oz_ftail (hW : oz_Win w h len f site tail) : ∀ i, i < len → ¬ (11 ≤ w (f + i) / 256 ∧ w (f + i) / 256 ≤ 14) := by
  intro i hi
  by_cases t : tail
  · have a := hW.2.2.2.2.1 t
    by_cases c : i + 1 < len
    · have b := a.2 i c
      rcases b with b | b <;> omega
    · have b := a.1
      rw [show len - 1 = i from by omega] at b
      rcases b with b | b | b <;> omega
  · have a := hW.2.2.2.2.2 t i hi
    omega
theorem oz_f16 (hW : oz_Win w h len f site tail) : ¬ w (f + 0) / 256 = 16 := by
  have h2 := hW.1
  by_cases t : tail
  · have b := (hW.2.2.2.2.1 t).2 0 (by omega)
    rcases b with b | b <;> omega
  · have a := hW.2.2.2.2.2 t 0 (by omega)
    omega
theorem oz_tgt (hW : oz_Win w h len f site tail) {p : Nat} (hp : p < h) (ha : oz_aim (w p / 256)) : ¬ oz_inn site len (w p % 32) :=
  oz_tni hW ⟨p, hp, ha, rfl⟩
theorem oz_n16 (hW : oz_Win w h len f site tail) (hM : oz_Mv h len site mv) (hN : oz_New w h len f site tail mv w' h') (h32 : h ≤ 32) (sT : ∀ p, p < h → oz_aim (w p / 256) → w p % 32 < h) {g : Nat} (hg : g < h) (hi : ¬ oz_inn site len g) (h16 : ¬ w g / 256 = 16) : ¬ w' (mv g) / 256 = 16 := by
  by_cases hs : site g
  · have a := oz_F2 hW hN h32 hs
    by_cases t : tail
    · have := a.1 t; omega
    · have := a.2.1 t; omega
  · rw [(oz_F1 hM hN h32 sT hg hi hs).1]; exact h16
theorem oz_same (hW : oz_Win w h len f site tail) {s : Nat} (hs : site s) : w s = w f := by
  have h2 := hW.1
  exact (hW.2.2.1 s hs).2.1 0 (by omega)
theorem oz_sameD (hW : oz_Win w h len f site tail) {s : Nat} (hs : site s) (n : Nat) (hd : oz_De w n s) : oz_De w n f := by
  have e := oz_same hW hs
  cases n with
  | zero => unfold oz_De at hd ⊢; rw [← e]; exact hd
  | succ n => unfold oz_De at hd ⊢; rw [← e]; exact hd
theorem oz_DeB (hW : oz_Win w h len f site tail) (hM : oz_Mv h len site mv) (hN : oz_New w h len f site tail mv w' h') (h32 : h ≤ 32) (sT : ∀ p, p < h → oz_aim (w p / 256) → w p % 32 < h) {n0 : Nat} (hl : ∀ j, j < n0 → ¬ oz_De w j f) :
    ∀ n p, p < h → ¬ oz_inn site len p → oz_De w n p → n < n0 → oz_De w' n (mv p) := by
  intro n
  induction n with
  | zero =>
    intro p hp hi hd hn
    have hns : ¬ site p := fun hs => hl 0 hn (oz_sameD hW hs 0 hd)
    have F := oz_F1 hM hN h32 sT hp hi hns
    unfold oz_De at hd ⊢
    rw [F.1]; exact hd
  | succ n ih =>
    intro p hp hi hd hn
    have hns : ¬ site p := fun hs => hl _ hn (oz_sameD hW hs _ hd)
    have F := oz_F1 hM hN h32 sT hp hi hns
    unfold oz_De at hd ⊢
    intro hh
    rw [F.1] at hh
    have ha : oz_aim (w p / 256) := Or.inr hh
    rw [F.2.2.1 ha]
    exact ih _ (sT p hp ha) (oz_tgt hW hp ha) (hd hh) (by omega)
theorem oz_DeC (hW : oz_Win w h len f site tail) (hM : oz_Mv h len site mv) (hN : oz_New w h len f site tail mv w' h') (h32 : h ≤ 32) (sT : ∀ p, p < h → oz_aim (w p / 256) → w p % 32 < h) (hb : ∀ p, p < h → (w p / 256 = 5 ∨ w p / 256 = 6) → w p % 32 ≤ 7 + r) (hr : r ≤ 8) {n0 : Nat} (hl : ∀ j, j < n0 → ¬ oz_De w j f) (h0 : oz_De w n0 f) : oz_De w' n0 (mv h) := by
  have h2 := hW.1
  have hf := (hW.2.2.1 f hW.2.1).1
  have F := oz_F3 hW hM hN h32 sT hb hr (i := 0) (by omega)
  rw [Nat.add_zero, Nat.add_zero] at F
  cases n0 with
  | zero => unfold oz_De at h0 ⊢; rw [F.1]; exact h0
  | succ n =>
    unfold oz_De at h0 ⊢
    intro hh
    rw [F.1] at hh
    have ha : oz_aim (w f / 256) := Or.inr hh
    rw [F.2.2.1 ha]
    exact oz_DeB hW hM hN h32 sT hl n _ (sT f (by omega) ha) (oz_tgt hW (by omega) ha) (h0 hh) (by omega)
theorem oz_DeD (hW : oz_Win w h len f site tail) (hM : oz_Mv h len site mv) (hN : oz_New w h len f site tail mv w' h') (h32 : h ≤ 32) (sT : ∀ p, p < h → oz_aim (w p / 256) → w p % 32 < h) {n0 : Nat} (hl : ∀ j, j < n0 → ¬ oz_De w j f) (hC : oz_De w' n0 (mv h)) :
    ∀ n p, p < h → ¬ oz_inn site len p → oz_De w n p → oz_De w' (n + 1) (mv p) := by
  intro n
  induction n with
  | zero =>
    intro p hp hi hd
    by_cases hs : site p
    · have hge : n0 ≤ 0 := by
        by_cases c : 0 < n0
        · exact absurd (oz_sameD hW hs 0 hd) (hl 0 c)
        · omega
      have F := oz_F2 hW hN h32 hs
      unfold oz_De
      intro _
      rw [F.2.2]
      have := oz_De_le hC (0 - n0)
      rw [show n0 + (0 - n0) = 0 from by omega] at this
      exact this
    · have F := oz_F1 hM hN h32 sT hp hi hs
      unfold oz_De at hd ⊢
      intro hh
      rw [F.1] at hh
      exact absurd hh hd
  | succ n ih =>
    intro p hp hi hd
    by_cases hs : site p
    · have hge : n0 ≤ n + 1 := by
        by_cases c : n + 1 < n0
        · exact absurd (oz_sameD hW hs _ hd) (hl _ c)
        · omega
      have F := oz_F2 hW hN h32 hs
      have hx := oz_De_le hC (n + 1 - n0)
      rw [show n0 + (n + 1 - n0) = n + 1 from by omega] at hx
      show oz_hid (w' (mv p) / 256) → oz_De w' (n + 1) (w' (mv p) % 32)
      intro _
      rw [F.2.2]
      exact hx
    · have F := oz_F1 hM hN h32 sT hp hi hs
      show oz_hid (w' (mv p) / 256) → oz_De w' (n + 1) (w' (mv p) % 32)
      intro hh
      rw [F.1] at hh
      have ha : oz_aim (w p / 256) := Or.inr hh
      rw [F.2.2.1 ha]
      exact ih _ (sT p hp ha) (oz_tgt hW hp ha) (hd hh)
theorem oz_DeN (hW : oz_Win w h len f site tail) (hM : oz_Mv h len site mv) (hN : oz_New w h len f site tail mv w' h') (h32 : h ≤ 32) (sT : ∀ p, p < h → oz_aim (w p / 256) → w p % 32 < h) (hb : ∀ p, p < h → (w p / 256 = 5 ∨ w p / 256 = 6) → w p % 32 ≤ 7 + r) (hr : r ≤ 8) (sDe : ∀ p, p < h → oz_De w r p) :
    ∀ P, P < h' → oz_De w' (r + 1) P := by
  have h2 := hW.1
  have hf := (hW.2.2.1 f hW.2.1).1
  obtain ⟨n0, h0, hl⟩ := pk_least (fun n => oz_De w n f) ⟨r, sDe f (by omega)⟩
  have hC := oz_DeC hW hM hN h32 sT hb hr hl h0
  have hD := oz_DeD hW hM hN h32 sT hl hC
  intro P hP
  rcases oz_cls hM hN hP with ⟨p, hp, hi, rfl⟩ | ⟨i, hi, rfl⟩ | ⟨t, rfl⟩
  · exact hD r p hp hi (sDe p hp)
  · have F := oz_F3 hW hM hN h32 sT hb hr hi
    have hd := sDe (f + i) (by omega)
    show oz_hid (w' (mv h + i) / 256) → oz_De w' r (w' (mv h + i) % 32)
    intro hh
    rw [F.1] at hh
    have ha : oz_aim (w (f + i) / 256) := Or.inr hh
    rw [F.2.2.1 ha]
    cases r with
    | zero => exact absurd hh hd
    | succ n => exact hD n _ (sT (f + i) (by omega) ha) (oz_tgt hW (by omega) ha) (hd hh)
  · show oz_hid (w' (mv h + len) / 256) → oz_De w' r (w' (mv h + len) % 32)
    intro hh
    rw [(hN.2.2.2.1 t).1] at hh
    rcases hh with hh | hh <;> omega
theorem oz_St_new (hSt : oz_St w h ms og cnt r) (hr : r ≤ 8) (hW : oz_Win w h len f site tail) (hM : oz_Mv h len site mv) (hN : oz_New w h len f site tail mv w' h') (hO : oz_Og ms len site mv og og' cnt) : oz_St w' h' (mv ms) og' cnt (r + 1) := by
  obtain ⟨⟨c32, hc, hms, og0, ogm⟩, sOp, sT, sNR, sDe, sMain, sTm, sOg, sB, sLs⟩ := hSt
  have h32 : h ≤ 32 := by omega
  have h2 := hW.1
  have hf := (hW.2.2.1 f hW.2.1).1
  have hmsn := oz_msni hW hms sB
  have hh' := oz_hh hW hN
  have hlt := hN.2.2.2.2.2
  have hmm := oz_mono hM h (Nat.le_refl _) ms hms
  have G1 := fun (p : Nat) (hp : p < h) (hi : ¬ oz_inn site len p) (hs : ¬ site p) => oz_F1 hM hN h32 sT hp hi hs
  have G2 := fun (s : Nat) (hs : site s) => oz_F2 hW hN h32 hs
  have G3 := fun (i : Nat) (hi : i < len) => oz_F3 hW hM hN h32 sT sLs hr hi
  have hn0 : ¬ oz_inn site len 0 := by rintro ⟨s, _, a, _⟩; omega
  refine ⟨⟨c32, by omega, by omega, ?_, hO.2⟩, ?_, ?_, ?_, ?_, ?_, ?_, ?_, ?_, ?_⟩
  · by_cases z : 0 < ms
    · have := hO.1 0 z hn0
      rw [hM.1] at this
      omega
    · have z0 : ms = 0 := by omega
      have := hO.2
      rw [z0, hM.1] at this
      rw [z0] at ogm
      omega
  · intro P hP
    rcases oz_cls hM hN hP with ⟨p, hp, hi, rfl⟩ | ⟨i, hi, rfl⟩ | ⟨t, rfl⟩
    · by_cases hs : site p
      · have := G2 p hs
        by_cases t : tail
        · have := this.1 t; omega
        · have := this.2.1 t; omega
      · rw [(G1 p hp hi hs).1]; exact sOp p hp
    · rw [(G3 i hi).1]; exact sOp _ (by omega)
    · rw [(hN.2.2.2.1 t).1]; omega
  · intro P hP ha
    rcases oz_cls hM hN hP with ⟨p, hp, hi, rfl⟩ | ⟨i, hi, rfl⟩ | ⟨t, rfl⟩
    · by_cases hs : site p
      · rw [(G2 p hs).2.2]; exact hh'
      · rw [(G1 p hp hi hs).1] at ha
        rw [(G1 p hp hi hs).2.2.1 ha]
        have := oz_mono hM h (Nat.le_refl _) (w p % 32) (by have := sT p hp ha; omega)
        omega
    · rw [(G3 i hi).1] at ha
      rw [(G3 i hi).2.2.1 ha]
      have := oz_mono hM h (Nat.le_refl _) (w (f + i) % 32) (by have := sT (f + i) (by omega) ha; omega)
      omega
    · rw [(hN.2.2.2.1 t).1] at ha
      exact absurd ha (by decide)
  · intro P hP ha
    have hx : ¬ w' (mv h) / 256 = 16 := by
      have := (G3 0 (by omega)).1
      rw [Nat.add_zero] at this
      rw [this]
      exact oz_f16 hW
    rcases oz_cls hM hN hP with ⟨p, hp, hi, rfl⟩ | ⟨i, hi, rfl⟩ | ⟨t, rfl⟩
    · by_cases hs : site p
      · rw [(G2 p hs).2.2]; exact hx
      · rw [(G1 p hp hi hs).1] at ha
        rw [(G1 p hp hi hs).2.2.1 (Or.inr ha)]
        exact oz_n16 hW hM hN h32 sT (sT p hp (Or.inr ha)) (oz_tgt hW hp (Or.inr ha)) (sNR p hp ha)
    · rw [(G3 i hi).1] at ha
      rw [(G3 i hi).2.2.1 (Or.inr ha)]
      exact oz_n16 hW hM hN h32 sT (sT (f + i) (by omega) (Or.inr ha)) (oz_tgt hW (by omega) (Or.inr ha)) (sNR (f + i) (by omega) ha)
    · rw [(hN.2.2.2.1 t).1] at ha
      exact absurd ha (by decide)
  · exact oz_DeN hW hM hN h32 sT sLs hr sDe
  · intro P hP h11 h14
    rcases oz_cls hM hN hP with ⟨p, hp, hi, rfl⟩ | ⟨i, hi, rfl⟩ | ⟨t, rfl⟩
    · by_cases hs : site p
      · have := G2 p hs
        by_cases t : tail
        · have := this.1 t; omega
        · have := this.2.1 t; omega
      · rw [(G1 p hp hi hs).1] at h11 h14
        exact oz_mvlt hM hi (sMain p hp h11 h14) hms
    · rw [(G3 i hi).1] at h11 h14
      exact absurd ⟨h11, h14⟩ (oz_ftail hW i hi)
    · rw [(hN.2.2.2.1 t).1] at h11 h14
      omega
  · intro P hP h11 h13
    rcases oz_cls hM hN hP with ⟨p, hp, hi, rfl⟩ | ⟨i, hi, rfl⟩ | ⟨t, rfl⟩
    · by_cases hs : site p
      · have := G2 p hs
        by_cases t : tail
        · have := this.1 t; omega
        · have := this.2.1 t; omega
      · rw [(G1 p hp hi hs).1] at h11 h13
        rw [(G1 p hp hi hs).2.2.1 (Or.inl ⟨h11, h13⟩)]
        exact oz_mvlt hM (oz_tgt hW hp (Or.inl ⟨h11, h13⟩)) (sTm p hp h11 h13) hms
    · rw [(G3 i hi).1] at h11 h13
      exact absurd ⟨h11, by omega⟩ (oz_ftail hW i hi)
    · rw [(hN.2.2.2.1 t).1] at h11 h13
      omega
  · intro P hP h14
    obtain ⟨p, hp, hi, rfl⟩ := oz_surj hM ms hms P hP
    by_cases hs : site p
    · have := G2 p hs
      by_cases t : tail
      · have := this.1 t; omega
      · have := this.2.1 t; omega
    · rw [(G1 p (by omega) hi hs).1] at h14
      have e1 := (hM.2 p (by omega)).2 hi
      have e2 := sOg p hp h14
      rw [← e1, hO.1 p hp hi, ← e2]
      by_cases z : p + 1 < ms
      · exact hO.1 _ z (oz_suc hi hs)
      · rw [show p + 1 = ms from by omega, hO.2, ogm]
  · intro _
    by_cases z : ms < h
    · obtain ⟨q, hq, ha, e⟩ := sB z
      by_cases hi : oz_inn site len q
      · obtain ⟨s, hs, a, b⟩ := hi
        have ew := (hW.2.2.1 s hs).2.1 (q - s) (by omega)
        rw [show s + (q - s) = q from by omega] at ew
        have F := G3 (q - s) (by omega)
        rw [ew] at ha e
        refine ⟨mv h + (q - s), ?_, ?_, ?_⟩
        · by_cases t : tail
          · have := hN.2.2.2.2.1 t; omega
          · have := (hN.2.2.2.1 t).2; omega
        · rw [F.1]; exact ha
        · rw [F.2.2.1 ha, e]
      · by_cases hs : site q
        · have ew := oz_same hW hs
          have F := G3 0 (by omega)
          rw [Nat.add_zero, Nat.add_zero] at F
          rw [ew] at ha e
          exact ⟨mv h, hh', by rw [F.1]; exact ha, by rw [F.2.2.1 ha, e]⟩
        · have F := G1 q hq hi hs
          refine ⟨mv q, ?_, by rw [F.1]; exact ha, by rw [F.2.2.1 ha, e]⟩
          have := oz_mono hM h (Nat.le_refl _) q (by omega)
          omega
    · have z0 : ms = h := by omega
      have F := G2 f hW.2.1
      refine ⟨mv f, ?_, Or.inr (oz_F2h hW hN h32 hW.2.1), by rw [F.2.2, z0]⟩
      have := oz_mono hM h (Nat.le_refl _) f (by omega)
      omega
  · intro P hP h56
    rcases oz_cls hM hN hP with ⟨p, hp, hi, rfl⟩ | ⟨i, hi, rfl⟩ | ⟨t, rfl⟩
    · by_cases hs : site p
      · have := G2 p hs
        by_cases t : tail
        · have := this.1 t; omega
        · have := this.2.1 t; omega
      · have F := G1 p hp hi hs
        rw [F.1] at h56
        have hna : ¬ oz_aim (w p / 256) := by rintro (h1 | h1 | h1) <;> omega
        rw [F.2.2.2 hna]
        have := sLs p hp h56
        omega
    · have F := G3 i hi
      rw [F.1] at h56
      have hna : ¬ oz_aim (w (f + i) / 256) := by rintro (h1 | h1 | h1) <;> omega
      have hq := sLs (f + i) (by omega) h56
      by_cases t : tail
      · rw [F.2.2.2.1 hna (fun z => z.1 t)]
        omega
      · rw [F.2.2.2.2 t h56]
        omega
    · rw [(hN.2.2.2.1 t).1] at h56
      omega
end
end
section
/-- the hidden stack of the old form and that of the new one -/
def oz_SR (len ms top : Nat) (site : Nat → Prop) (tail : Prop) (og mv : Nat → Nat) (x : Nat) : List Nat → List Nat → Prop
  | [], [] => True
  | q :: S, q' :: S' => ((¬ oz_inn site len q ∧ q' = mv q) ∨ (tail ∧ ∃ s j, site s ∧ j < len ∧ q = s + j ∧ q' = top + j ∧ (s < ms → x = og (s + len)))) ∧ oz_SR len ms top site tail og mv x S S'
  | [], _ :: _ => False
  | _ :: _, [] => False
/-- the ghost states of the new form: images of the old ones -/
def oz_Im (R : Nat → List Nat → Nat → Nat → Prop) (h len ms : Nat) (site : Nat → Prop) (tail : Prop) (og mv : Nat → Nat) : Nat → List Nat → Nat → Nat → Prop :=
  fun P S' e x => ∃ p S, R p S e x ∧
    ((¬ oz_inn site len p ∧ p ≤ h ∧ P = mv p ∧ oz_SR len ms (mv h) site tail og mv x S S') ∨
     (tail ∧ ∃ s j, site s ∧ j < len ∧ p = s + j ∧ P = mv h + j ∧ oz_SR len ms (mv h) site tail og mv x S S' ∧ (s < ms → x = og (s + len))) ∨
     (¬ tail ∧ ∃ s j S'', site s ∧ j ≤ len ∧ p = s + j ∧ P = mv h + j ∧ S' = (mv s + 1) :: S'' ∧ oz_SR len ms (mv h) site tail og mv x S S''))
section
variable {w w' og og' E mv : Nat → Nat} {h h' ms cnt r len f top x : Nat} {site : Nat → Prop} {tail : Prop} {R : Nat → List Nat → Nat → Nat → Prop}
theorem oz_SRl : ∀ {S S' : List Nat}, oz_SR len ms top site tail og mv x S S' → S'.length = S.length := by
  intro S
  induction S with
  | nil =>
    intro S' hS
    cases S' with
    | nil => rfl
    | cons a b => exact hS.elim
  | cons q S ih =>
    intro S' hS
    cases S' with
    | nil => exact hS.elim
    | cons a b => rw [List.length_cons, List.length_cons, ih hS.2]
theorem oz_SRn {S' : List Nat} (hS : oz_SR len ms top site tail og mv x [] S') : S' = [] := by
  cases S' with
  | nil => rfl
  | cons a b => exact hS.elim
theorem oz_SR0 : oz_SR len ms top site tail og mv x [] [] := trivial
theorem oz_ret {q q' e : Nat} {S S' : List Nat} (hR : R q S e x) (hq : q ≤ h) (hS : oz_SR len ms (mv h) site tail og mv x (q :: S) (q' :: S')) : oz_Im R h len ms site tail og mv q' S' e x := by
  rcases hS with ⟨⟨a, b⟩ | ⟨t, s, j, a, b, c, d, g⟩, hS⟩
  · exact ⟨q, S, hR, Or.inl ⟨a, hq, b, hS⟩⟩
  · exact ⟨q, S, hR, Or.inr (Or.inl ⟨t, s, j, a, b, c, d, hS, g⟩)⟩
theorem oz_d8 (x : Nat) : x / 256 = x / 32 / 8 := by omega
theorem oz_EM1 {e p P d : Nat} (hE : oz_EM w og E e p d) (h14 : w p / 256 ≤ 14) (e32 : w' P / 32 = w p / 32) (ea : oz_aim (w p / 256) → w' P % 32 = mv (w p % 32)) (en : ¬ oz_aim (w p / 256) → w' P = w p) (eo : 11 ≤ w p / 256 → w p / 256 ≤ 13 → og' (mv (w p % 32)) = og (w p % 32)) : oz_EM w' og' E e P d := by
  obtain ⟨a, b, c, g⟩ := hE
  have e8 : w' P / 256 = w p / 256 := by rw [oz_d8, oz_d8 (w p), e32]
  refine ⟨by rw [e32]; exact a, ?_, ?_, ?_⟩
  · rw [e8]
    intro h1 h2
    rw [ea (Or.inl ⟨h1, h2⟩), eo h1 h2]
    exact b h1 h2
  · rw [e8]
    intro h1
    rw [en (by rintro (h2 | h2 | h2) <;> omega)]
    exact c h1
  · rw [e8]
    intro h1 h2
    rw [en (by rintro (h3 | h3 | h3) <;> omega)]
    exact g h1 h2
theorem oz_EM2 {e p P d : Nat} (hE : oz_EM w og E e p d) (h7 : w p / 256 ≤ 7) (e32 : w' P / 32 = w p / 32) (e1 : (w p / 256 = 5 ∨ w p / 256 = 6) → w' P % 32 = w p % 32 + 1) (e2 : ¬ (w p / 256 = 5 ∨ w p / 256 = 6) → w' P = w p) : oz_EM w' og' E e P (d + 1) := by
  obtain ⟨a, b, c, g⟩ := hE
  have e8 : w' P / 256 = w p / 256 := by rw [oz_d8, oz_d8 (w p), e32]
  refine ⟨by rw [e32]; exact a, ?_, ?_, ?_⟩
  · rw [e8]
    intro h1 h2
    omega
  · rw [e8]
    intro h1
    have := c h1
    rw [e1 h1]
    omega
  · rw [e8]
    intro h1 h2
    rw [e2 h2]
    exact g h1 h2
theorem oz_ogn (hO : oz_Og ms len site mv og og' cnt) (ogm : og ms = cnt) {p : Nat} (hp : p ≤ ms) (hi : ¬ oz_inn site len p) : og' (mv p) = og p := by
  by_cases z : p < ms
  · exact hO.1 p z hi
  · rw [show p = ms from by omega, hO.2, ogm]
theorem oz_mvms (hM : oz_Mv h len site mv) {p : Nat} (hp : p ≤ h) (hi : mv p < mv ms) (hms : ms ≤ h) : p < ms := by
  by_cases z : p < ms
  · exact z
  · have := oz_mono hM p hp ms (by omega)
    omega
theorem oz_msmv (hM : oz_Mv h len site mv) {p : Nat} (hn : ¬ oz_inn site len p) (hi : mv ms ≤ mv p) (hms : ms ≤ h) : ms ≤ p := by
  by_cases z : p < ms
  · have := oz_mvlt hM hn z hms
    omega
  · omega
theorem oz_Dy1 (hSt : oz_St w h ms og cnt r) (hDy : oz_Dy R w h ms og E cnt r) (hW : oz_Win w h len f site tail) (hM : oz_Mv h len site mv) (hO : oz_Og ms len site mv og og' cnt) (P y : Nat) (hP : P ≤ mv ms) : oz_Im R h len ms site tail og mv P [] (og' P) y := by
  obtain ⟨⟨c32, hc, hms, og0, ogm⟩, sOp, sT, sNR, sDe, sMain, sTm, sOg, sB, sLs⟩ := hSt
  have hmsn := oz_msni hW hms sB
  have hex : ∃ p, p ≤ ms ∧ ¬ oz_inn site len p ∧ mv p = P := by
    by_cases z : P = mv ms
    · exact ⟨ms, Nat.le_refl _, hmsn, z.symm⟩
    · obtain ⟨p, a, b, c⟩ := oz_surj hM ms hms P (by omega)
      exact ⟨p, by omega, b, c⟩
  obtain ⟨p, hp, hi, rfl⟩ := hex
  rw [oz_ogn hO ogm hp hi]
  exact ⟨p, [], hDy.1 p y hp, Or.inl ⟨hi, by omega, rfl, trivial⟩⟩
theorem oz_Dy2 (hSt : oz_St w h ms og cnt r) (hDy : oz_Dy R w h ms og E cnt r) (hW : oz_Win w h len f site tail) (hM : oz_Mv h len site mv) (hN : oz_New w h len f site tail mv w' h') (hO : oz_Og ms len site mv og og' cnt) (P : Nat) (S' : List Nat) (e y : Nat) (hR' : oz_Im R h len ms site tail og mv P S' e y) : P ≤ h' ∧ e ≤ cnt ∧ S'.length ≤ r + 1 ∧ (P < mv ms → S' = [] ∧ e = og' P) := by
  obtain ⟨⟨c32, hc, hms, og0, ogm⟩, sOp, sT, sNR, sDe, sMain, sTm, sOg, sB, sLs⟩ := hSt
  have hh' := oz_hh hW hN
  have hmm := oz_mono hM h (Nat.le_refl _) ms hms
  obtain ⟨p, S, hR, hc⟩ := hR'
  obtain ⟨b1, b2, b3, b4⟩ := hDy.2.1 p S e y hR
  rcases hc with ⟨hi, hph, rfl, hSR⟩ | ⟨t, s, j, hs, hj, rfl, rfl, hSR, hx⟩ | ⟨t, s, j, S'', hs, hj, rfl, rfl, rfl, hSR⟩
  · have := oz_mono hM h (Nat.le_refl _) p hph
    refine ⟨by omega, b2, by rw [oz_SRl hSR]; omega, fun z => ?_⟩
    have hp := oz_mvms hM hph z hms
    obtain ⟨rfl, rfl⟩ := b4 hp
    exact ⟨oz_SRn hSR, (hO.1 p hp hi).symm⟩
  · have := hN.2.2.2.2.1 t
    exact ⟨by omega, b2, by rw [oz_SRl hSR]; omega, fun z => by omega⟩
  · have := (hN.2.2.2.1 t).2
    exact ⟨by omega, b2, by rw [List.length_cons, oz_SRl hSR]; omega, fun z => by omega⟩
theorem oz_Dy3a (hSt : oz_St w h ms og cnt r) (hDy : oz_Dy R w h ms og E cnt r) (hW : oz_Win w h len f site tail) (hM : oz_Mv h len site mv) (hN : oz_New w h len f site tail mv w' h') (hO : oz_Og ms len site mv og og' cnt) {p : Nat} {S S' : List Nat} {e x : Nat} (hR : R p S e x) (hlt : e < cnt) (hi : ¬ oz_inn site len p) (hph : p ≤ h) (hSR : oz_SR len ms (mv h) site tail og mv x S S') : oz_Stp (oz_Im R h len ms site tail og mv) w' h' (mv ms) og' E (mv p) S' e x := by
  obtain ⟨⟨c32, hc, hms, og0, ogm⟩, sOp, sT, sNR, sDe, sMain, sTm, sOg, sB, sLs⟩ := hSt
  have h32 : h ≤ 32 := by omega
  have h2 := hW.1
  have hh' := oz_hh hW hN
  have hmsn := oz_msni hW hms sB
  have hmp := oz_mono hM h (Nat.le_refl _) p hph
  obtain ⟨b1, b2, b3, b4⟩ := hDy.2.1 p S e x hR
  by_cases hs : site p
  · have F := oz_F2 hW hN h32 hs
    have hl := (hW.2.2.1 p hs).1
    by_cases t : tail
    · have hop := F.1 t
      refine ⟨by omega, fun z => by omega, fun z => by omega, fun _ => ⟨fun z => ?_, fun z => ?_⟩, fun z => by omega⟩
      · have hp := oz_mvms hM hph z hms
        obtain ⟨rfl, rfl⟩ := b4 hp
        rw [oz_SRn hSR, F.2.2, ← oz_mvsl hW hM hs, oz_ogn hO ogm (oz_sms hmsn hs hp) (oz_eni hW hs)]
        exact ⟨p, [], hDy.1 p _ (by omega), Or.inr (Or.inl ⟨t, p, 0, hs, by omega, rfl, rfl, trivial, fun _ => rfl⟩)⟩
      · have hp := oz_msmv hM hi z hms
        rw [F.2.2]
        exact ⟨p, S, hR, Or.inr (Or.inl ⟨t, p, 0, hs, by omega, rfl, rfl, hSR, fun y => by omega⟩)⟩
    · have hop := F.2.1 t
      refine ⟨by omega, fun z => ?_, fun z => by omega, fun z => by omega, fun z => by omega⟩
      rw [F.2.2]
      exact ⟨p, S, hR, Or.inr (Or.inr ⟨t, p, 0, S', hs, by omega, rfl, rfl, rfl, hSR⟩)⟩
  · obtain ⟨hp, q15, q16, q17, q14⟩ := hDy.2.2 p S e x hR hlt
    have F := oz_F1 hM hN h32 sT hp hi hs
    have e1 := (hM.2 p hp).2 hi
    have hsu := oz_suc hi hs
    refine ⟨by omega, fun z => ?_, fun z => ?_, fun z => ?_, fun z => ?_⟩
    · rw [F.1] at z
      have ha : oz_aim (w p / 256) := Or.inr (Or.inl z)
      rw [F.2.2.1 ha]
      have := sT p hp ha
      exact ⟨w p % 32, (p + 1) :: S, q15 z, Or.inl ⟨oz_tgt hW hp ha, by omega, rfl, Or.inl ⟨hsu, e1.symm⟩, hSR⟩⟩
    · rw [F.1] at z
      obtain ⟨q, S1, rfl, hR1⟩ := q16 z
      cases S' with
      | nil => exact hSR.elim
      | cons q' S1' => exact ⟨q', S1', rfl, oz_ret hR1 (hDy.2.1 _ _ _ _ hR1).1 hSR⟩
    · rw [F.1] at z
      have ha : oz_aim (w p / 256) := Or.inr (Or.inr z)
      rw [F.2.2.1 ha]
      have hth := sT p hp ha
      refine ⟨fun y => ?_, fun y => ?_⟩
      · have hpm := oz_mvms hM hph y hms
        obtain ⟨rfl, rfl⟩ := b4 hpm
        rw [oz_SRn hSR, ← e1, oz_ogn hO ogm (by omega) hsu]
        exact ⟨w p % 32, [], (q17 z).1 hpm, Or.inl ⟨oz_tgt hW hp ha, by omega, rfl, trivial⟩⟩
      · exact ⟨w p % 32, S, (q17 z).2 (oz_msmv hM hi y hms), Or.inl ⟨oz_tgt hW hp ha, by omega, rfl, hSR⟩⟩
    · rw [F.1] at z ⊢
      obtain ⟨g1, g2, g3, g4⟩ := q14 z
      refine ⟨?_, fun y => ?_, fun y => ?_, fun y yy => ?_⟩
      · rw [oz_SRl hSR]
        refine oz_EM1 g1 z F.2.1 F.2.2.1 F.2.2.2 fun k1 k2 => ?_
        have := sTm p hp k1 k2
        exact oz_ogn hO ogm (by omega) (oz_tgt hW hp (Or.inl ⟨k1, k2⟩))
      · have := g2 y
        subst this
        exact oz_SRn hSR
      · exact ⟨p + 1, S, g3 y, Or.inl ⟨hsu, by omega, e1.symm, hSR⟩⟩
      · exact g4 y (oz_msmv hM hi yy hms)
theorem oz_Dy3b (hSt : oz_St w h ms og cnt r) (hr : r ≤ 8) (hDy : oz_Dy R w h ms og E cnt r) (hW : oz_Win w h len f site tail) (hM : oz_Mv h len site mv) (hN : oz_New w h len f site tail mv w' h') {s j : Nat} {S S' : List Nat} {e x : Nat} (hR : R (s + j) S e x) (hlt : e < cnt) (t : tail) (hs : site s) (hj : j < len) (hSR : oz_SR len ms (mv h) site tail og mv x S S') (hx : s < ms → x = og (s + len)) : oz_Stp (oz_Im R h len ms site tail og mv) w' h' (mv ms) og' E (mv h + j) S' e x := by
  obtain ⟨⟨c32, hc, hms, og0, ogm⟩, sOp, sT, sNR, sDe, sMain, sTm, sOg, sB, sLs⟩ := hSt
  have h32 : h ≤ 32 := by omega
  have h2 := hW.1
  have hh' := oz_hh hW hN
  have hmsn := oz_msni hW hms sB
  have hmm := oz_mono hM h (Nat.le_refl _) ms hms
  have hl := (hW.2.2.1 s hs).1
  have ew := (hW.2.2.1 s hs).2.1 j hj
  have F := oz_F3 hW hM hN h32 sT sLs hr hj
  have hhe := hN.2.2.2.2.1 t
  obtain ⟨b1, b2, b3, b4⟩ := hDy.2.1 _ S e x hR
  obtain ⟨hp, q15, q16, q17, q14⟩ := hDy.2.2 _ S e x hR hlt
  have hft := oz_ftail hW j hj
  have hT := hW.2.2.2.2.1 t
  have hend : ¬ oz_int (w (f + j) / 256) → j + 1 = len := by
    intro z
    by_cases c : j + 1 < len
    · exact absurd (hT.2 j c) z
    · omega
  have hint : ¬ oz_end (w (f + j) / 256) → j + 1 < len := by
    intro z
    by_cases c : j + 1 < len
    · exact c
    · have := hT.1
      rw [show len - 1 = j from by omega] at this
      exact absurd this z
  rw [← ew] at F hft hend hint
  refine ⟨by omega, fun z => ?_, fun z => ?_, fun z => ?_, fun z => ?_⟩
  · rw [F.1] at z
    have ha : oz_aim (w (s + j) / 256) := Or.inr (Or.inl z)
    rw [F.2.2.1 ha]
    have := sT (s + j) hp ha
    have hj1 : j + 1 < len := hint (by rintro (k | k | k) <;> omega)
    exact ⟨w (s + j) % 32, (s + j + 1) :: S, q15 z, Or.inl ⟨oz_tgt hW hp ha, by omega, rfl, Or.inr ⟨t, s, j + 1, hs, hj1, rfl, rfl, hx⟩, hSR⟩⟩
  · rw [F.1] at z
    obtain ⟨q, S1, rfl, hR1⟩ := q16 z
    cases S' with
    | nil => exact hSR.elim
    | cons q' S1' => exact ⟨q', S1', rfl, oz_ret hR1 (hDy.2.1 _ _ _ _ hR1).1 hSR⟩
  · rw [F.1] at z
    have ha : oz_aim (w (s + j) / 256) := Or.inr (Or.inr z)
    rw [F.2.2.1 ha]
    have hth := sT _ hp ha
    have hj1 : j + 1 = len := hend (by rintro (k | k) <;> omega)
    refine ⟨fun y => by omega, fun y => ?_⟩
    by_cases c : s + j < ms
    · have k := (q17 z).1 c
      rw [show s + j + 1 = s + len from by omega, ← hx (by omega)] at k
      exact ⟨w (s + j) % 32, S, k, Or.inl ⟨oz_tgt hW hp ha, by omega, rfl, hSR⟩⟩
    · exact ⟨w (s + j) % 32, S, (q17 z).2 (by omega), Or.inl ⟨oz_tgt hW hp ha, by omega, rfl, hSR⟩⟩
  · rw [F.1] at z ⊢
    obtain ⟨g1, g2, g3, g4⟩ := q14 z
    have hna : ¬ oz_aim (w (s + j) / 256) := by
      rintro (k | k | k)
      · exact hft ⟨k.1, by omega⟩
      · omega
      · omega
    have hna' : ¬ oz_aim (w (f + j) / 256) := by rw [← ew]; exact hna
    have F4 := (oz_F3 hW hM hN h32 sT sLs hr hj).2.2.2.1 hna' (fun q => q.1 t)
    rw [← ew] at F4
    refine ⟨?_, fun y => ?_, fun y => ?_, fun y yy => ?_⟩
    · rw [oz_SRl hSR]
      exact oz_EM1 (mv := mv) g1 z F.2.1 (fun k => absurd k hna) (fun _ => F4) (fun k1 k2 => absurd (Or.inl ⟨k1, k2⟩) hna)
    · have := g2 y
      subst this
      exact oz_SRn hSR
    · have hj1 : j + 1 < len := hint (by rintro (k | k | k) <;> omega)
      exact ⟨s + j + 1, S, g3 y, Or.inr (Or.inl ⟨t, s, j + 1, hs, hj1, rfl, rfl, hSR, hx⟩)⟩
    · have hj1 : j + 1 = len := hend (by rintro (k | k) <;> omega)
      by_cases c : s < ms
      · have hsl := oz_sms hmsn hs c
        have hb := b4 (by omega)
        have ho := sOg (s + j) (by omega) z
        rw [show s + j + 1 = s + len from by omega, ← hx c] at ho
        omega
      · exact g4 y (by omega)
theorem oz_Dy3c (hSt : oz_St w h ms og cnt r) (hr : r ≤ 8) (hDy : oz_Dy R w h ms og E cnt r) (hW : oz_Win w h len f site tail) (hM : oz_Mv h len site mv) (hN : oz_New w h len f site tail mv w' h') {s j : Nat} {S S'' : List Nat} {e x : Nat} (hR : R (s + j) S e x) (hlt : e < cnt) (t : ¬ tail) (hs : site s) (hj : j ≤ len) (hSR : oz_SR len ms (mv h) site tail og mv x S S'') : oz_Stp (oz_Im R h len ms site tail og mv) w' h' (mv ms) og' E (mv h + j) ((mv s + 1) :: S'') e x := by
  obtain ⟨⟨c32, hc, hms, og0, ogm⟩, sOp, sT, sNR, sDe, sMain, sTm, sOg, sB, sLs⟩ := hSt
  have h32 : h ≤ 32 := by omega
  have h2 := hW.1
  have hl := (hW.2.2.1 s hs).1
  have hhe := hN.2.2.2.1 t
  by_cases c : j = len
  · subst c
    have hop : w' (mv h + j) / 256 = 16 := by rw [hhe.1]
    refine ⟨by omega, fun z => by omega, fun z => ?_, fun z => by omega, fun z => by omega⟩
    exact ⟨mv s + 1, S'', rfl, s + j, S, hR, Or.inl ⟨oz_eni hW hs, hl, (oz_mvsl hW hM hs).symm, hSR⟩⟩
  · have hj' : j < len := by omega
    have ew := (hW.2.2.1 s hs).2.1 j hj'
    have F := oz_F3 hW hM hN h32 sT sLs hr hj'
    have h7 := hW.2.2.2.2.2 t j hj'
    rw [← ew] at F h7
    obtain ⟨hp, q15, q16, q17, q14⟩ := hDy.2.2 _ S e x hR hlt
    obtain ⟨g1, g2, g3, g4⟩ := q14 (by omega)
    have hna : ¬ oz_aim (w (s + j) / 256) := by rintro (k | k | k) <;> omega
    refine ⟨by omega, fun z => by omega, fun z => by omega, fun z => by omega, fun z => ?_⟩
    refine ⟨?_, fun y => by omega, fun y => ?_, fun y yy => by omega⟩
    · rw [List.length_cons, oz_SRl hSR]
      exact oz_EM2 g1 h7 F.2.1 (fun k => F.2.2.2.2 t k) (fun k => F.2.2.2.1 hna (fun q => k q.2))
    · exact ⟨s + j + 1, S, g3 (by omega), Or.inr (Or.inr ⟨t, s, j + 1, S'', hs, by omega, rfl, rfl, rfl, hSR⟩)⟩
/-- rewriting keeps the ghost states -/
theorem oz_Dy_new (hSt : oz_St w h ms og cnt r) (hr : r ≤ 8) (hDy : oz_Dy R w h ms og E cnt r) (hW : oz_Win w h len f site tail) (hM : oz_Mv h len site mv) (hN : oz_New w h len f site tail mv w' h') (hO : oz_Og ms len site mv og og' cnt) : oz_Dy (oz_Im R h len ms site tail og mv) w' h' (mv ms) og' E cnt (r + 1) := by
  refine ⟨fun P y hP => oz_Dy1 hSt hDy hW hM hO P y hP, oz_Dy2 hSt hDy hW hM hN hO, ?_⟩
  rintro P S' e y ⟨p, S, hR, ⟨hi, hph, rfl, hSR⟩ | ⟨t, s, j, hs, hj, rfl, rfl, hSR, hx⟩ | ⟨t, s, j, S'', hs, hj, rfl, rfl, rfl, hSR⟩⟩ hlt
  · exact oz_Dy3a hSt hDy hW hM hN hO hR hlt hi hph hSR
  · exact oz_Dy3b hSt hr hDy hW hM hN hR hlt t hs hj hSR hx
  · exact oz_Dy3c hSt hr hDy hW hM hN hR hlt t hs hj hSR
/-- the plain form -/
theorem oz_plain {E : Nat → Nat} {cnt : Nat} (h32 : cnt ≤ 32) (hop : ∀ e, e < cnt → E e / 256 ≤ 14) (htg : ∀ e, e < cnt → 11 ≤ E e / 256 → E e / 256 ≤ 13 → E e % 32 < cnt) (hls : ∀ e, e < cnt → (E e / 256 = 5 ∨ E e / 256 = 6) → E e % 32 ≤ 7) :
    oz_St E cnt cnt (fun p => p) cnt 0 ∧ oz_Dy (fun p S e _ => p = e ∧ S = [] ∧ p ≤ cnt) E cnt cnt (fun p => p) E cnt 0 := by
  refine ⟨⟨⟨h32, Nat.le_refl _, Nat.le_refl _, rfl, rfl⟩, fun p hp => ?_, fun p hp ha => ?_, fun p hp ha => ?_, fun p hp => ?_, fun p hp _ _ => hp, fun p hp a b => htg p hp a b, fun p _ _ => rfl, fun z => absurd z (Nat.lt_irrefl _), fun p hp z => ?_⟩, fun p x hp => ⟨rfl, rfl, hp⟩, ?_, ?_⟩
  · have := hop p hp; omega
  · have := hop p hp
    rcases ha with a | a | a
    · exact htg p hp a.1 a.2
    · omega
    · omega
  · have := hop p hp
    rcases ha with a | a <;> omega
  · have := hop p hp
    show ¬ oz_hid _
    rintro (a | a) <;> omega
  · have := hls p hp z; omega
  · rintro p S e x ⟨rfl, rfl, hp⟩
    exact ⟨hp, hp, Nat.le_refl _, fun _ => ⟨rfl, rfl⟩⟩
  · rintro p S e x ⟨rfl, rfl, hp⟩ hlt
    have h1 := hop p hlt
    refine ⟨hlt, fun z => by omega, fun z => by omega, fun z => by omega, fun _ => ⟨⟨rfl, fun _ _ => rfl, fun _ => rfl, fun _ _ => rfl⟩, fun _ => rfl, fun _ => ⟨rfl, rfl, hlt⟩, fun _ z => by omega⟩⟩
end
end
section
/-- a bound of the hidden hops ahead -/
def oz_M (w : Nat → Nat) (m p : Nat) (S : List Nat) : Prop := (w p / 256 = 16 ∧ S.length + 9 < m) ∨ (¬ w p / 256 = 16 ∧ ∃ n, n < m ∧ oz_De w n p)
section
variable {w og E : Nat → Nat} {h ms cnt r p m : Nat} {S : List Nat} {R : Nat → List Nat → Nat → Nat → Prop}
theorem oz_M18 (hSt : oz_St w h ms og cnt r) (hr : r ≤ 8) (hp : p < h) (hS : S.length ≤ r) : oz_M w 18 p S := by
  by_cases c : w p / 256 = 16
  · exact Or.inl ⟨c, by omega⟩
  · exact Or.inr ⟨c, r, by omega, hSt.2.2.2.2.1 p hp⟩
theorem oz_M1 (hSt : oz_St w h ms og cnt r) (hp : p < h) (hh : oz_hid (w p / 256)) (hM : oz_M w (m + 1) p S) (S2 : List Nat) : oz_M w m (w p % 32) S2 := by
  rcases hM with ⟨a, _⟩ | ⟨_, n, hn, hd⟩
  · rcases hh with b | b <;> omega
  · cases n with
    | zero => exact absurd hh hd
    | succ k => exact Or.inr ⟨hSt.2.2.2.1 p hp hh, k, by omega, hd hh⟩
theorem oz_M2 {q : Nat} (hSt : oz_St w h ms og cnt r) (hr : r ≤ 8) (hq : q < h) (h16 : w p / 256 = 16) (hM : oz_M w (m + 1) p (q :: S)) : oz_M w m q S := by
  rcases hM with ⟨_, b⟩ | ⟨a, _⟩
  · rw [List.length_cons] at b
    by_cases c : w q / 256 = 16
    · exact Or.inl ⟨c, by omega⟩
    · exact Or.inr ⟨c, r, by omega, hSt.2.2.2.2.1 q hq⟩
  · exact absurd h16 a
theorem oz_M0 (hM : oz_M w 0 p S) : False := by
  rcases hM with ⟨_, b⟩ | ⟨_, n, b, _⟩ <;> omega
end
end
section
/-! suffixes by their head numbers, base 8192; a place beyond the end counts 0 -/
def oz_dg (w : Nat → Nat) (h p : Nat) : Nat := if p < h then w p + 1 else 0
def oz_P (w : Nat → Nat) (h : Nat) : Nat → Nat → Nat
  | 0, _ => 0
  | n + 1, x => oz_P w h n x * 8192 + oz_dg w h (x + n)
def oz_LC (w : Nat → Nat) (h x y n : Nat) : Prop := x + n ≤ h ∧ y + n ≤ h ∧ (∀ i, i < n → w (x + i) = w (y + i)) ∧ (x + n = h ∨ y + n = h ∨ ¬ w (x + n) = w (y + n))
section
variable {w : Nat → Nat} {h : Nat}
theorem oz_dgi {p : Nat} (hp : p < h) : oz_dg w h p = w p + 1 := by unfold oz_dg; rw [if_pos hp]
theorem oz_dgo {p : Nat} (hp : h ≤ p) : oz_dg w h p = 0 := by unfold oz_dg; rw [if_neg (by omega)]
theorem oz_dgl (hw : ∀ p, p < h → w p / 256 < 18) (p : Nat) : oz_dg w h p < 8192 := by
  by_cases c : p < h
  · rw [oz_dgi c]; have := hw p c; omega
  · rw [oz_dgo (by omega)]; omega
theorem oz_Ple (hw : ∀ p, p < h → w p / 256 < 18) {n x y : Nat} (hh : oz_P w h (n + 1) x ≤ oz_P w h (n + 1) y) : oz_P w h n x ≤ oz_P w h n y := by
  have a := oz_dgl hw (x + n)
  have b := oz_dgl hw (y + n)
  unfold oz_P at hh
  omega
theorem oz_PleD (hw : ∀ p, p < h → w p / 256 < 18) {n x y : Nat} : ∀ k, oz_P w h (n + k) x ≤ oz_P w h (n + k) y → oz_P w h n x ≤ oz_P w h n y := by
  intro k
  induction k with
  | zero => exact id
  | succ k ih => intro hh; exact ih (oz_Ple hw hh)
theorem oz_PeqS (hw : ∀ p, p < h → w p / 256 < 18) {n x y : Nat} (hh : oz_P w h (n + 1) x = oz_P w h (n + 1) y) : oz_P w h n x = oz_P w h n y ∧ oz_dg w h (x + n) = oz_dg w h (y + n) := by
  have a := oz_dgl hw (x + n)
  have b := oz_dgl hw (y + n)
  unfold oz_P at hh
  omega
theorem oz_Peq (hw : ∀ p, p < h → w p / 256 < 18) {x y : Nat} : ∀ n, oz_P w h n x = oz_P w h n y → ∀ i, i < n → oz_dg w h (x + i) = oz_dg w h (y + i) := by
  intro n
  induction n with
  | zero => intro _ i hi; omega
  | succ n ih =>
    intro hh i hi
    have a := oz_PeqS hw hh
    by_cases c : i = n
    · rw [c]; exact a.2
    · exact ih a.1 i (by omega)
theorem oz_Peq' {x y : Nat} : ∀ n, (∀ i, i < n → oz_dg w h (x + i) = oz_dg w h (y + i)) → oz_P w h n x = oz_P w h n y := by
  intro n
  induction n with
  | zero => intro _; rfl
  | succ n ih =>
    intro hh
    unfold oz_P
    rw [ih (fun i hi => hh i (by omega)), hh n (by omega)]
theorem oz_Plt (hw : ∀ p, p < h → w p / 256 < 18) {x y k : Nat} (h1 : ∀ i, i < k → oz_dg w h (x + i) = oz_dg w h (y + i)) (h2 : oz_dg w h (x + k) < oz_dg w h (y + k)) : ∀ m, oz_P w h (k + 1 + m) x < oz_P w h (k + 1 + m) y := by
  intro m
  induction m with
  | zero =>
    show oz_P w h k x * 8192 + oz_dg w h (x + k) < oz_P w h k y * 8192 + oz_dg w h (y + k)
    rw [oz_Peq' k h1]
    omega
  | succ m ih =>
    have a := oz_dgl hw (x + (k + 1 + m))
    show oz_P w h (k + 1 + m) x * 8192 + oz_dg w h (x + (k + 1 + m)) < oz_P w h (k + 1 + m) y * 8192 + oz_dg w h (y + (k + 1 + m))
    omega
theorem oz_Plt40 (hw : ∀ p, p < h → w p / 256 < 18) {x y k : Nat} (hk : k < 40) (h1 : ∀ i, i < k → oz_dg w h (x + i) = oz_dg w h (y + i)) (h2 : oz_dg w h (x + k) < oz_dg w h (y + k)) : oz_P w h 40 x < oz_P w h 40 y := by
  have := oz_Plt hw h1 h2 (39 - k)
  rw [show k + 1 + (39 - k) = 40 from by omega] at this
  exact this
theorem oz_LCd {x y n : Nat} (hL : oz_LC w h x y n) : ∀ i, i < n → oz_dg w h (x + i) = oz_dg w h (y + i) := by
  intro i hi
  rw [oz_dgi (by have := hL.1; omega), oz_dgi (by have := hL.2.1; omega), hL.2.2.1 i hi]
theorem oz_prec (hw : ∀ p, p < h → w p / 256 < 18) (h32 : h ≤ 32) {x y n : Nat} (hL : oz_LC w h x y n) (hne : x ≠ y) :
    (h ≤ x + n → oz_P w h 40 x < oz_P w h 40 y) ∧ (x + n < h → h ≤ y + n → oz_P w h 40 y < oz_P w h 40 x) ∧
    (x + n < h → y + n < h → (w (x + n) < w (y + n) → oz_P w h 40 x < oz_P w h 40 y) ∧ (¬ w (x + n) < w (y + n) → oz_P w h 40 y < oz_P w h 40 x)) := by
  have hd := oz_LCd hL
  have hd' : ∀ i, i < n → oz_dg w h (y + i) = oz_dg w h (x + i) := fun i hi => (hd i hi).symm
  obtain ⟨a, b, c, d⟩ := hL
  refine ⟨fun z => ?_, fun z1 z2 => ?_, fun z1 z2 => ⟨fun z => ?_, fun z => ?_⟩⟩
  · refine oz_Plt40 hw (by omega) hd ?_
    rw [oz_dgo z, oz_dgi (by omega)]; omega
  · refine oz_Plt40 hw (by omega) hd' ?_
    rw [oz_dgo z2, oz_dgi (by omega)]; omega
  · refine oz_Plt40 hw (by omega) hd ?_
    rw [oz_dgi z1, oz_dgi z2]; omega
  · refine oz_Plt40 hw (by omega) hd' ?_
    rw [oz_dgi z1, oz_dgi z2]
    rcases d with d | d | d <;> omega
theorem oz_LCP (hw : ∀ p, p < h → w p / 256 < 18) {x y n : Nat} (hL : oz_LC w h x y n) (hne : x ≠ y) (len : Nat) : len ≤ n ↔ oz_P w h len x = oz_P w h len y := by
  have hd := oz_LCd hL
  obtain ⟨a, b, c, d⟩ := hL
  refine ⟨fun z => oz_Peq' len fun i hi => hd i (by omega), fun z => ?_⟩
  by_cases g : len ≤ n
  · exact g
  · exfalso
    have e := oz_Peq hw len z n (by omega)
    by_cases k1 : x + n < h
    · by_cases k2 : y + n < h
      · rw [oz_dgi k1, oz_dgi k2] at e
        rcases d with d | d | d <;> omega
      · rw [oz_dgi k1, oz_dgo (by omega)] at e; omega
    · by_cases k2 : y + n < h
      · rw [oz_dgo (by omega), oz_dgi k2] at e; omega
      · omega
/-- equal head numbers, one window inside: the same words, both inside -/
theorem oz_Pw (hw : ∀ p, p < h → w p / 256 < 18) {x y len : Nat} (hx : x + len ≤ h) (e : oz_P w h len x = oz_P w h len y) : ∀ i, i < len → y + i < h ∧ w (y + i) = w (x + i) := by
  intro i hi
  have a := oz_Peq hw len e i hi
  rw [oz_dgi (by omega)] at a
  by_cases c : y + i < h
  · rw [oz_dgi c] at a
    exact ⟨c, by omega⟩
  · rw [oz_dgo (by omega)] at a; omega
theorem oz_Pw' {x y len : Nat} (hx : x + len ≤ h) (hy : y + len ≤ h) (e : ∀ i, i < len → w (y + i) = w (x + i)) : oz_P w h len y = oz_P w h len x := by
  refine oz_Peq' len fun i hi => ?_
  rw [oz_dgi (by omega), oz_dgi (by omega), e i hi]
end
/-- sorted by strictly rising keys, a permutation -/
def oz_Srt (key : Nat → Nat) (n : Nat) (od : Nat → Nat) : Prop := (∀ i j, i < j → j < n → key (od i) < key (od j)) ∧ (∀ i, i < n → od i < n) ∧ (∀ p, p < n → ∃ i, i < n ∧ od i = p)
def oz_ins (od : Nat → Nat) (j i : Nat) : Nat → Nat := fun k => if k < j then od k else if k = j then i else od (k - 1)
theorem oz_ins_srt {key od : Nat → Nat} {i j : Nat} (hs : oz_Srt key i od) (hj : j ≤ i) (h1 : ∀ k, j ≤ k → k < i → key i < key (od k)) (h2 : 0 < j → key (od (j - 1)) < key i) : oz_Srt key (i + 1) (oz_ins od j i) := by
  obtain ⟨a, b, c⟩ := hs
  have hlt : ∀ k, k < j → key (od k) < key i := by
    intro k hk
    by_cases e : k = j - 1
    · rw [e]; exact h2 (by omega)
    · have := a k (j - 1) (by omega) (by omega)
      have := h2 (by omega)
      omega
  refine ⟨?_, ?_, ?_⟩
  · intro k l hkl hl
    unfold oz_ins
    by_cases k1 : k < j
    · rw [if_pos k1]
      by_cases l1 : l < j
      · rw [if_pos l1]; exact a k l hkl (by omega)
      · rw [if_neg l1]
        by_cases l2 : l = j
        · rw [if_pos l2]; exact hlt k k1
        · rw [if_neg l2]; exact a k (l - 1) (by omega) (by omega)
    · rw [if_neg k1, if_neg (show ¬ l < j by omega), if_neg (show ¬ l = j by omega)]
      by_cases k2 : k = j
      · rw [if_pos k2]; exact h1 (l - 1) (by omega) (by omega)
      · rw [if_neg k2]; exact a (k - 1) (l - 1) (by omega) (by omega)
  · intro k hk
    unfold oz_ins
    by_cases k1 : k < j
    · rw [if_pos k1]; have := b k (by omega); omega
    · rw [if_neg k1]
      by_cases k2 : k = j
      · rw [if_pos k2]; omega
      · rw [if_neg k2]; have := b (k - 1) (by omega); omega
  · intro p hp
    by_cases e : p = i
    · refine ⟨j, by omega, ?_⟩
      unfold oz_ins
      rw [if_neg (by omega), if_pos rfl, e]
    · obtain ⟨k, hk, ek⟩ := c p (by omega)
      by_cases k1 : k < j
      · refine ⟨k, by omega, ?_⟩
        unfold oz_ins
        rw [if_pos k1, ek]
      · refine ⟨k + 1, by omega, ?_⟩
        unfold oz_ins
        rw [if_neg (by omega), if_neg (by omega)]
        exact ek
theorem oz_Srt_inj {key od : Nat → Nat} {n i j : Nat} (hs : oz_Srt key n od) (hi : i < n) (hj : j < n) (e : od i = od j) : i = j := by
  by_cases a : i < j
  · have := hs.1 i j a hj; rw [e] at this; omega
  · by_cases b : j < i
    · have := hs.1 j i b hi; rw [e] at this; omega
    · omega
end
section
/-! the leftmost disjoint choice among candidates C: (chosen, free) ahead of p -/
noncomputable def oz_gr (C : Nat → Prop) (len : Nat) : Nat → Nat × Nat
  | 0 => (0, 0)
  | p + 1 => @ite _ (C p ∧ (oz_gr C len p).2 ≤ p) (Classical.propDecidable _) ((oz_gr C len p).1 + 1, p + len) (oz_gr C len p)
def oz_site (C : Nat → Prop) (len p : Nat) : Prop := C p ∧ (oz_gr C len p).2 ≤ p
section
variable {C : Nat → Prop} {len : Nat}
theorem oz_grt {p : Nat} (hs : oz_site C len p) : oz_gr C len (p + 1) = ((oz_gr C len p).1 + 1, p + len) := if_pos hs
theorem oz_grf {p : Nat} (hs : ¬ oz_site C len p) : oz_gr C len (p + 1) = oz_gr C len p := if_neg hs
theorem oz_grm1 (p : Nat) (hl : 0 < len) : (oz_gr C len p).2 ≤ (oz_gr C len (p + 1)).2 := by
  by_cases c : oz_site C len p
  · rw [oz_grt c]; have := c.2; show _ ≤ p + len; omega
  · rw [oz_grf c]; exact Nat.le_refl _
theorem oz_grm (hl : 0 < len) (p : Nat) : ∀ k, (oz_gr C len p).2 ≤ (oz_gr C len (p + k)).2 := by
  intro k
  induction k with
  | zero => exact Nat.le_refl _
  | succ k ih => exact Nat.le_trans ih (oz_grm1 _ hl)
theorem oz_grs (hl : 0 < len) {s p : Nat} (hs : oz_site C len s) (hp : s < p) : s + len ≤ (oz_gr C len p).2 := by
  have := oz_grm (C := C) hl (s + 1) (p - (s + 1))
  rw [show s + 1 + (p - (s + 1)) = p from by omega, oz_grt hs] at this
  exact this
theorem oz_grd (hl : 0 < len) {s t : Nat} (hs : oz_site C len s) (ht : oz_site C len t) (hst : s < t) : s + len ≤ t := by
  have := oz_grs hl hs hst
  have := ht.2
  omega
theorem oz_gre : ∀ p, (oz_gr C len p).2 = 0 ∨ ∃ s, s < p ∧ oz_site C len s ∧ (oz_gr C len p).2 = s + len := by
  intro p
  induction p with
  | zero => exact Or.inl rfl
  | succ p ih =>
    by_cases c : oz_site C len p
    · exact Or.inr ⟨p, by omega, c, by rw [oz_grt c]⟩
    · rw [oz_grf c]
      rcases ih with a | ⟨s, a, b, d⟩
      · exact Or.inl a
      · exact Or.inr ⟨s, by omega, b, d⟩
theorem oz_grin (hl : 0 < len) (p : Nat) : (p < (oz_gr C len (p + 1)).2 ∧ ¬ oz_site C len p) ↔ oz_inn (oz_site C len) len p := by
  constructor
  · rintro ⟨a, b⟩
    rw [oz_grf b] at a
    rcases oz_gre (C := C) (len := len) p with c | ⟨s, c, d, e⟩
    · omega
    · exact ⟨s, d, c, by omega⟩
  · rintro ⟨s, hs, a, b⟩
    have c := oz_grs hl hs a
    have hn : ¬ oz_site C len p := fun z => by have := z.2; omega
    exact ⟨by rw [oz_grf hn]; omega, hn⟩
theorem oz_gr0 {f : Nat} (hn : ∀ s, s < f → ¬ C s) : ∀ p, p ≤ f → oz_gr C len p = (0, 0) := by
  intro p
  induction p with
  | zero => intro _; rfl
  | succ p ih =>
    intro hp
    rw [oz_grf (fun z => hn p (by omega) z.1)]
    exact ih (by omega)
theorem oz_grf0 {f : Nat} (hf : C f) (hn : ∀ s, s < f → ¬ C s) : oz_site C len f := by
  refine ⟨hf, ?_⟩
  rw [oz_gr0 hn f (Nat.le_refl _)]
  exact Nat.zero_le _
theorem oz_gr1 : ∀ p, 0 < (oz_gr C len p).1 → ∃ s, s < p ∧ oz_site C len s := by
  intro p
  induction p with
  | zero => intro h; exact absurd h (by show ¬ 0 < 0; omega)
  | succ p ih =>
    intro h
    by_cases c : oz_site C len p
    · exact ⟨p, by omega, c⟩
    · rw [oz_grf c] at h
      obtain ⟨s, a, b⟩ := ih h
      exact ⟨s, by omega, b⟩
theorem oz_gr2 : ∀ p, 1 < (oz_gr C len p).1 → ∃ s t, s < t ∧ t < p ∧ oz_site C len s ∧ oz_site C len t := by
  intro p
  induction p with
  | zero => intro h; exact absurd h (by show ¬ 1 < 0; omega)
  | succ p ih =>
    intro h
    by_cases c : oz_site C len p
    · rw [oz_grt c] at h
      have h' : 0 < (oz_gr C len p).1 := by
        have : 1 < (oz_gr C len p).1 + 1 := h
        omega
      obtain ⟨s, a, b⟩ := oz_gr1 p h'
      exact ⟨s, p, a, by omega, b, c⟩
    · rw [oz_grf c] at h
      obtain ⟨s, t, a, b, d, e⟩ := ih h
      exact ⟨s, t, a, by omega, d, e⟩
theorem oz_grc : ∀ p, (∀ s, s < p → oz_site C len s → s + len ≤ s + len) → (oz_gr C len p).1 ≤ p := by
  intro p
  induction p with
  | zero => intro _; exact Nat.le_refl _
  | succ p ih =>
    intro h
    have := ih (fun _ _ _ => Nat.le_refl _)
    by_cases c : oz_site C len p
    · rw [oz_grt c]; show (oz_gr C len p).1 + 1 ≤ p + 1; omega
    · rw [oz_grf c]; omega
theorem oz_grle (p : Nat) : (oz_gr C len p).1 ≤ p := oz_grc p (fun _ _ _ => Nat.le_refl _)
theorem oz_grfree {h : Nat} (hC : ∀ p, C p → p + len ≤ h) (p : Nat) : (oz_gr C len p).2 ≤ h := by
  rcases oz_gre (C := C) (len := len) p with c | ⟨s, c, d, e⟩
  · omega
  · have := hC s d.1; omega
/-- the count and the new length -/
theorem oz_grmv {h : Nat} {mv : Nat → Nat} (hl : 0 < len) (hM : oz_Mv h len (oz_site C len) mv) : ∀ p, p ≤ h → (p ≤ (oz_gr C len p).2 → mv p + (oz_gr C len p).1 * (len - 1) = (oz_gr C len p).2) ∧ ((oz_gr C len p).2 ≤ p → mv p + (oz_gr C len p).1 * (len - 1) = p) := by
  intro p
  induction p with
  | zero =>
    intro _
    rw [hM.1]
    have : oz_gr C len 0 = (0, 0) := rfl
    rw [this]
    exact ⟨fun _ => by simp, fun _ => by simp⟩
  | succ p ih =>
    intro hp
    obtain ⟨a, b⟩ := ih (by omega)
    by_cases c : oz_site C len p
    · have hi : ¬ oz_inn (oz_site C len) len p := fun z => ((oz_grin hl p).2 z).2 c
      have e := (hM.2 p (by omega)).2 hi
      have d := b c.2
      rw [oz_grt c, e]
      show (p + 1 ≤ p + len → mv p + 1 + ((oz_gr C len p).1 + 1) * (len - 1) = p + len) ∧ (p + len ≤ p + 1 → mv p + 1 + ((oz_gr C len p).1 + 1) * (len - 1) = p + 1)
      rw [Nat.add_mul, Nat.one_mul]
      generalize (oz_gr C len p).1 * (len - 1) = z at d
      exact ⟨fun _ => by omega, fun _ => by omega⟩
    · rw [oz_grf c]
      by_cases g : p < (oz_gr C len p).2
      · have hi : oz_inn (oz_site C len) len p := (oz_grin hl p).1 ⟨by rw [oz_grf c]; exact g, c⟩
        have e := (hM.2 p (by omega)).1 hi
        have d := a (by omega)
        rw [e]
        exact ⟨fun _ => d, fun _ => by omega⟩
      · have hi : ¬ oz_inn (oz_site C len) len p := fun z => by
          have := ((oz_grin hl p).2 z).1
          rw [oz_grf c] at this
          exact g this
        have e := (hM.2 p (by omega)).2 hi
        have d := b (by omega)
        rw [e]
        exact ⟨fun _ => by omega, fun _ => by omega⟩
end
theorem oz_gr_ext {C C' : Nat → Prop} {len : Nat} (e : ∀ p, C p ↔ C' p) : ∀ p, oz_gr C len p = oz_gr C' len p := by
  have : C = C' := funext fun p => propext (e p)
  intro p
  rw [this]
/-- places that are no candidates change nothing -/
theorem oz_gr_end {C : Nat → Prop} {len : Nat} (p : Nat) : ∀ k, (∀ q, p ≤ q → q < p + k → ¬ C q) → oz_gr C len (p + k) = oz_gr C len p := by
  intro k
  induction k with
  | zero => intro _; rfl
  | succ k ih =>
    intro hn
    have : oz_gr C len (p + k + 1) = oz_gr C len (p + k) := oz_grf fun z => hn (p + k) (by omega) (by omega) z.1
    rw [show p + (k + 1) = p + k + 1 from rfl, this]
    exact ih fun q a b => hn q a (by omega)
end
section
/-- the windows that may be outlined -/
def oz_EL (w : Nat → Nat) (h p len : Nat) : Prop := 2 ≤ len ∧ p + len ≤ h ∧ (∀ i, 0 < i → i < len → ¬ oz_tg w h (p + i)) ∧
  ((∀ i, i < len → w (p + i) / 256 ≤ 7) ∨ (oz_end (w (p + (len - 1)) / 256) ∧ ∀ i, i + 1 < len → oz_int (w (p + i) / 256)))
def oz_PL (w : Nat → Nat) (h : Nat) (pl : Nat → Nat) : Prop := pl h = 0 ∧ ∀ p, p < h → (7 < w p / 256 → pl p = 0) ∧ (w p / 256 ≤ 7 → (oz_tg w h (p + 1) → pl p = 1) ∧ (¬ oz_tg w h (p + 1) → pl p = pl (p + 1) + 1))
def oz_TL (w : Nat → Nat) (h : Nat) (tl : Nat → Nat) : Prop := tl h = 0 ∧ ∀ p, p < h → (oz_end (w p / 256) → tl p = 1) ∧
  (¬ oz_end (w p / 256) → (oz_int (w p / 256) ∧ ¬ oz_tg w h (p + 1) ∧ 0 < tl (p + 1) → tl p = tl (p + 1) + 1) ∧ (¬ (oz_int (w p / 256) ∧ ¬ oz_tg w h (p + 1) ∧ 0 < tl (p + 1)) → tl p = 0))
section
variable {w pl tl : Nat → Nat} {h : Nat}
theorem oz_PLi (hp : oz_PL w h pl) : ∀ d p, p + d = h → ∀ len, 0 < len → (len ≤ pl p ↔ p + len ≤ h ∧ (∀ i, i < len → w (p + i) / 256 ≤ 7) ∧ (∀ i, 0 < i → i < len → ¬ oz_tg w h (p + i))) := by
  intro d
  induction d with
  | zero =>
    intro p hd len hl
    rw [show p = h from by omega, hp.1]
    exact ⟨fun z => by omega, fun z => by have := z.1; omega⟩
  | succ d ih =>
    intro p hd len hl
    obtain ⟨a, b⟩ := hp.2 p (by omega)
    by_cases c : 7 < w p / 256
    · rw [a c]
      refine ⟨fun z => by omega, fun z => ?_⟩
      have := z.2.1 0 hl
      rw [Nat.add_zero] at this
      omega
    · obtain ⟨b1, b2⟩ := b (by omega)
      by_cases t : oz_tg w h (p + 1)
      · rw [b1 t]
        refine ⟨fun z => ?_, fun z => ?_⟩
        · have : len = 1 := by omega
          subst this
          refine ⟨by omega, fun i hi => ?_, fun i h1 h2 => by omega⟩
          rw [show i = 0 from by omega, Nat.add_zero]
          omega
        · by_cases g : len ≤ 1
          · exact g
          · exact absurd t (z.2.2 1 (by omega) (by omega))
      · rw [b2 t]
        by_cases g : len = 1
        · subst g
          refine ⟨fun z => ⟨by omega, fun i hi => ?_, fun i h1 h2 => by omega⟩, fun z => by omega⟩
          rw [show i = 0 from by omega, Nat.add_zero]
          omega
        · have k := ih (p + 1) (by omega) (len - 1) (by omega)
          constructor
          · intro z
            obtain ⟨k1, k2, k3⟩ := k.1 (by omega)
            refine ⟨by omega, fun i hi => ?_, fun i h1 h2 => ?_⟩
            · by_cases i0 : i = 0
              · rw [i0, Nat.add_zero]; omega
              · have := k2 (i - 1) (by omega)
                rw [show p + 1 + (i - 1) = p + i from by omega] at this
                exact this
            · by_cases i1 : i = 1
              · rw [i1]; exact t
              · have := k3 (i - 1) (by omega) (by omega)
                rw [show p + 1 + (i - 1) = p + i from by omega] at this
                exact this
          · rintro ⟨z1, z2, z3⟩
            have := k.2 ⟨by omega, fun i hi => ?_, fun i h1 h2 => ?_⟩
            · omega
            · have := z2 (i + 1) (by omega)
              rw [show p + (i + 1) = p + 1 + i from by omega] at this
              exact this
            · have := z3 (i + 1) (by omega) (by omega)
              rw [show p + (i + 1) = p + 1 + i from by omega] at this
              exact this
theorem oz_TLi (hp : oz_TL w h tl) : ∀ d p, p + d = h → ∀ len, 0 < len → (len = tl p ↔ p + len ≤ h ∧ oz_end (w (p + (len - 1)) / 256) ∧ (∀ i, i + 1 < len → oz_int (w (p + i) / 256)) ∧ (∀ i, 0 < i → i < len → ¬ oz_tg w h (p + i))) := by
  intro d
  induction d with
  | zero =>
    intro p hd len hl
    rw [show p = h from by omega, hp.1]
    exact ⟨fun z => by omega, fun z => by have := z.1; omega⟩
  | succ d ih =>
    intro p hd len hl
    obtain ⟨a, b⟩ := hp.2 p (by omega)
    by_cases c : oz_end (w p / 256)
    · rw [a c]
      constructor
      · intro z
        subst z
        exact ⟨by omega, c, fun i hi => by omega, fun i h1 h2 => by omega⟩
      · rintro ⟨z1, z2, z3, z4⟩
        by_cases g : len = 1
        · exact g
        · have := z3 0 (by omega)
          rw [Nat.add_zero] at this
          rcases this with k | k <;> rcases c with c | c | c <;> omega
    · obtain ⟨b1, b2⟩ := b c
      by_cases t : oz_int (w p / 256) ∧ ¬ oz_tg w h (p + 1) ∧ 0 < tl (p + 1)
      · rw [b1 t]
        by_cases g : len = 1
        · subst g
          refine ⟨fun z => by have := t.2.2; omega, fun z => absurd z.2.1 c⟩
        · have k := ih (p + 1) (by omega) (len - 1) (by omega)
          constructor
          · intro z
            obtain ⟨k1, k2, k3, k4⟩ := k.1 (by omega)
            refine ⟨by omega, ?_, fun i hi => ?_, fun i h1 h2 => ?_⟩
            · rw [show p + 1 + (len - 1 - 1) = p + (len - 1) from by omega] at k2
              exact k2
            · by_cases i0 : i = 0
              · rw [i0, Nat.add_zero]; exact t.1
              · have := k3 (i - 1) (by omega)
                rw [show p + 1 + (i - 1) = p + i from by omega] at this
                exact this
            · by_cases i1 : i = 1
              · rw [i1]; exact t.2.1
              · have := k4 (i - 1) (by omega) (by omega)
                rw [show p + 1 + (i - 1) = p + i from by omega] at this
                exact this
          · rintro ⟨z1, z2, z3, z4⟩
            have := k.2 ⟨by omega, ?_, fun i hi => ?_, fun i h1 h2 => ?_⟩
            · omega
            · rw [show p + 1 + (len - 1 - 1) = p + (len - 1) from by omega]
              exact z2
            · have := z3 (i + 1) (by omega)
              rw [show p + (i + 1) = p + 1 + i from by omega] at this
              exact this
            · have := z4 (i + 1) (by omega) (by omega)
              rw [show p + (i + 1) = p + 1 + i from by omega] at this
              exact this
      · rw [b2 t]
        refine ⟨fun z => by omega, ?_⟩
        rintro ⟨z1, z2, z3, z4⟩
        exfalso
        by_cases g : len = 1
        · subst g; exact c z2
        · have k := ih (p + 1) (by omega) (len - 1) (by omega)
          have t1 := z3 0 (by omega)
          rw [Nat.add_zero] at t1
          have t2 := z4 1 (by omega) (by omega)
          have := k.2 ⟨by omega, ?_, fun i hi => ?_, fun i h1 h2 => ?_⟩
          · exact t ⟨t1, t2, by omega⟩
          · rw [show p + 1 + (len - 1 - 1) = p + (len - 1) from by omega]
            exact z2
          · have := z3 (i + 1) (by omega)
            rw [show p + (i + 1) = p + 1 + i from by omega] at this
            exact this
          · have := z4 (i + 1) (by omega) (by omega)
            rw [show p + (i + 1) = p + 1 + i from by omega] at this
            exact this
theorem oz_ELi (h1 : oz_PL w h pl) (h2 : oz_TL w h tl) {p len : Nat} (hp : p < h) (hl : 2 ≤ len) (hh : len ≤ h - p) : (len ≤ pl p ∨ len = tl p) ↔ oz_EL w h p len := by
  rw [oz_PLi h1 (h - p) p (by omega) len (by omega), oz_TLi h2 (h - p) p (by omega) len (by omega)]
  constructor
  · rintro (⟨a, b, c⟩ | ⟨a, b, c, d⟩)
    · exact ⟨hl, a, c, Or.inl b⟩
    · exact ⟨hl, a, d, Or.inr ⟨b, c⟩⟩
  · rintro ⟨a, b, c, d | d⟩
    · exact Or.inl ⟨b, d, c⟩
    · exact Or.inr ⟨b, d.1, d.2, c⟩
/-- small sizes -/
theorem oz_PLb (hp : oz_PL w h pl) : ∀ d p, p + d = h → pl p ≤ d := by
  intro d
  induction d with
  | zero => intro p hd; rw [show p = h from by omega, hp.1]; exact Nat.le_refl _
  | succ d ih =>
    intro p hd
    obtain ⟨a, b⟩ := hp.2 p (by omega)
    have := ih (p + 1) (by omega)
    by_cases c : 7 < w p / 256
    · rw [a c]; omega
    · by_cases t : oz_tg w h (p + 1)
      · rw [(b (by omega)).1 t]; omega
      · rw [(b (by omega)).2 t]; omega
theorem oz_TLb (hp : oz_TL w h tl) : ∀ d p, p + d = h → tl p ≤ d := by
  intro d
  induction d with
  | zero => intro p hd; rw [show p = h from by omega, hp.1]; exact Nat.le_refl _
  | succ d ih =>
    intro p hd
    obtain ⟨a, b⟩ := hp.2 p (by omega)
    have := ih (p + 1) (by omega)
    by_cases c : oz_end (w p / 256)
    · rw [a c]; omega
    · by_cases t : oz_int (w p / 256) ∧ ¬ oz_tg w h (p + 1) ∧ 0 < tl (p + 1)
      · rw [(b c).1 t]; omega
      · rw [(b c).2 t]; omega
end
end
section
/-! the best window -/
def oz_C (w : Nat → Nat) (h len v p : Nat) : Prop := oz_EL w h p len ∧ oz_P w h len p = v
noncomputable def oz_K (w : Nat → Nat) (h s len : Nat) : Nat := (oz_gr (oz_C w h len (oz_P w h len s)) len h).1
def oz_co (w : Nat → Nat) (s len : Nat) : Nat := if oz_end (w (s + (len - 1)) / 256) then len else len + 1
noncomputable def oz_V (w : Nat → Nat) (h s len : Nat) : Int := (oz_K w h s len : Int) * ((len : Int) - 1) - (oz_co w s len : Int)
def oz_Bst (w : Nat → Nat) (h : Nat) (Q : Nat → Nat → Prop) (sv fr ln ct : Int32) : Prop :=
  (sv = 0 ∧ fr = -1 ∧ ln = 0 ∧ ct = 0 ∧ ∀ s l, Q s l → oz_EL w h s l → oz_V w h s l ≤ 0) ∨
  (∃ F L, Q F L ∧ oz_EL w h F L ∧ 0 < oz_V w h F L ∧ sv.toInt = oz_V w h F L ∧ fr = nI F ∧ ln = nI L ∧ ct = nI (oz_K w h F L) ∧
    ∀ s l, Q s l → oz_EL w h s l → oz_V w h s l < oz_V w h F L ∨ (oz_V w h s l = oz_V w h F L ∧ (l < L ∨ (l = L ∧ F ≤ s))))
section
variable {w : Nat → Nat} {h : Nat} {Q Q' : Nat → Nat → Prop} {sv fr ln ct sv' fr' ln' ct' : Int32}
theorem oz_Bst_u (a : oz_Bst w h Q sv fr ln ct) (b : oz_Bst w h Q sv' fr' ln' ct') : sv = sv' ∧ fr = fr' ∧ ln = ln' ∧ ct = ct' := by
  rcases a with ⟨rfl, rfl, rfl, rfl, ha⟩ | ⟨F, L, q, e, v, s1, rfl, rfl, rfl, ha⟩
  · rcases b with ⟨rfl, rfl, rfl, rfl, hb⟩ | ⟨F', L', q', e', v', s1', rfl, rfl, rfl, hb⟩
    · exact ⟨rfl, rfl, rfl, rfl⟩
    · have := ha F' L' q' e'; omega
  · rcases b with ⟨rfl, rfl, rfl, rfl, hb⟩ | ⟨F', L', q', e', v', s1', rfl, rfl, rfl, hb⟩
    · have := hb F L q e; omega
    · have h1 := ha F' L' q' e'
      have h2 := hb F L q e
      have hL : L = L' := by omega
      have hF : F = F' := by omega
      subst hL
      subst hF
      exact ⟨Int32.toInt_inj.mp (by rw [s1, s1']), rfl, rfl, rfl⟩
theorem oz_Bst_c (hc : ∀ s l, oz_EL w h s l → (Q s l ↔ Q' s l)) (a : oz_Bst w h Q sv fr ln ct) : oz_Bst w h Q' sv fr ln ct := by
  rcases a with ⟨h1, h2, h3, h4, ha⟩ | ⟨F, L, q, e, v, s1, h1, h2, h3, ha⟩
  · exact Or.inl ⟨h1, h2, h3, h4, fun s l q e => ha s l ((hc s l e).2 q) e⟩
  · exact Or.inr ⟨F, L, (hc F L e).1 q, e, v, s1, h1, h2, h3, fun s l q e => ha s l ((hc s l e).2 q) e⟩
theorem oz_Bst_0 (hc : ∀ s l, oz_EL w h s l → ¬ Q s l) : oz_Bst w h Q 0 (-1) 0 0 := Or.inl ⟨rfl, rfl, rfl, rfl, fun s l q e => absurd q (hc s l e)⟩
theorem oz_coe (hw : ∀ p, p < h → w p / 256 < 18) {s t len : Nat} (hs : oz_EL w h s len) (e : oz_P w h len s = oz_P w h len t) : oz_co w t len = oz_co w s len := by
  have a := oz_Pw hw hs.2.1 e (len - 1) (by have := hs.1; omega)
  unfold oz_co
  rw [a.2]
theorem oz_Ve (hw : ∀ p, p < h → w p / 256 < 18) {s t len : Nat} (hs : oz_EL w h s len) (e : oz_P w h len s = oz_P w h len t) : oz_V w h t len = oz_V w h s len := by
  unfold oz_V oz_K
  rw [oz_coe hw hs e, e]
theorem oz_co1 (s len : Nat) : len ≤ oz_co w s len ∧ oz_co w s len ≤ len + 1 := by
  unfold oz_co
  by_cases c : oz_end (w (s + (len - 1)) / 256)
  · rw [if_pos c]; omega
  · rw [if_neg c]; omega
theorem oz_V1 {s len : Nat} (hl : 2 ≤ len) (hk : oz_K w h s len < 2) : oz_V w h s len ≤ 0 := by
  unfold oz_V
  have a := oz_co1 (w := w) s len
  have : oz_K w h s len = 0 ∨ oz_K w h s len = 1 := by omega
  rcases this with k | k
  · rw [k, show ((0 : Nat) : Int) = 0 from rfl, Int.zero_mul]; omega
  · rw [k, show ((1 : Nat) : Int) = 1 from rfl, Int.one_mul]; omega
/-- X: a group without two disjoint sites -/
theorem oz_BstX0 {len v : Nat} (hk : (oz_gr (oz_C w h len v) len h).1 < 2) (hB : oz_Bst w h Q sv fr ln ct) : oz_Bst w h (fun s l => Q s l ∨ (l = len ∧ oz_P w h len s = v)) sv fr ln ct := by
  have key : ∀ s, oz_EL w h s len → oz_P w h len s = v → oz_V w h s len ≤ 0 := by
    intro s e ev
    refine oz_V1 e.1 ?_
    unfold oz_K
    rw [ev]
    exact hk
  rcases hB with ⟨h1, h2, h3, h4, ha⟩ | ⟨F, L, q, e, vv, s1, h1, h2, h3, ha⟩
  · refine Or.inl ⟨h1, h2, h3, h4, ?_⟩
    rintro s l (q | ⟨rfl, q⟩) e
    · exact ha s l q e
    · exact key s e q
  · refine Or.inr ⟨F, L, Or.inl q, e, vv, s1, h1, h2, h3, ?_⟩
    rintro s l (q | ⟨rfl, q⟩) e
    · exact ha s l q e
    · have := key s e q
      exact Or.inl (by omega)
theorem oz_fI {F L : Nat} (h32 : h ≤ 32) (e : oz_EL w h F L) : (nI F).toInt = (F : Int) ∧ (nI L).toInt = (L : Int) := by
  have a := e.1
  have b := e.2.1
  exact ⟨nI_toInt (by omega), nI_toInt (by omega)⟩
/-- X: a group that replaces -/
theorem oz_BstXr (hw : ∀ p, p < h → w p / 256 < 18) (h32 : h ≤ 32) {len v f : Nat} {x : Int32} (hQ : ∀ s l, Q s l → l ≤ len) (hf : oz_C w h len v f) (hn : ∀ s, s < f → ¬ oz_C w h len v s) (hx : x.toInt = oz_V w h f len) (hp : 0 < oz_V w h f len)
    (hr : sv < x ∨ (x = sv ∧ (ln < nI len ∨ nI f < fr))) (hB : oz_Bst w h Q sv fr ln ct) : oz_Bst w h (fun s l => Q s l ∨ (l = len ∧ oz_P w h len s = v)) x (nI f) (nI len) (nI (oz_gr (oz_C w h len v) len h).1) := by
  obtain ⟨he, hv⟩ := hf
  have hr' : sv.toInt < x.toInt ∨ (x.toInt = sv.toInt ∧ (ln.toInt < (len : Int) ∨ (f : Int) < fr.toInt)) := by
    rcases hr with a | ⟨a, b⟩
    · exact Or.inl (Int32.lt_iff_toInt_lt.mp a)
    · refine Or.inr ⟨by rw [a], ?_⟩
      have k := oz_fI h32 he
      rcases b with b | b
      · have := Int32.lt_iff_toInt_lt.mp b; omega
      · have := Int32.lt_iff_toInt_lt.mp b; omega
  refine Or.inr ⟨f, len, Or.inr ⟨rfl, hv⟩, he, hp, hx, rfl, rfl, by unfold oz_K; rw [hv], ?_⟩
  rintro s l (q | ⟨rfl, q⟩) e
  · rcases hB with ⟨h1, h2, h3, h4, ha⟩ | ⟨F, L, q', e', vv, s1, h1, h2, h3, ha⟩
    · have := ha s l q e; exact Or.inl (by omega)
    · have k := oz_fI h32 e'
      subst h1
      subst h2
      have a := ha s l q e
      have b := hQ s l q
      have c := hQ F L q'
      omega
  · have ev := oz_Ve hw he (hv.trans q.symm)
    refine Or.inr ⟨ev, Or.inr ⟨rfl, ?_⟩⟩
    by_cases c : s < f
    · exact absurd ⟨e, q⟩ (hn s c)
    · omega
/-- X: a group that doesn't -/
theorem oz_BstXk (hw : ∀ p, p < h → w p / 256 < 18) (h32 : h ≤ 32) {len v f : Nat} {x : Int32} (hQ : ∀ s l, Q s l → l ≤ len) (hf : oz_C w h len v f) (hn : ∀ s, s < f → ¬ oz_C w h len v s) (hx : x.toInt = oz_V w h f len)
    (hr : oz_V w h f len ≤ 0 ∨ ¬ (sv < x ∨ (x = sv ∧ (ln < nI len ∨ nI f < fr)))) (hB : oz_Bst w h Q sv fr ln ct) : oz_Bst w h (fun s l => Q s l ∨ (l = len ∧ oz_P w h len s = v)) sv fr ln ct := by
  obtain ⟨he, hv⟩ := hf
  have k := oz_fI h32 he
  have hr' : oz_V w h f len ≤ 0 ∨ (x.toInt ≤ sv.toInt ∧ (x.toInt = sv.toInt → (len : Int) ≤ ln.toInt ∧ fr.toInt ≤ (f : Int))) := by
    rcases hr with a | a
    · exact Or.inl a
    · refine Or.inr ⟨?_, fun z => ?_⟩
      · have : ¬ sv.toInt < x.toInt := fun z => a (Or.inl (Int32.lt_iff_toInt_lt.mpr z))
        omega
      · have z' : x = sv := Int32.toInt_inj.mp z
        have b1 : ¬ ln.toInt < (nI len).toInt := fun y => a (Or.inr ⟨z', Or.inl (Int32.lt_iff_toInt_lt.mpr y)⟩)
        have b2 : ¬ (nI f).toInt < fr.toInt := fun y => a (Or.inr ⟨z', Or.inr (Int32.lt_iff_toInt_lt.mpr y)⟩)
        omega
  have hle : ∀ s, oz_EL w h s len → oz_P w h len s = v → oz_V w h s len = oz_V w h f len ∧ f ≤ s := by
    intro s e q
    refine ⟨oz_Ve hw he (hv.trans q.symm), ?_⟩
    by_cases c : s < f
    · exact absurd ⟨e, q⟩ (hn s c)
    · omega
  rcases hB with ⟨h1, h2, h3, h4, ha⟩ | ⟨F, L, q, e, vv, s1, h1, h2, h3, ha⟩
  · refine Or.inl ⟨h1, h2, h3, h4, ?_⟩
    rintro s l (q | ⟨rfl, q⟩) e
    · exact ha s l q e
    · have a := hle s e q
      subst h1
      have z : (0 : Int32).toInt = 0 := by decide
      rcases hr' with b | b
      · omega
      · omega
  · refine Or.inr ⟨F, L, Or.inl q, e, vv, s1, h1, h2, h3, ?_⟩
    have k' := oz_fI h32 e
    subst h1
    subst h2
    rintro s l (q' | ⟨rfl, q'⟩) e'
    · exact ha s l q' e'
    · have a := hle s e' q'
      have c := hQ F L q
      rcases hr' with b | b
      · exact Or.inl (by omega)
      · omega
/-- Y: one window more -/
theorem oz_BstYr {len s : Nat} {x : Int32} (he : oz_EL w h s len) (hx : x.toInt = oz_V w h s len) (hr : sv < x) (hB : oz_Bst w h Q sv fr ln ct) : oz_Bst w h (fun s' l => Q s' l ∨ (l = len ∧ s' = s)) x (nI s) (nI len) (nI (oz_K w h s len)) := by
  have hr' := Int32.lt_iff_toInt_lt.mp hr
  have z : (0 : Int32).toInt = 0 := by decide
  have hp : 0 < oz_V w h s len := by
    rcases hB with ⟨rfl, h2, h3, h4, ha⟩ | ⟨F, L, q, e, vv, s1, h1, h2, h3, ha⟩
    · omega
    · omega
  refine Or.inr ⟨s, len, Or.inr ⟨rfl, rfl⟩, he, hp, hx, rfl, rfl, rfl, ?_⟩
  rintro t l (q | ⟨rfl, rfl⟩) e
  · rcases hB with ⟨h1, h2, h3, h4, ha⟩ | ⟨F, L, q', e', vv, s1, h1, h2, h3, ha⟩
    · have := ha t l q e; exact Or.inl (by omega)
    · have := ha t l q e; exact Or.inl (by omega)
  · exact Or.inr ⟨rfl, Or.inr ⟨rfl, Nat.le_refl _⟩⟩
theorem oz_BstYk {len s : Nat} {x : Int32} (hQ : ∀ t l, Q t l → len < l ∨ (l = len ∧ t < s)) (hx : oz_EL w h s len → x.toInt = oz_V w h s len ∧ x ≤ sv) (hB : oz_Bst w h Q sv fr ln ct) : oz_Bst w h (fun s' l => Q s' l ∨ (l = len ∧ s' = s)) sv fr ln ct := by
  have z : (0 : Int32).toInt = 0 := by decide
  rcases hB with ⟨h1, h2, h3, h4, ha⟩ | ⟨F, L, q, e, vv, s1, h1, h2, h3, ha⟩
  · refine Or.inl ⟨h1, h2, h3, h4, ?_⟩
    rintro t l (q | ⟨rfl, rfl⟩) e
    · exact ha t l q e
    · obtain ⟨a, b⟩ := hx e
      have b' := Int32.le_iff_toInt_le.mp b
      subst h1
      omega
  · refine Or.inr ⟨F, L, Or.inl q, e, vv, s1, h1, h2, h3, ?_⟩
    rintro t l (q' | ⟨rfl, rfl⟩) e'
    · exact ha t l q' e'
    · obtain ⟨a, b⟩ := hx e'
      have b' := Int32.le_iff_toInt_le.mp b
      have c := hQ F L q
      omega
/-- a positive best window may be rewritten -/
theorem oz_Bwin (hw : ∀ p, p < h → w p / 256 < 18) {F L : Nat} (he : oz_EL w h F L) (hF : ∀ s, oz_C w h L (oz_P w h L F) s → F ≤ s) :
    oz_Win w h L F (oz_site (oz_C w h L (oz_P w h L F)) L) (oz_end (w (F + (L - 1)) / 256)) := by
  have hl := he.1
  refine ⟨hl, oz_grf0 ⟨he, rfl⟩ (fun s hs hc => by have := hF s hc; omega), ?_, ?_, ?_, ?_⟩
  · intro s hs
    obtain ⟨⟨es, ep⟩, _⟩ := hs
    exact ⟨es.2.1, fun i hi => (oz_Pw hw he.2.1 ep.symm i hi).2, es.2.2.1⟩
  · intro s t hs ht hst
    exact oz_grd (by omega) hs ht hst
  · intro t
    rcases he.2.2.2 with a | a
    · have := a (L - 1) (by omega)
      rcases t with t | t | t <;> omega
    · exact a
  · intro t
    rcases he.2.2.2 with a | a
    · exact a
    · exact absurd a.1 t
theorem oz_Bh {F L : Nat} {mv : Nat → Nat} (he : oz_EL w h F L) (hV : 0 < oz_V w h F L) (hM : oz_Mv h L (oz_site (oz_C w h L (oz_P w h L F)) L) mv) : mv h + oz_co w F L < h := by
  have hl := he.1
  have a := (oz_grmv (by omega) hM h (Nat.le_refl _)).2 (oz_grfree (fun p hp => hp.1.2.1) h)
  have hV' : (oz_co w F L : Int) < (oz_K w h F L : Int) * ((L : Int) - 1) := by
    unfold oz_V at hV
    omega
  have e : ((oz_K w h F L * (L - 1) : Nat) : Int) = (oz_K w h F L : Int) * ((L : Int) - 1) := by
    rw [Int.natCast_mul, Int.natCast_sub (by omega)]
    rfl
  rw [← e] at hV'
  have : mv h + oz_K w h F L * (L - 1) = h := a
  omega
end
end
section
/-! X: small helpers, markTargets, measureWindows -/
theorem oz_sh8 {n : Nat} (h : n < 2 ^ 31) : nI n >>> ((8 : Int32) &&& 31) = nI (n / 256) := pk_shrN h _ 8 (by decide)
theorem oz_sh5 {n : Nat} (h : n < 2 ^ 31) : nI n >>> ((5 : Int32) &&& 31) = nI (n / 32) := pk_shrN h _ 5 (by decide)
theorem oz_b31 {n : Nat} (h : n < 2 ^ 31) : nI n &&& 31 = nI (n % 32) := pk_andN (by omega) 5 (by decide)
theorem oz_b3 {n : Nat} (h : n < 2 ^ 31) : nI n &&& 3 = nI (n % 4) := pk_andN (by omega) 2 (by decide)
theorem oz_rd {a : Nat → Int32} {i : Nat} {v : Int32} (hi : i < 2 ^ 31) (e : a i = v) : a (nI i).toNatClampNeg = v := by rw [nI_clamp hi]; exact e
theorem oz_rop {a : Nat → Int32} {i n : Nat} (hi : i < 2 ^ 31) (hn : n < 2 ^ 31) (e : a i = nI n) : a (nI i).toNatClampNeg >>> ((8 : Int32) &&& 31) = nI (n / 256) := by rw [oz_rd hi e, oz_sh8 hn]
theorem oz_rb {a : Nat → Int32} {i n : Nat} (hi : i < 2 ^ 31) (hn : n < 2 ^ 31) (e : a i = nI n) : a (nI i).toNatClampNeg &&& 31 = nI (n % 32) := by rw [oz_rd hi e, oz_b31 hn]
theorem oz_ra {a : Nat → Int32} {i n : Nat} (hi : i < 2 ^ 31) (hn : n < 2 ^ 31) (e : a i = nI n) : (a (nI i).toNatClampNeg >>> ((5 : Int32) &&& 31)) &&& 3 = nI (n / 32 % 4) := by rw [oz_rd hi e, oz_sh5 hn, oz_b3 (by omega)]
theorem oz_up {a : Nat → Int32} {i : Nat} {v : Int32} (hi : i < 2 ^ 31) : upd a (nI i).toNatClampNeg v = upd a i v := by rw [nI_clamp hi]
theorem oz_m1 (i : Nat) : nI i + (-1) = nI i - 1 := (Int32.sub_eq_add_neg _ _).symm
theorem oz_n0 : vp_nar .boolean 0 = 0 := by decide
theorem oz_n1 : vp_nar .boolean 1 = 1 := by decide
theorem oz_10 : ¬ (1 : Int32) = 0 := by decide
/-- the held words -/
def oz_Cd (a : Nat → Int32) (h : Nat) (w : Nat → Nat) : Prop := ∀ p, p < h → a p = nI (w p)
def oz_Tg (a : Nat → Int32) (w : Nat → Nat) (i : Nat) : Prop := ∀ p, p < 40 → (oz_tg w i p → a p = 1) ∧ (¬ oz_tg w i p → a p = 0)
section
variable {f_opLds f_opSts f_opPop f_opRet f_opJmp f_opJnz f_opCall f_hiddenCall f_hiddenReturn f_hiddenJump f_capacity f_stackLimit f_outLimit f_phase f_count f_held f_mainSize f_sp f_hidden f_outs f_at f_pc f_status f_bestSaving f_bestFrom f_bestLen f_bestCount : Int32} {a_code a_origin a_regs a_cells a_linked a_log a_target a_plainLen a_tailLen a_order a_rank a_shared a_site a_inner a_next a_moved a_trail : Nat → Int32}
variable {post : SX → Prop} {w : Nat → Nat} {h : Nat}
theorem oz_Xaims {post : Int32 → Prop} {u : SX} {o : Nat} (ho : o < 2 ^ 31) (h1 : oz_aim o → post 1) (h0 : ¬ oz_aim o → post 0) : wpX_aims post u (nI o) := by
  obtain ⟨f_opLds, f_opSts, f_opPop, f_opRet, f_opJmp, f_opJnz, f_opCall, f_hiddenCall, f_hiddenReturn, f_hiddenJump, f_capacity, f_stackLimit, f_outLimit, f_phase, f_count, f_held, f_mainSize, f_sp, f_hidden, f_outs, f_at, f_pc, f_status, f_bestSaving, f_bestFrom, f_bestLen, f_bestCount, a_code, a_origin, a_regs, a_cells, a_linked, a_log, a_target, a_plainLen, a_tailLen, a_order, a_rank, a_shared, a_site, a_inner, a_next, a_moved, a_trail⟩ := u
  have k : wX_aims_12 post (nI o) f_opLds f_opSts f_opPop f_opRet f_opJmp f_opJnz f_opCall f_hiddenCall f_hiddenReturn f_hiddenJump f_capacity f_stackLimit f_outLimit f_phase f_count f_held f_mainSize f_sp f_hidden f_outs f_at f_pc f_status f_bestSaving f_bestFrom f_bestLen f_bestCount a_code a_origin a_regs a_cells a_linked a_log a_target a_plainLen a_tailLen a_order a_rank a_shared a_site a_inner a_next a_moved a_trail ∨ (11 ≤ o ∧ o ≤ 13) := by
    by_cases c : 11 ≤ o ∧ o ≤ 13
    · exact Or.inr c
    · refine Or.inl (pk_eq o 15 (fun a => h1 (Or.inr (Or.inl a))) (fun a => pk_eq o 17 (fun b => h1 (Or.inr (Or.inr b))) (fun b => h0 ?_)))
      rintro (d | d | d)
      · exact c d
      · exact a d
      · exact b d
  refine pk_lt o 11 (fun a => ?_) (fun a => pk_le o 13 (fun b => h1 (Or.inl ⟨a, b⟩)) (fun b => ?_))
  · rcases k with k | k
    · exact k
    · omega
  · rcases k with k | k
    · exact k
    · omega
theorem oz_Xends {post : Int32 → Prop} {u : SX} {o : Nat} (ho : o < 2 ^ 31) (h1 : oz_end o → post 1) (h0 : ¬ oz_end o → post 0) : wpX_endsTail post u (nI o) := by
  obtain ⟨f_opLds, f_opSts, f_opPop, f_opRet, f_opJmp, f_opJnz, f_opCall, f_hiddenCall, f_hiddenReturn, f_hiddenJump, f_capacity, f_stackLimit, f_outLimit, f_phase, f_count, f_held, f_mainSize, f_sp, f_hidden, f_outs, f_at, f_pc, f_status, f_bestSaving, f_bestFrom, f_bestLen, f_bestCount, a_code, a_origin, a_regs, a_cells, a_linked, a_log, a_target, a_plainLen, a_tailLen, a_order, a_rank, a_shared, a_site, a_inner, a_next, a_moved, a_trail⟩ := u
  refine pk_eq o 10 (fun a => h1 (Or.inl a)) (fun a => pk_eq o 16 (fun b => h1 (Or.inr (Or.inl b))) (fun b => pk_eq o 17 (fun c => h1 (Or.inr (Or.inr c))) (fun c => h0 ?_)))
  rintro (d | d | d)
  · exact a d
  · exact b d
  · exact c d
theorem oz_mt23 (hc : oz_Cd a_code h w) (hw : ∀ p, p < h → w p / 256 < 18) (h32 : h ≤ 32) (H : ∀ t, oz_Tg t w h → post (f_opLds, f_opSts, f_opPop, f_opRet, f_opJmp, f_opJnz, f_opCall, f_hiddenCall, f_hiddenReturn, f_hiddenJump, f_capacity, f_stackLimit, f_outLimit, f_phase, f_count, nI h, f_mainSize, f_sp, f_hidden, f_outs, f_at, f_pc, f_status, f_bestSaving, f_bestFrom, f_bestLen, f_bestCount, a_code, a_origin, a_regs, a_cells, a_linked, a_log, t, a_plainLen, a_tailLen, a_order, a_rank, a_shared, a_site, a_inner, a_next, a_moved, a_trail)) : ∀ d i t, i + d = h → oz_Tg t w i → wX_markTargets_23 post f_opLds f_opSts f_opPop f_opRet f_opJmp f_opJnz f_opCall f_hiddenCall f_hiddenReturn f_hiddenJump f_capacity f_stackLimit f_outLimit f_phase f_count (nI h) f_mainSize f_sp f_hidden f_outs f_at f_pc f_status f_bestSaving f_bestFrom f_bestLen f_bestCount (d + 1) (nI i) a_code a_origin a_regs a_cells a_linked a_log t a_plainLen a_tailLen a_order a_rank a_shared a_site a_inner a_next a_moved a_trail := by
  intro d
  induction d with
  | zero =>
    intro i t hi ht
    have e : i = h := by omega
    subst e
    exact pk_le i i (fun _ => H t ht) (fun z => absurd z (by omega))
  | succ d ih =>
    intro i t hi ht
    have ci := hc i (by omega)
    have wi := hw i (by omega)
    refine pk_le h i (fun z => absurd z (by omega)) (fun _ => ⟨pk_in i 40 (by omega), nm_r (oz_rop (by omega) (by omega) ci) ?_⟩)
    refine oz_Xaims (by omega) (fun ha => ?_) (fun hn => ?_)
    · refine br_f oz_10 ⟨pk_in i 40 (by omega), ?_⟩
      rw [oz_rb (by omega) (by omega) ci]
      refine ⟨pk_in (w i % 32) 40 (by omega), nm_r (e' := upd t (w i % 32) 1) (by rw [oz_up (by omega), oz_n1]) (nm_r (nI_1 i) (ih (i + 1) _ (by omega) ?_))⟩
      intro p hp
      by_cases e : p = w i % 32
      · subst e
        rw [pk_us]
        exact ⟨fun _ => rfl, fun z => absurd ⟨i, by omega, ha, rfl⟩ z⟩
      · rw [pk_un e]
        refine ⟨fun ⟨q, q1, q2, q3⟩ => ?_, fun z => (ht p hp).2 (fun ⟨q, q1, q2, q3⟩ => z ⟨q, by omega, q2, q3⟩)⟩
        by_cases e2 : q = i
        · subst e2; exact absurd q3.symm e
        · exact (ht p hp).1 ⟨q, by omega, q2, q3⟩
    · refine br_t rfl (nm_r (nI_1 i) (ih (i + 1) t (by omega) ?_))
      intro p hp
      refine ⟨fun ⟨q, q1, q2, q3⟩ => ?_, fun z => (ht p hp).2 (fun ⟨q, q1, q2, q3⟩ => z ⟨q, by omega, q2, q3⟩)⟩
      by_cases e2 : q = i
      · subst e2; exact absurd q2 hn
      · exact (ht p hp).1 ⟨q, by omega, q2, q3⟩
theorem oz_mt2 (H : ∀ t, oz_Tg t w 0 → ∃ n, wX_markTargets_23 post f_opLds f_opSts f_opPop f_opRet f_opJmp f_opJnz f_opCall f_hiddenCall f_hiddenReturn f_hiddenJump f_capacity f_stackLimit f_outLimit f_phase f_count f_held f_mainSize f_sp f_hidden f_outs f_at f_pc f_status f_bestSaving f_bestFrom f_bestLen f_bestCount n 0 a_code a_origin a_regs a_cells a_linked a_log t a_plainLen a_tailLen a_order a_rank a_shared a_site a_inner a_next a_moved a_trail) : ∀ d i t, i + d = 40 → (∀ p, p < i → t p = 0) → wX_markTargets_2 post f_opLds f_opSts f_opPop f_opRet f_opJmp f_opJnz f_opCall f_hiddenCall f_hiddenReturn f_hiddenJump f_capacity f_stackLimit f_outLimit f_phase f_count f_held f_mainSize f_sp f_hidden f_outs f_at f_pc f_status f_bestSaving f_bestFrom f_bestLen f_bestCount (d + 1) (nI i) a_code a_origin a_regs a_cells a_linked a_log t a_plainLen a_tailLen a_order a_rank a_shared a_site a_inner a_next a_moved a_trail := by
  intro d
  induction d with
  | zero =>
    intro i t hi ht
    have e : i = 40 := by omega
    subst e
    refine pk_le 40 40 (fun _ => H t ?_) (fun z => absurd z (by omega))
    intro p hp
    exact ⟨fun ⟨q, q1, _⟩ => by omega, fun _ => ht p hp⟩
  | succ d ih =>
    intro i t hi ht
    refine pk_le 40 i (fun z => absurd z (by omega)) (fun _ => ⟨pk_in i 40 (by omega), nm_r (e' := upd t i 0) (by rw [oz_up (by omega), oz_n0]) (nm_r (nI_1 i) (ih (i + 1) _ (by omega) ?_))⟩)
    intro p hp
    by_cases e : p = i
    · rw [e, pk_us]
    · rw [pk_un e]; exact ht p (by omega)
theorem oz_Xmark (hc : oz_Cd a_code h w) (hw : ∀ p, p < h → w p / 256 < 18) (h32 : h ≤ 32) (H : ∀ t, oz_Tg t w h → post (f_opLds, f_opSts, f_opPop, f_opRet, f_opJmp, f_opJnz, f_opCall, f_hiddenCall, f_hiddenReturn, f_hiddenJump, f_capacity, f_stackLimit, f_outLimit, f_phase, f_count, nI h, f_mainSize, f_sp, f_hidden, f_outs, f_at, f_pc, f_status, f_bestSaving, f_bestFrom, f_bestLen, f_bestCount, a_code, a_origin, a_regs, a_cells, a_linked, a_log, t, a_plainLen, a_tailLen, a_order, a_rank, a_shared, a_site, a_inner, a_next, a_moved, a_trail)) : wpX_markTargets post (f_opLds, f_opSts, f_opPop, f_opRet, f_opJmp, f_opJnz, f_opCall, f_hiddenCall, f_hiddenReturn, f_hiddenJump, f_capacity, f_stackLimit, f_outLimit, f_phase, f_count, nI h, f_mainSize, f_sp, f_hidden, f_outs, f_at, f_pc, f_status, f_bestSaving, f_bestFrom, f_bestLen, f_bestCount, a_code, a_origin, a_regs, a_cells, a_linked, a_log, a_target, a_plainLen, a_tailLen, a_order, a_rank, a_shared, a_site, a_inner, a_next, a_moved, a_trail) :=
  ⟨41, oz_mt2 (w := w) (fun t ht => ⟨h + 1, oz_mt23 hc hw h32 H h 0 t (by omega) ht⟩) 40 0 a_target (by omega) (fun p hp => absurd hp (by omega))⟩
end
noncomputable def oz_plF (w : Nat → Nat) (h : Nat) : Nat → Nat
  | 0 => 0
  | d + 1 => if 7 < w (h - (d + 1)) / 256 then 0 else @ite _ (oz_tg w h (h - (d + 1) + 1)) (Classical.propDecidable _) 1 (oz_plF w h d + 1)
noncomputable def oz_tlF (w : Nat → Nat) (h : Nat) : Nat → Nat
  | 0 => 0
  | d + 1 => if oz_end (w (h - (d + 1)) / 256) then 1 else @ite _ (oz_int (w (h - (d + 1)) / 256) ∧ ¬ oz_tg w h (h - (d + 1) + 1) ∧ 0 < oz_tlF w h d) (Classical.propDecidable _) (oz_tlF w h d + 1) 0
theorem oz_plE (w : Nat → Nat) (h : Nat) : ∃ pl, oz_PL w h pl := by
  refine ⟨fun p => oz_plF w h (h - p), ?_, fun p hp => ?_⟩
  · show oz_plF w h (h - h) = 0
    rw [Nat.sub_self]
    rfl
  · show (_ → oz_plF w h (h - p) = 0) ∧ (_ → (_ → oz_plF w h (h - p) = 1) ∧ (_ → oz_plF w h (h - p) = oz_plF w h (h - (p + 1)) + 1))
    have e : h - p = (h - (p + 1)) + 1 := by omega
    have e2 : h - (h - (p + 1) + 1) = p := by omega
    rw [e]
    have u : oz_plF w h (h - (p + 1) + 1) = if 7 < w p / 256 then 0 else @ite _ (oz_tg w h (p + 1)) (Classical.propDecidable _) 1 (oz_plF w h (h - (p + 1)) + 1) := by
      rw [oz_plF, e2]
    rw [u]
    refine ⟨fun z => if_pos z, fun z => ⟨fun t => ?_, fun t => ?_⟩⟩
    · rw [if_neg (by omega)]; exact if_pos t
    · rw [if_neg (by omega)]; exact if_neg t
theorem oz_tlE (w : Nat → Nat) (h : Nat) : ∃ tl, oz_TL w h tl := by
  refine ⟨fun p => oz_tlF w h (h - p), ?_, fun p hp => ?_⟩
  · show oz_tlF w h (h - h) = 0
    rw [Nat.sub_self]
    rfl
  · show (_ → oz_tlF w h (h - p) = 1) ∧ (_ → (_ → oz_tlF w h (h - p) = oz_tlF w h (h - (p + 1)) + 1) ∧ (_ → oz_tlF w h (h - p) = 0))
    have e : h - p = (h - (p + 1)) + 1 := by omega
    have e2 : h - (h - (p + 1) + 1) = p := by omega
    rw [e]
    have u : oz_tlF w h (h - (p + 1) + 1) = if oz_end (w p / 256) then 1 else @ite _ (oz_int (w p / 256) ∧ ¬ oz_tg w h (p + 1) ∧ 0 < oz_tlF w h (h - (p + 1))) (Classical.propDecidable _) (oz_tlF w h (h - (p + 1)) + 1) 0 := by
      rw [oz_tlF, e2]
    rw [u]
    refine ⟨fun z => if_pos z, fun z => ⟨fun t => ?_, fun t => ?_⟩⟩
    · rw [if_neg z]; exact if_pos t
    · rw [if_neg z]; exact if_neg t
section
variable {f_opLds f_opSts f_opPop f_opRet f_opJmp f_opJnz f_opCall f_hiddenCall f_hiddenReturn f_hiddenJump f_capacity f_stackLimit f_outLimit f_phase f_count f_held f_mainSize f_sp f_hidden f_outs f_at f_pc f_status f_bestSaving f_bestFrom f_bestLen f_bestCount : Int32} {a_code a_origin a_regs a_cells a_linked a_log a_target a_plainLen a_tailLen a_order a_rank a_shared a_site a_inner a_next a_moved a_trail : Nat → Int32}
variable {post : SX → Prop} {w pl tl : Nat → Nat} {h : Nat} {J : Int32 → (Nat → Int32) → (Nat → Int32) → (Nat → Int32) → (Nat → Int32) → (Nat → Int32) → (Nat → Int32) → (Nat → Int32) → (Nat → Int32) → (Nat → Int32) → (Nat → Int32) → (Nat → Int32) → (Nat → Int32) → (Nat → Int32) → (Nat → Int32) → (Nat → Int32) → (Nat → Int32) → (Nat → Int32) → Prop}
theorem oz_mw151 {o i z : Nat} (hi : i < 40) (ho : o < 2 ^ 31) (H : ∀ t, (∀ q, q ≠ i → t q = a_tailLen q) → (oz_end o → t i = 1) → (¬ oz_end o → t i = nI z) → J (nI i - 1) a_code a_origin a_regs a_cells a_linked a_log a_target a_plainLen t a_order a_rank a_shared a_site a_inner a_next a_moved a_trail) : wX_measureWindows_151 post J (nI i) (nI o) (nI z) (nI i) f_opLds f_opSts f_opPop f_opRet f_opJmp f_opJnz f_opCall f_hiddenCall f_hiddenReturn f_hiddenJump f_capacity f_stackLimit f_outLimit f_phase f_count f_held f_mainSize f_sp f_hidden f_outs f_at f_pc f_status f_bestSaving f_bestFrom f_bestLen f_bestCount a_code a_origin a_regs a_cells a_linked a_log a_target a_plainLen a_tailLen a_order a_rank a_shared a_site a_inner a_next a_moved a_trail := by
  refine ⟨pk_in i 40 hi, nm_r (oz_up (by omega)) ?_⟩
  refine oz_Xends ho (fun he => ?_) (fun hn => ?_)
  · refine br_f oz_10 ⟨pk_in i 40 hi, nm_r (oz_up (by omega)) (nm_r (oz_m1 i) (H _ (fun q hq => ?_) (fun _ => pk_us) (fun k => absurd he k)))⟩
    rw [pk_un hq, pk_un hq]
  · exact br_t rfl (nm_r (oz_m1 i) (H _ (fun q hq => pk_un hq) (fun k => absurd k hn) (fun _ => pk_us)))
theorem oz_mw127 {o i tA b v : Nat} (hi : i < 40) (ho : o < 2 ^ 31) (htA : tA < 2 ^ 31) (hb : b < 2 ^ 31) (H : ∀ t, (∀ q, q ≠ i → t q = a_tailLen q) → (oz_end o → t i = 1) → (¬ oz_end o → (¬ b = 0 ∧ 0 < tA → t i = nI (tA + 1)) ∧ (¬ (¬ b = 0 ∧ 0 < tA) → t i = nI 0)) → J (nI i - 1) a_code a_origin a_regs a_cells a_linked a_log a_target (upd a_plainLen i (nI v)) t a_order a_rank a_shared a_site a_inner a_next a_moved a_trail) : wX_measureWindows_127 post J (nI i) (nI o) (nI tA) (nI b) (nI v) (nI i) f_opLds f_opSts f_opPop f_opRet f_opJmp f_opJnz f_opCall f_hiddenCall f_hiddenReturn f_hiddenJump f_capacity f_stackLimit f_outLimit f_phase f_count f_held f_mainSize f_sp f_hidden f_outs f_at f_pc f_status f_bestSaving f_bestFrom f_bestLen f_bestCount a_code a_origin a_regs a_cells a_linked a_log a_target a_plainLen a_tailLen a_order a_rank a_shared a_site a_inner a_next a_moved a_trail := by
  refine ⟨pk_in i 40 hi, nm_r (oz_up (by omega)) ?_⟩
  refine pk_eq b 0 (fun a => ?_) (fun a => pk_le tA 0 (fun c => ?_) (fun c => ?_))
  · exact oz_mw151 (z := 0) hi ho (fun t h1 h2 h3 => H t h1 h2 (fun h4 => ⟨fun h5 => absurd a h5.1, fun _ => h3 h4⟩))
  · exact oz_mw151 (z := 0) hi ho (fun t h1 h2 h3 => H t h1 h2 (fun h4 => ⟨fun h5 => by omega, fun _ => h3 h4⟩))
  · show wX_measureWindows_151 post J (nI i) (nI o) (nI tA + 1) (nI i) _ _ _ _ _ _ _ _ _ _ _ _ _ _ _ _ _ _ _ _ _ _ _ _ _ _ _ _ _ _ _ _ _ _ _ _ _ _ _ _ _ _ _ _
    rw [nI_1]
    exact oz_mw151 (z := tA + 1) hi ho (fun t h1 h2 h3 => H t h1 h2 (fun h4 => ⟨fun _ => h3 h4, fun h5 => absurd ⟨a, c⟩ h5⟩))
theorem oz_mw107 {o i tA b pA : Nat} (hi : i < 40) (ho : o < 2 ^ 31) (htA : tA < 2 ^ 31) (hb : b < 2 ^ 31) (H : ∀ v t, (7 < o → v = 0) → (o ≤ 7 → v = pA + 1) → (∀ q, q ≠ i → t q = a_tailLen q) → (oz_end o → t i = 1) → (¬ oz_end o → (¬ b = 0 ∧ 0 < tA → t i = nI (tA + 1)) ∧ (¬ (¬ b = 0 ∧ 0 < tA) → t i = nI 0)) → J (nI i - 1) a_code a_origin a_regs a_cells a_linked a_log a_target (upd a_plainLen i (nI v)) t a_order a_rank a_shared a_site a_inner a_next a_moved a_trail) : wX_measureWindows_107 post J (nI i) (nI o) (nI pA) (nI tA) (nI b) f_opLds f_opSts f_opPop f_opRet f_opJmp f_opJnz f_opCall f_hiddenCall f_hiddenReturn f_hiddenJump f_capacity f_stackLimit f_outLimit f_phase f_count f_held f_mainSize f_sp f_hidden f_outs f_at f_pc f_status f_bestSaving f_bestFrom f_bestLen f_bestCount a_code a_origin a_regs a_cells a_linked a_log a_target a_plainLen a_tailLen a_order a_rank a_shared a_site a_inner a_next a_moved a_trail := by
  refine pk_lt 7 o (fun a => ?_) (fun a => ?_)
  · exact oz_mw127 (v := 0) hi ho htA hb (fun t => H 0 t (fun _ => rfl) (fun z => by omega))
  · rw [nI_1]
    exact oz_mw127 (v := pA + 1) hi ho htA hb (fun t => H (pA + 1) t (fun z => by omega) (fun _ => rfl))
theorem oz_mw88 {o i tA pA : Nat} (hi : i < 40) (ho : o < 2 ^ 31) (htA : tA < 2 ^ 31) (H : ∀ v t, (7 < o → v = 0) → (o ≤ 7 → v = pA + 1) → (∀ q, q ≠ i → t q = a_tailLen q) → (oz_end o → t i = 1) → (¬ oz_end o → (oz_int o ∧ 0 < tA → t i = nI (tA + 1)) ∧ (¬ (oz_int o ∧ 0 < tA) → t i = nI 0)) → J (nI i - 1) a_code a_origin a_regs a_cells a_linked a_log a_target (upd a_plainLen i (nI v)) t a_order a_rank a_shared a_site a_inner a_next a_moved a_trail) : wX_measureWindows_88 post J (nI i) (nI o) (nI pA) (nI tA) f_opLds f_opSts f_opPop f_opRet f_opJmp f_opJnz f_opCall f_hiddenCall f_hiddenReturn f_hiddenJump f_capacity f_stackLimit f_outLimit f_phase f_count f_held f_mainSize f_sp f_hidden f_outs f_at f_pc f_status f_bestSaving f_bestFrom f_bestLen f_bestCount a_code a_origin a_regs a_cells a_linked a_log a_target a_plainLen a_tailLen a_order a_rank a_shared a_site a_inner a_next a_moved a_trail := by
  have k1 : oz_int o → wX_measureWindows_102 post J (nI i) (nI o) (nI pA) (nI tA) f_opLds f_opSts f_opPop f_opRet f_opJmp f_opJnz f_opCall f_hiddenCall f_hiddenReturn f_hiddenJump f_capacity f_stackLimit f_outLimit f_phase f_count f_held f_mainSize f_sp f_hidden f_outs f_at f_pc f_status f_bestSaving f_bestFrom f_bestLen f_bestCount a_code a_origin a_regs a_cells a_linked a_log a_target a_plainLen a_tailLen a_order a_rank a_shared a_site a_inner a_next a_moved a_trail := fun hin =>
    oz_mw107 (b := 1) hi ho htA (by omega) (fun v t h1 h2 h3 h4 h5 => H v t h1 h2 h3 h4 (fun h6 => ⟨fun h7 => (h5 h6).1 ⟨by omega, h7.2⟩, fun h7 => (h5 h6).2 (fun h8 => h7 ⟨hin, h8.2⟩)⟩))
  refine pk_lt o 10 (fun a => k1 (Or.inl a)) (fun a => pk_eq o 15 (fun b => k1 (Or.inr b)) (fun b => ?_))
  have hni : ¬ oz_int o := by
    rintro (c | c)
    · omega
    · exact b c
  exact oz_mw107 (b := 0) hi ho htA (by omega) (fun v t h1 h2 h3 h4 h5 => H v t h1 h2 h3 h4 (fun h6 => ⟨fun h7 => absurd h7.1 hni, fun h7 => (h5 h6).2 (fun h8 => h8.1 rfl)⟩))
/-- the lengths as arrays hold them from i on -/
def oz_La (a : Nat → Int32) (f : Nat → Nat) (h i : Nat) : Prop := ∀ p, i ≤ p → p ≤ h → a p = nI (f p)
theorem oz_mw27 (hc : oz_Cd a_code h w) (hw : ∀ p, p < h → w p / 256 < 18) (h32 : h ≤ 32) (hT : oz_Tg a_target w h) (hP : oz_PL w h pl) (hQ : oz_TL w h tl) (H : ∀ a b, oz_La a pl h 0 → oz_La b tl h 0 → post (f_opLds, f_opSts, f_opPop, f_opRet, f_opJmp, f_opJnz, f_opCall, f_hiddenCall, f_hiddenReturn, f_hiddenJump, f_capacity, f_stackLimit, f_outLimit, f_phase, f_count, f_held, f_mainSize, f_sp, f_hidden, f_outs, f_at, f_pc, f_status, f_bestSaving, f_bestFrom, f_bestLen, f_bestCount, a_code, a_origin, a_regs, a_cells, a_linked, a_log, a_target, a, b, a_order, a_rank, a_shared, a_site, a_inner, a_next, a_moved, a_trail)) : ∀ i a b, i ≤ h → oz_La a pl h i → oz_La b tl h i → wX_measureWindows_27 post f_opLds f_opSts f_opPop f_opRet f_opJmp f_opJnz f_opCall f_hiddenCall f_hiddenReturn f_hiddenJump f_capacity f_stackLimit f_outLimit f_phase f_count f_held f_mainSize f_sp f_hidden f_outs f_at f_pc f_status f_bestSaving f_bestFrom f_bestLen f_bestCount (i + 1) (nI i - 1) a_code a_origin a_regs a_cells a_linked a_log a_target a b a_order a_rank a_shared a_site a_inner a_next a_moved a_trail := by
  intro i
  induction i with
  | zero => intro a b _ ha hb; exact br_t (by decide) (H a b ha hb)
  | succ i ih =>
    intro a b hi ha hb
    rw [nI_pred]
    have ci := hc i (by omega)
    have wi := hw i (by omega)
    have bp := oz_PLb hP (h - (i + 1)) (i + 1) (by omega)
    have bt := oz_TLb hQ (h - (i + 1)) (i + 1) (by omega)
    obtain ⟨p1, p2⟩ := hP.2 i (by omega)
    obtain ⟨t1, t2⟩ := hQ.2 i (by omega)
    have rp : ∀ pA tA : Nat, (∀ (v : Nat) (t : Nat → Int32), (7 < w i / 256 → v = 0) → (w i / 256 ≤ 7 → v = pA + 1) → (∀ q, q ≠ i → t q = b q) → (oz_end (w i / 256) → t i = 1) → (¬ oz_end (w i / 256) → (oz_int (w i / 256) ∧ 0 < tA → t i = nI (tA + 1)) ∧ (¬ (oz_int (w i / 256) ∧ 0 < tA) → t i = nI 0)) → v = pl i ∧ t i = nI (tl i)) → ∀ (v : Nat) (t : Nat → Int32), (7 < w i / 256 → v = 0) → (w i / 256 ≤ 7 → v = pA + 1) → (∀ q, q ≠ i → t q = b q) → (oz_end (w i / 256) → t i = 1) → (¬ oz_end (w i / 256) → (oz_int (w i / 256) ∧ 0 < tA → t i = nI (tA + 1)) ∧ (¬ (oz_int (w i / 256) ∧ 0 < tA) → t i = nI 0)) → wX_measureWindows_27 post f_opLds f_opSts f_opPop f_opRet f_opJmp f_opJnz f_opCall f_hiddenCall f_hiddenReturn f_hiddenJump f_capacity f_stackLimit f_outLimit f_phase f_count f_held f_mainSize f_sp f_hidden f_outs f_at f_pc f_status f_bestSaving f_bestFrom f_bestLen f_bestCount (i + 1) (nI i - 1) a_code a_origin a_regs a_cells a_linked a_log a_target (upd a i (nI v)) t a_order a_rank a_shared a_site a_inner a_next a_moved a_trail := by
      intro pA tA k v t h1 h2 h3 h4 h5
      obtain ⟨e1, e2⟩ := k v t h1 h2 h3 h4 h5
      refine ih _ _ (by omega) ?_ ?_
      · intro p hp hh
        by_cases e : p = i
        · rw [e, pk_us, e1]
        · rw [pk_un e]; exact ha p (by omega) hh
      · intro p hp hh
        by_cases e : p = i
        · rw [e, e2]
        · rw [h3 p e]; exact hb p (by omega) hh
    refine pk_lt i 0 (fun z => absurd z (by omega)) (fun _ => ⟨pk_in i 40 (by omega), nm_r (oz_rop (by omega) (by omega) ci) ?_⟩) (hy := rfl)
    rw [nI_1]
    refine ⟨pk_in (i + 1) 40 (by omega), ?_⟩
    rw [nI_clamp (by omega : i + 1 < 2 ^ 31)]
    by_cases t : oz_tg w h (i + 1)
    · have ht : ¬ a_target (i + 1) = 0 := by rw [(hT (i + 1) (by omega)).1 t]; decide
      refine br_f ht ?_
      show wX_measureWindows_64 post _ (nI i) (nI (w i / 256)) (nI 0) f_opLds f_opSts f_opPop f_opRet f_opJmp f_opJnz f_opCall f_hiddenCall f_hiddenReturn f_hiddenJump f_capacity f_stackLimit f_outLimit f_phase f_count f_held f_mainSize f_sp f_hidden f_outs f_at f_pc f_status f_bestSaving f_bestFrom f_bestLen f_bestCount a_code a_origin a_regs a_cells a_linked a_log a_target a b a_order a_rank a_shared a_site a_inner a_next a_moved a_trail
      unfold wX_measureWindows_64
      rw [nI_1]
      refine ⟨pk_in (i + 1) 40 (by omega), ?_⟩
      rw [nI_clamp (by omega : i + 1 < 2 ^ 31)]
      refine br_f ht ?_
      refine oz_mw88 (tA := 0) (by omega) (by omega) (by omega) (rp 0 0 ?_)
      intro v t' h1 h2 h3 h4 h5
      refine ⟨?_, ?_⟩
      · by_cases c : 7 < w i / 256
        · rw [h1 c, p1 c]
        · rw [h2 (by omega), (p2 (by omega)).1 t]
      · by_cases c : oz_end (w i / 256)
        · rw [h4 c, t1 c]; rfl
        · rw [(h5 c).2 (fun z => by omega), (t2 c).2 (fun z => z.2.1 t)]
    · have ht : a_target (i + 1) = 0 := (hT (i + 1) (by omega)).2 t
      refine br_t ht ⟨pk_in (i + 1) 40 (by omega), ?_⟩
      rw [ha (i + 1) (by omega) (by omega)]
      unfold wX_measureWindows_64
      rw [nI_1]
      refine ⟨pk_in (i + 1) 40 (by omega), ?_⟩
      rw [nI_clamp (by omega : i + 1 < 2 ^ 31)]
      refine br_t ht ⟨pk_in (i + 1) 40 (by omega), ?_⟩
      rw [hb (i + 1) (by omega) (by omega)]
      refine oz_mw88 (tA := tl (i + 1)) (by omega) (by omega) (by omega) (rp (pl (i + 1)) (tl (i + 1)) ?_)
      intro v t' h1 h2 h3 h4 h5
      refine ⟨?_, ?_⟩
      · by_cases c : 7 < w i / 256
        · rw [h1 c, p1 c]
        · rw [h2 (by omega), (p2 (by omega)).2 t]
      · by_cases c : oz_end (w i / 256)
        · rw [h4 c, t1 c]; rfl
        · by_cases g : oz_int (w i / 256) ∧ 0 < tl (i + 1)
          · rw [(h5 c).1 g, (t2 c).1 ⟨g.1, t, g.2⟩]
          · rw [(h5 c).2 g, (t2 c).2 (fun z => g ⟨z.1, z.2.2⟩)]
theorem oz_Xmeas (hc : oz_Cd a_code h w) (hw : ∀ p, p < h → w p / 256 < 18) (h32 : h ≤ 32) (hT : oz_Tg a_target w h) (hP : oz_PL w h pl) (hQ : oz_TL w h tl) (H : ∀ a b, oz_La a pl h 0 → oz_La b tl h 0 → post (f_opLds, f_opSts, f_opPop, f_opRet, f_opJmp, f_opJnz, f_opCall, f_hiddenCall, f_hiddenReturn, f_hiddenJump, f_capacity, f_stackLimit, f_outLimit, f_phase, f_count, nI h, f_mainSize, f_sp, f_hidden, f_outs, f_at, f_pc, f_status, f_bestSaving, f_bestFrom, f_bestLen, f_bestCount, a_code, a_origin, a_regs, a_cells, a_linked, a_log, a_target, a, b, a_order, a_rank, a_shared, a_site, a_inner, a_next, a_moved, a_trail)) : wpX_measureWindows post (f_opLds, f_opSts, f_opPop, f_opRet, f_opJmp, f_opJnz, f_opCall, f_hiddenCall, f_hiddenReturn, f_hiddenJump, f_capacity, f_stackLimit, f_outLimit, f_phase, f_count, nI h, f_mainSize, f_sp, f_hidden, f_outs, f_at, f_pc, f_status, f_bestSaving, f_bestFrom, f_bestLen, f_bestCount, a_code, a_origin, a_regs, a_cells, a_linked, a_log, a_target, a_plainLen, a_tailLen, a_order, a_rank, a_shared, a_site, a_inner, a_next, a_moved, a_trail) := by
  refine ⟨pk_in h 40 (by omega), nm_r (oz_up (by omega)) ⟨pk_in h 40 (by omega), nm_r (oz_up (by omega)) (nm_e ⟨h + 1, oz_mw27 hc hw h32 hT hP hQ H h _ _ (Nat.le_refl _) ?_ ?_⟩)⟩⟩
  · intro p h1 h2
    rw [show p = h from by omega, pk_us, hP.1]; rfl
  · intro p h1 h2
    rw [show p = h from by omega, pk_us, hQ.1]; rfl
end
end
section
/-! X: match, precedes, sortSuffixes, index -/
def oz_Rk (a : Nat → Int32) (od : Nat → Nat) (i : Nat) : Prop := ∀ k, k < i → a (od k) = nI k
def oz_Sh (a : Nat → Int32) (w : Nat → Nat) (h : Nat) (od : Nat → Nat) (i : Nat) : Prop := ∀ k, k < i → 0 < k → ∃ n, oz_LC w h (od (k - 1)) (od k) n ∧ a k = nI n
section
variable {f_opLds f_opSts f_opPop f_opRet f_opJmp f_opJnz f_opCall f_hiddenCall f_hiddenReturn f_hiddenJump f_capacity f_stackLimit f_outLimit f_phase f_count f_held f_mainSize f_sp f_hidden f_outs f_at f_pc f_status f_bestSaving f_bestFrom f_bestLen f_bestCount : Int32} {a_code a_origin a_regs a_cells a_linked a_log a_target a_plainLen a_tailLen a_order a_rank a_shared a_site a_inner a_next a_moved a_trail : Nat → Int32}
variable {post : SX → Prop} {w od : Nat → Nat} {h : Nat}
theorem oz_mt14 {post : Int32 → Prop} (hc : oz_Cd a_code h w) (hw : ∀ p, p < h → w p / 256 < 18) (h32 : h ≤ 32) {x y m : Nat} (hm : (m = x ∨ m = y) ∧ x ≤ m ∧ y ≤ m ∧ m < h) (H : ∀ n, oz_LC w h x y n → post (nI n)) : ∀ d n, n + d = h - m → (∀ i, i < n → w (x + i) = w (y + i)) → wX_match_14 post (nI x) (nI y) (nI m) f_opLds f_opSts f_opPop f_opRet f_opJmp f_opJnz f_opCall f_hiddenCall f_hiddenReturn f_hiddenJump f_capacity f_stackLimit f_outLimit f_phase f_count (nI h) f_mainSize f_sp f_hidden f_outs f_at f_pc f_status f_bestSaving f_bestFrom f_bestLen f_bestCount a_code a_origin a_regs a_cells a_linked a_log a_target a_plainLen a_tailLen a_order a_rank a_shared a_site a_inner a_next a_moved a_trail (d + 1) (nI n) := by
  intro d
  induction d with
  | zero =>
    intro n hn he
    refine pk_le (h - m) n (fun z => ?_) (fun z => absurd z (by omega)) (hx := pk_sub (by omega))
    rw [pk_sub (by omega), show h - m = n from by omega]
    refine H n ⟨by omega, by omega, he, ?_⟩
    rcases hm.1 with e | e
    · exact Or.inl (by omega)
    · exact Or.inr (Or.inl (by omega))
  | succ d ih =>
    intro n hn he
    have e1 : a_code (nI x + nI n).toNatClampNeg = nI (w (x + n)) := by rw [nI_add, nI_clamp (by omega), hc _ (by omega)]
    have e2 : a_code (nI y + nI n).toNatClampNeg = nI (w (y + n)) := by rw [nI_add, nI_clamp (by omega), hc _ (by omega)]
    have w1 := hw (x + n) (by omega)
    have w2 := hw (y + n) (by omega)
    refine pk_le (h - m) n (fun z => absurd z (by omega)) (fun z => ⟨pk_in (x + n) 40 (by omega) (nI_add x n), pk_in (y + n) 40 (by omega) (nI_add y n), ?_⟩) (hx := pk_sub (by omega))
    refine pk_eq (w (x + n)) (w (y + n)) (fun e => nm_r (nI_1 n) (ih (n + 1) (by omega) fun i hi => ?_)) (fun e => H n ⟨by omega, by omega, he, Or.inr (Or.inr e)⟩) (hx := e1) (hy := e2)
    by_cases c : i = n
    · rw [c]; exact e
    · exact he i (by omega)
theorem oz_Xmatch {post : Int32 → Prop} (hc : oz_Cd a_code h w) (hw : ∀ p, p < h → w p / 256 < 18) (h32 : h ≤ 32) {x y : Nat} (hx : x < h) (hy : y < h) (H : ∀ n, oz_LC w h x y n → post (nI n)) : wpX_match post (f_opLds, f_opSts, f_opPop, f_opRet, f_opJmp, f_opJnz, f_opCall, f_hiddenCall, f_hiddenReturn, f_hiddenJump, f_capacity, f_stackLimit, f_outLimit, f_phase, f_count, nI h, f_mainSize, f_sp, f_hidden, f_outs, f_at, f_pc, f_status, f_bestSaving, f_bestFrom, f_bestLen, f_bestCount, a_code, a_origin, a_regs, a_cells, a_linked, a_log, a_target, a_plainLen, a_tailLen, a_order, a_rank, a_shared, a_site, a_inner, a_next, a_moved, a_trail) (nI x) (nI y) :=
  pk_le x y (fun a => ⟨_, oz_mt14 hc hw h32 (m := y) ⟨Or.inr rfl, a, Nat.le_refl _, hy⟩ H (h - y) 0 (by omega) (fun i hi => absurd hi (by omega))⟩)
    (fun a => ⟨_, oz_mt14 hc hw h32 (m := x) ⟨Or.inl rfl, Nat.le_refl _, by omega, hx⟩ H (h - x) 0 (by omega) (fun i hi => absurd hi (by omega))⟩)
theorem oz_Xprec {post : Int32 → Prop} (hc : oz_Cd a_code h w) (hw : ∀ p, p < h → w p / 256 < 18) (h32 : h ≤ 32) {x y : Nat} (hx : x < h) (hy : y < h) (hne : x ≠ y) (H1 : oz_P w h 40 x < oz_P w h 40 y → post 1) (H0 : oz_P w h 40 y < oz_P w h 40 x → post 0) : wpX_precedes post (f_opLds, f_opSts, f_opPop, f_opRet, f_opJmp, f_opJnz, f_opCall, f_hiddenCall, f_hiddenReturn, f_hiddenJump, f_capacity, f_stackLimit, f_outLimit, f_phase, f_count, nI h, f_mainSize, f_sp, f_hidden, f_outs, f_at, f_pc, f_status, f_bestSaving, f_bestFrom, f_bestLen, f_bestCount, a_code, a_origin, a_regs, a_cells, a_linked, a_log, a_target, a_plainLen, a_tailLen, a_order, a_rank, a_shared, a_site, a_inner, a_next, a_moved, a_trail) (nI x) (nI y) := by
  unfold wpX_precedes
  refine oz_Xmatch hc hw h32 hx hy (fun n hL => ?_)
  obtain ⟨k1, k2, k3⟩ := oz_prec hw h32 hL hne
  have hb1 := hL.1
  have hb2 := hL.2.1
  refine pk_lt (x + n) h (fun a => pk_lt (y + n) h (fun b => ⟨pk_in (x + n) 40 (by omega) (nI_add x n), pk_in (y + n) 40 (by omega) (nI_add y n), ?_⟩) (fun b => H0 (k2 a b)) (hx := nI_add y n)) (fun a => H1 (k1 a)) (hx := nI_add x n)
  have e1 : a_code (nI x + nI n).toNatClampNeg = nI (w (x + n)) := by rw [nI_add, nI_clamp (by omega), hc _ (by omega)]
  have e2 : a_code (nI y + nI n).toNatClampNeg = nI (w (y + n)) := by rw [nI_add, nI_clamp (by omega), hc _ (by omega)]
  have w1 := hw (x + n) a
  have w2 := hw (y + n) b
  exact pk_le (w (y + n)) (w (x + n)) (fun c => H0 ((k3 a b).2 (by omega))) (fun c => H1 ((k3 a b).1 c)) (hx := e2) (hy := e1)
theorem oz_ssf {cur : Nat → Int32} {i j : Nat} (hj : j ≤ i) (h1 : ∀ k, k < j → cur k = nI (od k)) (h2 : ∀ k, j < k → k ≤ i → cur k = nI (od (k - 1))) : ∀ k, k < i + 1 → upd cur j (nI i) k = nI (oz_ins od j i k) := by
  intro k hk
  unfold oz_ins
  by_cases a : k < j
  · rw [if_pos a, pk_un (by omega)]; exact h1 k a
  · rw [if_neg a]
    by_cases b : k = j
    · rw [if_pos b, b, pk_us]
    · rw [if_neg b, pk_un b]; exact h2 k (by omega) (by omega)
theorem oz_ss14 {J : Int32 → (Nat → Int32) → (Nat → Int32) → (Nat → Int32) → (Nat → Int32) → (Nat → Int32) → (Nat → Int32) → (Nat → Int32) → (Nat → Int32) → (Nat → Int32) → (Nat → Int32) → (Nat → Int32) → (Nat → Int32) → (Nat → Int32) → (Nat → Int32) → (Nat → Int32) → (Nat → Int32) → (Nat → Int32) → Prop}
    (hc : oz_Cd a_code h w) (hw : ∀ p, p < h → w p / 256 < 18) (h32 : h ≤ 32) {i : Nat} (hi : i < h) (hs : oz_Srt (oz_P w h 40) i od) (H : ∀ o' od', oz_Srt (oz_P w h 40) (i + 1) od' → (∀ k, k < i + 1 → o' k = nI (od' k)) → J (nI (i + 1)) a_code a_origin a_regs a_cells a_linked a_log a_target a_plainLen a_tailLen o' a_rank a_shared a_site a_inner a_next a_moved a_trail) :
    ∀ j cur, j ≤ i → (∀ k, k < j → cur k = nI (od k)) → (∀ k, j < k → k ≤ i → cur k = nI (od (k - 1))) → (∀ k, j ≤ k → k < i → oz_P w h 40 i < oz_P w h 40 (od k)) → wX_sortSuffixes_14 post J (nI i) f_opLds f_opSts f_opPop f_opRet f_opJmp f_opJnz f_opCall f_hiddenCall f_hiddenReturn f_hiddenJump f_capacity f_stackLimit f_outLimit f_phase f_count (nI h) f_mainSize f_sp f_hidden f_outs f_at f_pc f_status f_bestSaving f_bestFrom f_bestLen f_bestCount (j + 1) (nI j) (nI j) a_code a_origin a_regs a_cells a_linked a_log a_target a_plainLen a_tailLen cur a_rank a_shared a_site a_inner a_next a_moved a_trail := by
  intro j
  induction j with
  | zero =>
    intro cur hj c1 c2 c3
    refine pk_le 0 0 (fun _ => ⟨pk_in 0 40 (by omega), nm_r (oz_up (by omega)) (nm_r (nI_1 i) (H _ (oz_ins od 0 i) (oz_ins_srt hs hj c3 (fun z => by omega)) (oz_ssf hj c1 c2)))⟩) (fun z => by omega)
  | succ j ih =>
    intro cur hj c1 c2 c3
    have oj := hs.2.1 j (by omega)
    have cj := c1 j (by omega)
    refine pk_le (j + 1) 0 (fun z => absurd z (by omega)) (fun _ => ⟨pk_in j 40 (by omega) (nI_pred j), ?_⟩)
    have er : cur (nI (j + 1) - 1).toNatClampNeg = nI (od j) := by rw [nI_pred, nI_clamp (by omega), cj]
    rw [er]
    refine oz_Xprec hc hw h32 hi (by omega) (by omega) (fun k1 => ?_) (fun k0 => ?_)
    · refine br_f oz_10 ⟨pk_in j 40 (by omega) (nI_pred j), pk_in (j + 1) 40 (by omega), nm_r (e' := upd cur (j + 1) (nI (od j))) (oz_up (by omega)) (nm_r (nI_pred j) (nm_r (pk_m1 j) (ih _ (by omega) ?_ ?_ ?_)))⟩
      · intro k hk; rw [pk_un (by omega)]; exact c1 k (by omega)
      · intro k h1 h2
        by_cases e : k = j + 1
        · rw [e, pk_us]; rfl
        · rw [pk_un e]; exact c2 k (by omega) h2
      · intro k h1 h2
        by_cases e : k = j
        · rw [e]; exact k1
        · exact c3 k (by omega) h2
    · refine br_t rfl ⟨pk_in (j + 1) 40 (by omega), nm_r (oz_up (by omega)) (nm_r (nI_1 i) (H _ (oz_ins od (j + 1) i) (oz_ins_srt hs hj c3 (fun _ => k0)) (oz_ssf hj c1 c2)))⟩
theorem oz_ss2 (hc : oz_Cd a_code h w) (hw : ∀ p, p < h → w p / 256 < 18) (h32 : h ≤ 32) (H : ∀ o od, oz_Srt (oz_P w h 40) h od → (∀ k, k < h → o k = nI (od k)) → ∃ n, wX_sortSuffixes_73 post f_opLds f_opSts f_opPop f_opRet f_opJmp f_opJnz f_opCall f_hiddenCall f_hiddenReturn f_hiddenJump f_capacity f_stackLimit f_outLimit f_phase f_count (nI h) f_mainSize f_sp f_hidden f_outs f_at f_pc f_status f_bestSaving f_bestFrom f_bestLen f_bestCount n 0 a_code a_origin a_regs a_cells a_linked a_log a_target a_plainLen a_tailLen o a_rank a_shared a_site a_inner a_next a_moved a_trail) :
    ∀ d i o od, i + d = h → oz_Srt (oz_P w h 40) i od → (∀ k, k < i → o k = nI (od k)) → wX_sortSuffixes_2 post f_opLds f_opSts f_opPop f_opRet f_opJmp f_opJnz f_opCall f_hiddenCall f_hiddenReturn f_hiddenJump f_capacity f_stackLimit f_outLimit f_phase f_count (nI h) f_mainSize f_sp f_hidden f_outs f_at f_pc f_status f_bestSaving f_bestFrom f_bestLen f_bestCount (d + 1) (nI i) a_code a_origin a_regs a_cells a_linked a_log a_target a_plainLen a_tailLen o a_rank a_shared a_site a_inner a_next a_moved a_trail := by
  intro d
  induction d with
  | zero =>
    intro i o od hi hs ho
    have e : i = h := by omega
    subst e
    exact pk_le i i (fun _ => H o od hs ho) (fun z => absurd z (by omega))
  | succ d ih =>
    intro i o od hi hs ho
    refine pk_le h i (fun z => absurd z (by omega)) (fun _ => ⟨i + 1, oz_ss14 hc hw h32 (by omega) hs (fun o' od' h1 h2 => ih (i + 1) o' od' (by omega) h1 h2) i o (Nat.le_refl _) ho (fun k h1 h2 => by omega) (fun k h1 h2 => by omega)⟩)
theorem oz_ss73 (hc : oz_Cd a_code h w) (hw : ∀ p, p < h → w p / 256 < 18) (h32 : h ≤ 32) (hs : oz_Srt (oz_P w h 40) h od) (ho : ∀ k, k < h → a_order k = nI (od k)) (H : ∀ r s, oz_Rk r od h → oz_Sh s w h od h → post (f_opLds, f_opSts, f_opPop, f_opRet, f_opJmp, f_opJnz, f_opCall, f_hiddenCall, f_hiddenReturn, f_hiddenJump, f_capacity, f_stackLimit, f_outLimit, f_phase, f_count, nI h, f_mainSize, f_sp, f_hidden, f_outs, f_at, f_pc, f_status, f_bestSaving, f_bestFrom, f_bestLen, f_bestCount, a_code, a_origin, a_regs, a_cells, a_linked, a_log, a_target, a_plainLen, a_tailLen, a_order, r, s, a_site, a_inner, a_next, a_moved, a_trail)) :
    ∀ d i r s, i + d = h → oz_Rk r od i → oz_Sh s w h od i → wX_sortSuffixes_73 post f_opLds f_opSts f_opPop f_opRet f_opJmp f_opJnz f_opCall f_hiddenCall f_hiddenReturn f_hiddenJump f_capacity f_stackLimit f_outLimit f_phase f_count (nI h) f_mainSize f_sp f_hidden f_outs f_at f_pc f_status f_bestSaving f_bestFrom f_bestLen f_bestCount (d + 1) (nI i) a_code a_origin a_regs a_cells a_linked a_log a_target a_plainLen a_tailLen a_order r s a_site a_inner a_next a_moved a_trail := by
  intro d
  induction d with
  | zero =>
    intro i r s hi hr hh
    have e : i = h := by omega
    subst e
    exact pk_le i i (fun _ => H r s hr hh) (fun z => absurd z (by omega))
  | succ d ih =>
    intro i r s hi hr hh
    have oi := ho i (by omega)
    have bi := hs.2.1 i (by omega)
    have eo : a_order (nI i).toNatClampNeg = nI (od i) := by rw [nI_clamp (by omega), oi]
    have hr' : oz_Rk (upd r (od i) (nI i)) od (i + 1) := by
      intro k hk
      by_cases e : k = i
      · rw [e, pk_us]
      · rw [pk_un (fun z => e (oz_Srt_inj hs (by omega) (by omega) z))]; exact hr k (by omega)
    have hh' : ∀ n, (0 < i → oz_LC w h (od (i - 1)) (od i) n) → oz_Sh (upd s i (nI n)) w h od (i + 1) := by
      intro n hn k hk hk0
      by_cases e : k = i
      · subst e; exact ⟨n, hn hk0, pk_us⟩
      · rw [pk_un e]; exact hh k (by omega) hk0
    refine pk_le h i (fun z => absurd z (by omega)) (fun _ => ⟨pk_in i 40 (by omega), ?_⟩)
    rw [eo]
    refine ⟨pk_in (od i) 40 (by omega), nm_r (oz_up (by omega)) ?_⟩
    refine pk_eq i 0 (fun z => ?_) (fun z => ?_)
    · exact ⟨pk_in i 40 (by omega), nm_r (e' := upd s i (nI 0)) (oz_up (by omega)) (nm_r (nI_1 i) (ih (i + 1) _ _ (by omega) hr' (hh' 0 (fun y => by omega))))⟩
    · have e1 : nI i - 1 = nI (i - 1) := by
        have := nI_pred (i - 1)
        rw [show i - 1 + 1 = i from by omega] at this
        exact this
      refine ⟨pk_in (i - 1) 40 (by omega) e1, pk_in i 40 (by omega), ?_⟩
      have ep : a_order (nI i - 1).toNatClampNeg = nI (od (i - 1)) := by rw [e1, nI_clamp (by omega), ho _ (by omega)]
      rw [ep]
      have bp := hs.2.1 (i - 1) (by omega)
      refine oz_Xmatch hc hw h32 (by omega) (by omega) (fun n hL => ?_)
      exact ⟨pk_in i 40 (by omega), nm_r (oz_up (by omega)) (nm_r (nI_1 i) (ih (i + 1) _ _ (by omega) hr' (hh' n (fun _ => hL))))⟩
theorem oz_Xsort (hc : oz_Cd a_code h w) (hw : ∀ p, p < h → w p / 256 < 18) (h32 : h ≤ 32) (H : ∀ o r s od, oz_Srt (oz_P w h 40) h od → (∀ k, k < h → o k = nI (od k)) → oz_Rk r od h → oz_Sh s w h od h → post (f_opLds, f_opSts, f_opPop, f_opRet, f_opJmp, f_opJnz, f_opCall, f_hiddenCall, f_hiddenReturn, f_hiddenJump, f_capacity, f_stackLimit, f_outLimit, f_phase, f_count, nI h, f_mainSize, f_sp, f_hidden, f_outs, f_at, f_pc, f_status, f_bestSaving, f_bestFrom, f_bestLen, f_bestCount, a_code, a_origin, a_regs, a_cells, a_linked, a_log, a_target, a_plainLen, a_tailLen, o, r, s, a_site, a_inner, a_next, a_moved, a_trail)) : wpX_sortSuffixes post (f_opLds, f_opSts, f_opPop, f_opRet, f_opJmp, f_opJnz, f_opCall, f_hiddenCall, f_hiddenReturn, f_hiddenJump, f_capacity, f_stackLimit, f_outLimit, f_phase, f_count, nI h, f_mainSize, f_sp, f_hidden, f_outs, f_at, f_pc, f_status, f_bestSaving, f_bestFrom, f_bestLen, f_bestCount, a_code, a_origin, a_regs, a_cells, a_linked, a_log, a_target, a_plainLen, a_tailLen, a_order, a_rank, a_shared, a_site, a_inner, a_next, a_moved, a_trail) :=
  ⟨h + 1, oz_ss2 hc hw h32 (fun o od h1 h2 => ⟨h + 1, oz_ss73 hc hw h32 h1 h2 (fun r s h3 h4 => H o r s od h1 h2 h3 h4) h 0 a_rank a_shared (by omega) (fun k hk => absurd hk (by omega)) (fun k hk => absurd hk (by omega))⟩) h 0 a_order (fun k => k) (by omega) ⟨fun i j _ hj => absurd hj (by omega), fun i hi => absurd hi (by omega), fun p hp => absurd hp (by omega)⟩ (fun k hk => absurd hk (by omega))⟩
end
/-- what index() leaves -/
def oz_Idx (w : Nat → Nat) (h : Nat) (a b o r s : Nat → Int32) : Prop := ∃ pl tl od, oz_PL w h pl ∧ oz_TL w h tl ∧ oz_La a pl h 0 ∧ oz_La b tl h 0 ∧ oz_Srt (oz_P w h 40) h od ∧ (∀ k, k < h → o k = nI (od k)) ∧ oz_Rk r od h ∧ oz_Sh s w h od h
section
variable {f_opLds f_opSts f_opPop f_opRet f_opJmp f_opJnz f_opCall f_hiddenCall f_hiddenReturn f_hiddenJump f_capacity f_stackLimit f_outLimit f_phase f_count f_held f_mainSize f_sp f_hidden f_outs f_at f_pc f_status f_bestSaving f_bestFrom f_bestLen f_bestCount : Int32} {a_code a_origin a_regs a_cells a_linked a_log a_target a_plainLen a_tailLen a_order a_rank a_shared a_site a_inner a_next a_moved a_trail : Nat → Int32}
variable {post : SX → Prop} {w : Nat → Nat} {h : Nat}
theorem oz_Xindex (hc : oz_Cd a_code h w) (hw : ∀ p, p < h → w p / 256 < 18) (h32 : h ≤ 32) (H : ∀ t a b o r s, oz_Idx w h a b o r s → post (f_opLds, f_opSts, f_opPop, f_opRet, f_opJmp, f_opJnz, f_opCall, f_hiddenCall, f_hiddenReturn, f_hiddenJump, f_capacity, f_stackLimit, f_outLimit, f_phase, f_count, nI h, f_mainSize, f_sp, f_hidden, f_outs, f_at, f_pc, f_status, f_bestSaving, f_bestFrom, f_bestLen, f_bestCount, a_code, a_origin, a_regs, a_cells, a_linked, a_log, t, a, b, o, r, s, a_site, a_inner, a_next, a_moved, a_trail)) : wpX_index post (f_opLds, f_opSts, f_opPop, f_opRet, f_opJmp, f_opJnz, f_opCall, f_hiddenCall, f_hiddenReturn, f_hiddenJump, f_capacity, f_stackLimit, f_outLimit, f_phase, f_count, nI h, f_mainSize, f_sp, f_hidden, f_outs, f_at, f_pc, f_status, f_bestSaving, f_bestFrom, f_bestLen, f_bestCount, a_code, a_origin, a_regs, a_cells, a_linked, a_log, a_target, a_plainLen, a_tailLen, a_order, a_rank, a_shared, a_site, a_inner, a_next, a_moved, a_trail) := by
  obtain ⟨pl, hP⟩ := oz_plE w h
  obtain ⟨tl, hQ⟩ := oz_tlE w h
  unfold wpX_index
  refine oz_Xmark hc hw h32 (fun t ht => ?_)
  refine oz_Xmeas hc hw h32 ht hP hQ (fun a b ha hb => ?_)
  refine oz_Xsort hc hw h32 (fun o r s od h1 h2 h3 h4 => ?_)
  exact H t a b o r s ⟨pl, tl, od, hP, hQ, ha, hb, h1, h2, h3, h4⟩
end
end
section
/-! X: eligible, disjoint, firstSite, countEqual -/
/-- a group of the suffix order: the places with one head number -/
def oz_Grp (w : Nat → Nat) (h len v : Nat) (od : Nat → Nat) (lo hi : Nat) : Prop := lo ≤ hi ∧ hi ≤ h ∧ ∀ i, i < h → ((lo ≤ i ∧ i < hi) ↔ oz_P w h len (od i) = v)
/-- site and inner as arrays -/
def oz_Sit (C : Nat → Prop) (len h : Nat) (a b : Nat → Int32) : Prop := ∀ q, q < h → (oz_site C len q → a q = 1) ∧ (¬ oz_site C len q → a q = 0) ∧ (oz_inn (oz_site C len) len q → b q = 1) ∧ (¬ oz_inn (oz_site C len) len q → b q = 0)
section
variable {f_opLds f_opSts f_opPop f_opRet f_opJmp f_opJnz f_opCall f_hiddenCall f_hiddenReturn f_hiddenJump f_capacity f_stackLimit f_outLimit f_phase f_count f_held f_mainSize f_sp f_hidden f_outs f_at f_pc f_status f_bestSaving f_bestFrom f_bestLen f_bestCount : Int32} {a_code a_origin a_regs a_cells a_linked a_log a_target a_plainLen a_tailLen a_order a_rank a_shared a_site a_inner a_next a_moved a_trail : Nat → Int32}
variable {post : Int32 → SX → Prop} {w od : Nat → Nat} {h len v : Nat}
theorem oz_Xel {post : Int32 → Prop} (hI : oz_Idx w h a_plainLen a_tailLen a_order a_rank a_shared) (h32 : h ≤ 32) {p : Nat} (hp : p < 2 ^ 31) (hl : len < 2 ^ 31) (H1 : oz_EL w h p len → post 1) (H0 : ¬ oz_EL w h p len → post 0) : wpX_eligible post (f_opLds, f_opSts, f_opPop, f_opRet, f_opJmp, f_opJnz, f_opCall, f_hiddenCall, f_hiddenReturn, f_hiddenJump, f_capacity, f_stackLimit, f_outLimit, f_phase, f_count, nI h, f_mainSize, f_sp, f_hidden, f_outs, f_at, f_pc, f_status, f_bestSaving, f_bestFrom, f_bestLen, f_bestCount, a_code, a_origin, a_regs, a_cells, a_linked, a_log, a_target, a_plainLen, a_tailLen, a_order, a_rank, a_shared, a_site, a_inner, a_next, a_moved, a_trail) (nI p) (nI len) := by
  obtain ⟨pl, tl, od, hP, hQ, ha, hb, _⟩ := hI
  refine pk_lt p 0 (fun z => absurd z (by omega)) (fun _ => pk_le h p (fun z => H0 (fun e => ?_)) (fun z => pk_lt len 2 (fun y => H0 (fun e => ?_)) (fun y => ?_)))
  · have := e.1; have := e.2.1; omega
  · have := e.1; omega
  · refine pk_le len (h - p) (fun x => ?_) (fun x => H0 (fun e => ?_)) (hy := pk_sub (by omega))
    · have E := oz_ELi hP hQ z y x
      have bp := oz_PLb hP (h - p) p (by omega)
      have bt := oz_TLb hQ (h - p) p (by omega)
      have e1 : a_plainLen (nI p).toNatClampNeg = nI (pl p) := by rw [nI_clamp hp]; exact ha p (by omega) (by omega)
      have e2 : a_tailLen (nI p).toNatClampNeg = nI (tl p) := by rw [nI_clamp hp]; exact hb p (by omega) (by omega)
      refine ⟨pk_in p 40 (by omega), pk_le len (pl p) (fun k => H1 (E.1 (Or.inl k))) (fun k => ⟨pk_in p 40 (by omega), pk_eq len (tl p) (fun k2 => H1 (E.1 (Or.inr k2))) (fun k2 => H0 (fun e => ?_)) (hy := e2)⟩) (hy := e1)⟩
      rcases E.2 e with c | c
      · omega
      · exact k2 c
    · have := e.2.1; omega
theorem oz_dj131 {J : Int32 → Int32 → Int32 → (Nat → Int32) → (Nat → Int32) → (Nat → Int32) → (Nat → Int32) → (Nat → Int32) → (Nat → Int32) → (Nat → Int32) → (Nat → Int32) → (Nat → Int32) → (Nat → Int32) → (Nat → Int32) → (Nat → Int32) → (Nat → Int32) → (Nat → Int32) → (Nat → Int32) → (Nat → Int32) → (Nat → Int32) → Prop}
    {x3 x4 : Int32} {fr p : Nat} (hp : p < 40) (hf : fr < 2 ^ 31) (H0 : ¬ (p < fr ∧ a_site p = 0) → J x4 (nI fr) (nI (p + 1)) a_code a_origin a_regs a_cells a_linked a_log a_target a_plainLen a_tailLen a_order a_rank a_shared a_site (upd a_inner p 0) a_next a_moved a_trail) (H1 : p < fr ∧ a_site p = 0 → J x4 (nI fr) (nI (p + 1)) a_code a_origin a_regs a_cells a_linked a_log a_target a_plainLen a_tailLen a_order a_rank a_shared a_site (upd a_inner p 1) a_next a_moved a_trail) : wX_disjoint_131 post J x3 x4 (nI fr) (nI p) f_opLds f_opSts f_opPop f_opRet f_opJmp f_opJnz f_opCall f_hiddenCall f_hiddenReturn f_hiddenJump f_capacity f_stackLimit f_outLimit f_phase f_count f_held f_mainSize f_sp f_hidden f_outs f_at f_pc f_status f_bestSaving f_bestFrom f_bestLen f_bestCount a_code a_origin a_regs a_cells a_linked a_log a_target a_plainLen a_tailLen a_order a_rank a_shared a_site a_inner a_next a_moved a_trail := by
  have es : a_site (nI p).toNatClampNeg = a_site p := by rw [nI_clamp (by omega)]
  refine pk_le fr p (fun a => ⟨pk_in p 40 hp, nm_r (e' := upd a_inner p 0) (by rw [oz_up (by omega), oz_n0]) (nm_r (nI_1 p) (H0 (fun z => by omega)))⟩) (fun a => ⟨pk_in p 40 hp, ?_⟩)
  rw [es]
  by_cases c : a_site p = 0
  · exact br_t c ⟨pk_in p 40 hp, nm_r (e' := upd a_inner p 1) (by rw [oz_up (by omega), oz_n1]) (nm_r (nI_1 p) (H1 ⟨a, c⟩))⟩
  · exact br_f c ⟨pk_in p 40 hp, nm_r (e' := upd a_inner p 0) (by rw [oz_up (by omega), oz_n0]) (nm_r (nI_1 p) (H0 (fun z => c z.2)))⟩
/-- the arrays in the middle of the greedy loop -/
def oz_SitM (C : Nat → Prop) (len h p : Nat) (a b : Nat → Int32) : Prop := oz_Sit C len p a b ∧ ∀ q, p ≤ q → q < h → (C q → a q = 1) ∧ (¬ C q → a q = 0)
theorem oz_SitS {C : Nat → Prop} {p : Nat} {a b : Nat → Int32} (hl : 0 < len) (hp : p < h) (hS : oz_SitM C len h p a b) {x y : Int32} (hx : (oz_site C len p → x = 1) ∧ (¬ oz_site C len p → x = 0)) (hy : (oz_inn (oz_site C len) len p → y = 1) ∧ (¬ oz_inn (oz_site C len) len p → y = 0)) : oz_SitM C len h (p + 1) (upd a p x) (upd b p y) := by
  refine ⟨fun q hq => ?_, fun q h1 h2 => ?_⟩
  · by_cases e : q = p
    · rw [e, pk_us, pk_us]; exact ⟨hx.1, hx.2, hy.1, hy.2⟩
    · rw [pk_un e, pk_un e]; exact hS.1 q (by omega)
  · rw [pk_un (by omega)]; exact hS.2 q (by omega) h2
theorem oz_dj74 {C : Nat → Prop} (hl : 0 < len) (hC : ∀ p, C p → p + len ≤ h) (h32 : h ≤ 32) (H : ∀ a b, oz_Sit C len h a b → post (nI (oz_gr C len h).1) (f_opLds, f_opSts, f_opPop, f_opRet, f_opJmp, f_opJnz, f_opCall, f_hiddenCall, f_hiddenReturn, f_hiddenJump, f_capacity, f_stackLimit, f_outLimit, f_phase, f_count, nI h, f_mainSize, f_sp, f_hidden, f_outs, f_at, f_pc, f_status, f_bestSaving, f_bestFrom, f_bestLen, f_bestCount, a_code, a_origin, a_regs, a_cells, a_linked, a_log, a_target, a_plainLen, a_tailLen, a_order, a_rank, a_shared, a, b, a_next, a_moved, a_trail)) :
    ∀ d p a b, p + d = h → oz_SitM C len h p a b → wX_disjoint_74 post (nI len) f_opLds f_opSts f_opPop f_opRet f_opJmp f_opJnz f_opCall f_hiddenCall f_hiddenReturn f_hiddenJump f_capacity f_stackLimit f_outLimit f_phase f_count (nI h) f_mainSize f_sp f_hidden f_outs f_at f_pc f_status f_bestSaving f_bestFrom f_bestLen f_bestCount (d + 1) (nI (oz_gr C len p).1) (nI (oz_gr C len p).2) (nI p) a_code a_origin a_regs a_cells a_linked a_log a_target a_plainLen a_tailLen a_order a_rank a_shared a b a_next a_moved a_trail := by
  intro d
  induction d with
  | zero =>
    intro p a b hp hS
    have e : p = h := by omega
    subst e
    exact pk_le p p (fun _ => H a b hS.1) (fun z => absurd z (by omega))
  | succ d ih =>
    intro p a b hp hS
    have hfr := oz_grfree hC p
    have hct := oz_grle (C := C) (len := len) p
    have es : a (nI p).toNatClampNeg = a p := by rw [nI_clamp (by omega)]
    have hin := oz_grin (C := C) hl p
    have hi0 : ∀ q, p < q + 1 → 0 < q + 1 := fun q _ => by omega
    refine pk_le h p (fun z => absurd z (by omega)) (fun _ => ⟨pk_in p 40 (by omega), ?_⟩)
    rw [es]
    by_cases c : oz_site C len p
    · have e1 : ¬ a p = 0 := by rw [(hS.2 p (Nat.le_refl _) (by omega)).1 c.1]; decide
      have hni : ¬ oz_inn (oz_site C len) len p := fun z => (hin.2 z).2 c
      refine br_f e1 (pk_lt p (oz_gr C len p).2 (fun z => absurd z (by have := c.2; omega)) (fun _ => ⟨pk_in p 40 (by omega), nm_r (e' := upd a p 1) (by rw [oz_up (by omega), oz_n1]) ⟨pk_in p 40 (by omega), ?_⟩⟩))
      have e2 : ¬ upd a p 1 (nI p).toNatClampNeg = 0 := by rw [nI_clamp (by omega), pk_us]; decide
      refine br_f e2 (nm_r (nI_1 _) (nm_r (nI_add p len) ?_))
      have g := ih (p + 1) (upd a p 1) (upd b p 0) (by omega) (oz_SitS hl (by omega) hS ⟨fun _ => rfl, fun z => absurd c z⟩ ⟨fun z => absurd z hni, fun _ => rfl⟩)
      rw [oz_grt c] at g
      have hcl := hC p c.1
      refine oz_dj131 (by omega) (by omega) (fun _ => g) (fun z => ?_)
      have := z.2
      rw [pk_us] at this
      exact absurd this oz_10
    · have g := fun y hy => ih (p + 1) (upd a p 0) (upd b p y) (by omega) (oz_SitS hl (by omega) hS ⟨fun z => absurd z c, fun _ => rfl⟩ hy)
      rw [oz_grf c] at g hin
      have k : wX_disjoint_110 post (wX_disjoint_74 post (nI len) f_opLds f_opSts f_opPop f_opRet f_opJmp f_opJnz f_opCall f_hiddenCall f_hiddenReturn f_hiddenJump f_capacity f_stackLimit f_outLimit f_phase f_count (nI h) f_mainSize f_sp f_hidden f_outs f_at f_pc f_status f_bestSaving f_bestFrom f_bestLen f_bestCount (d + 1)) (nI len) (nI (oz_gr C len p).1) (nI (oz_gr C len p).2) (nI p) (nI p) f_opLds f_opSts f_opPop f_opRet f_opJmp f_opJnz f_opCall f_hiddenCall f_hiddenReturn f_hiddenJump f_capacity f_stackLimit f_outLimit f_phase f_count (nI h) f_mainSize f_sp f_hidden f_outs f_at f_pc f_status f_bestSaving f_bestFrom f_bestLen f_bestCount a_code a_origin a_regs a_cells a_linked a_log a_target a_plainLen a_tailLen a_order a_rank a_shared a b a_next a_moved a_trail := by
        refine ⟨pk_in p 40 (by omega), nm_r (e' := upd a p 0) (by rw [oz_up (by omega), oz_n0]) ⟨pk_in p 40 (by omega), ?_⟩⟩
        have e2 : upd a p 0 (nI p).toNatClampNeg = 0 := by rw [nI_clamp (by omega), pk_us]
        refine br_t e2 (oz_dj131 (by omega) (by omega) (fun z => g 0 ⟨fun y => ?_, fun _ => rfl⟩) (fun z => g 1 ⟨fun _ => rfl, fun y => absurd (hin.1 ⟨z.1, c⟩) y⟩))
        exact absurd ⟨(hin.2 y).1, pk_us⟩ z
      by_cases e1 : a p = 0
      · exact br_t e1 k
      · refine br_f e1 (pk_lt p (oz_gr C len p).2 (fun z => k) (fun z => ?_))
        have : C p := by
          by_cases y : C p
          · exact y
          · exact absurd ((hS.2 p (Nat.le_refl _) (by omega)).2 y) e1
        exact absurd ⟨this, z⟩ c
theorem oz_dj29 (hI : oz_Idx w h a_plainLen a_tailLen a_order a_rank a_shared) (h32 : h ≤ 32) (hl : len < 2 ^ 31) {lo hi : Nat} (hhi : hi ≤ h) (hs : oz_Srt (oz_P w h 40) h od) (ho : ∀ k, k < h → a_order k = nI (od k))
    (H : ∀ a, (∀ q, q < h → ((∃ k, lo ≤ k ∧ k < hi ∧ od k = q) ∧ oz_EL w h q len → a q = 1) ∧ (¬ ((∃ k, lo ≤ k ∧ k < hi ∧ od k = q) ∧ oz_EL w h q len) → a q = 0)) → ∃ n, wX_disjoint_74 post (nI len) f_opLds f_opSts f_opPop f_opRet f_opJmp f_opJnz f_opCall f_hiddenCall f_hiddenReturn f_hiddenJump f_capacity f_stackLimit f_outLimit f_phase f_count (nI h) f_mainSize f_sp f_hidden f_outs f_at f_pc f_status f_bestSaving f_bestFrom f_bestLen f_bestCount n 0 0 0 a_code a_origin a_regs a_cells a_linked a_log a_target a_plainLen a_tailLen a_order a_rank a_shared a a_inner a_next a_moved a_trail) :
    ∀ d i a, lo ≤ i → i + d = hi → (∀ q, q < h → ((∃ k, lo ≤ k ∧ k < i ∧ od k = q) ∧ oz_EL w h q len → a q = 1) ∧ (¬ ((∃ k, lo ≤ k ∧ k < i ∧ od k = q) ∧ oz_EL w h q len) → a q = 0)) → wX_disjoint_29 post (nI hi) (nI len) f_opLds f_opSts f_opPop f_opRet f_opJmp f_opJnz f_opCall f_hiddenCall f_hiddenReturn f_hiddenJump f_capacity f_stackLimit f_outLimit f_phase f_count (nI h) f_mainSize f_sp f_hidden f_outs f_at f_pc f_status f_bestSaving f_bestFrom f_bestLen f_bestCount (d + 1) (nI i) a_code a_origin a_regs a_cells a_linked a_log a_target a_plainLen a_tailLen a_order a_rank a_shared a a_inner a_next a_moved a_trail := by
  intro d
  induction d with
  | zero =>
    intro i a h1 h2 h3
    have e : i = hi := by omega
    subst e
    exact pk_le i i (fun _ => H a h3) (fun z => absurd z (by omega))
  | succ d ih =>
    intro i a h1 h2 h3
    have bi := hs.2.1 i (by omega)
    have eo : a_order (nI i).toNatClampNeg = nI (od i) := by rw [nI_clamp (by omega), ho i (by omega)]
    have key : ∀ x : Int32, ((oz_EL w h (od i) len → x = 1) ∧ (¬ oz_EL w h (od i) len → x = 0)) → wX_disjoint_29 post (nI hi) (nI len) f_opLds f_opSts f_opPop f_opRet f_opJmp f_opJnz f_opCall f_hiddenCall f_hiddenReturn f_hiddenJump f_capacity f_stackLimit f_outLimit f_phase f_count (nI h) f_mainSize f_sp f_hidden f_outs f_at f_pc f_status f_bestSaving f_bestFrom f_bestLen f_bestCount (d + 1) (nI (i + 1)) a_code a_origin a_regs a_cells a_linked a_log a_target a_plainLen a_tailLen a_order a_rank a_shared (upd a (od i) x) a_inner a_next a_moved a_trail := by
      intro x hx
      refine ih (i + 1) _ (by omega) (by omega) (fun q hq => ?_)
      by_cases e : q = od i
      · rw [e, pk_us]
        exact ⟨fun z => hx.1 z.2, fun z => hx.2 (fun y => z ⟨⟨i, h1, by omega, rfl⟩, y⟩)⟩
      · rw [pk_un e]
        refine ⟨fun z => (h3 q hq).1 ⟨?_, z.2⟩, fun z => (h3 q hq).2 (fun y => z ⟨?_, y.2⟩)⟩
        · obtain ⟨k, k1, k2, k3⟩ := z.1
          by_cases e2 : k = i
          · rw [e2] at k3; exact absurd k3.symm e
          · exact ⟨k, k1, by omega, k3⟩
        · obtain ⟨k, k1, k2, k3⟩ := y.1
          exact ⟨k, k1, by omega, k3⟩
    refine pk_le hi i (fun z => absurd z (by omega)) (fun _ => ⟨pk_in i 40 (by omega), pk_in i 40 (by omega), ?_⟩)
    rw [eo]
    refine oz_Xel hI h32 (by omega) hl (fun he => ?_) (fun he => ?_)
    · exact ⟨pk_in (od i) 40 (by omega), nm_r (e' := upd a (od i) 1) (by rw [oz_up (by omega), oz_n1]) (nm_r (nI_1 i) (key 1 ⟨fun _ => rfl, fun z => absurd he z⟩))⟩
    · exact ⟨pk_in (od i) 40 (by omega), nm_r (e' := upd a (od i) 0) (by rw [oz_up (by omega), oz_n0]) (nm_r (nI_1 i) (key 0 ⟨fun z => absurd z he, fun _ => rfl⟩))⟩
theorem oz_dj3 {x1 x2 x3 : Int32} (h32 : h ≤ 32) (H : ∀ a, (∀ q, q < h → a q = 0) → ∃ n, wX_disjoint_29 post x2 x3 f_opLds f_opSts f_opPop f_opRet f_opJmp f_opJnz f_opCall f_hiddenCall f_hiddenReturn f_hiddenJump f_capacity f_stackLimit f_outLimit f_phase f_count (nI h) f_mainSize f_sp f_hidden f_outs f_at f_pc f_status f_bestSaving f_bestFrom f_bestLen f_bestCount n x1 a_code a_origin a_regs a_cells a_linked a_log a_target a_plainLen a_tailLen a_order a_rank a_shared a a_inner a_next a_moved a_trail) :
    ∀ d i a, i + d = h → (∀ q, q < i → a q = 0) → wX_disjoint_3 post x1 x2 x3 f_opLds f_opSts f_opPop f_opRet f_opJmp f_opJnz f_opCall f_hiddenCall f_hiddenReturn f_hiddenJump f_capacity f_stackLimit f_outLimit f_phase f_count (nI h) f_mainSize f_sp f_hidden f_outs f_at f_pc f_status f_bestSaving f_bestFrom f_bestLen f_bestCount (d + 1) (nI i) a_code a_origin a_regs a_cells a_linked a_log a_target a_plainLen a_tailLen a_order a_rank a_shared a a_inner a_next a_moved a_trail := by
  intro d
  induction d with
  | zero =>
    intro i a hi ha
    have e : i = h := by omega
    subst e
    exact pk_le i i (fun _ => H a ha) (fun z => absurd z (by omega))
  | succ d ih =>
    intro i a hi ha
    refine pk_le h i (fun z => absurd z (by omega)) (fun _ => ⟨pk_in i 40 (by omega), nm_r (e' := upd a i 0) (by rw [oz_up (by omega), oz_n0]) (nm_r (nI_1 i) (ih (i + 1) _ (by omega) fun q hq => ?_))⟩)
    by_cases e : q = i
    · rw [e, pk_us]
    · rw [pk_un e]; exact ha q (by omega)
theorem oz_Xdisj (hI : oz_Idx w h a_plainLen a_tailLen a_order a_rank a_shared) (h32 : h ≤ 32) (hl0 : 0 < len) (hl : len < 2 ^ 31) {lo hi : Nat} (hs : oz_Srt (oz_P w h 40) h od) (ho : ∀ k, k < h → a_order k = nI (od k)) (hG : oz_Grp w h len v od lo hi)
    (H : ∀ a b, oz_Sit (oz_C w h len v) len h a b → post (nI (oz_gr (oz_C w h len v) len h).1) (f_opLds, f_opSts, f_opPop, f_opRet, f_opJmp, f_opJnz, f_opCall, f_hiddenCall, f_hiddenReturn, f_hiddenJump, f_capacity, f_stackLimit, f_outLimit, f_phase, f_count, nI h, f_mainSize, f_sp, f_hidden, f_outs, f_at, f_pc, f_status, f_bestSaving, f_bestFrom, f_bestLen, f_bestCount, a_code, a_origin, a_regs, a_cells, a_linked, a_log, a_target, a_plainLen, a_tailLen, a_order, a_rank, a_shared, a, b, a_next, a_moved, a_trail)) : wpX_disjoint post (f_opLds, f_opSts, f_opPop, f_opRet, f_opJmp, f_opJnz, f_opCall, f_hiddenCall, f_hiddenReturn, f_hiddenJump, f_capacity, f_stackLimit, f_outLimit, f_phase, f_count, nI h, f_mainSize, f_sp, f_hidden, f_outs, f_at, f_pc, f_status, f_bestSaving, f_bestFrom, f_bestLen, f_bestCount, a_code, a_origin, a_regs, a_cells, a_linked, a_log, a_target, a_plainLen, a_tailLen, a_order, a_rank, a_shared, a_site, a_inner, a_next, a_moved, a_trail) (nI lo) (nI hi) (nI len) := by
  obtain ⟨g1, g2, g3⟩ := hG
  refine ⟨h + 1, oz_dj3 h32 (fun a ha => ⟨hi - lo + 1, oz_dj29 (lo := lo) hI h32 hl g2 hs ho (fun a' ha' => ⟨h + 1, ?_⟩) (hi - lo) lo a (Nat.le_refl _) (by omega) (fun q hq => ⟨fun z => ?_, fun _ => ha q hq⟩)⟩) h 0 a_site (by omega) (fun q hq => absurd hq (by omega))⟩
  · refine oz_dj74 (C := oz_C w h len v) hl0 (fun p hp => hp.1.2.1) h32 H h 0 a' a_inner (by omega) ⟨fun q hq => absurd hq (by omega), fun q _ hq => ?_⟩
    have k : oz_C w h len v q ↔ ((∃ k, lo ≤ k ∧ k < hi ∧ od k = q) ∧ oz_EL w h q len) := by
      constructor
      · intro z
        obtain ⟨i, i1, i2⟩ := hs.2.2 q hq
        refine ⟨⟨i, ?_⟩, z.1⟩
        have := (g3 i i1).2 (by rw [i2]; exact z.2)
        exact ⟨this.1, this.2, i2⟩
      · rintro ⟨⟨i, i1, i2, i3⟩, z⟩
        have := (g3 i (by omega)).1 ⟨i1, i2⟩
        rw [i3] at this
        exact ⟨z, this⟩
    exact ⟨fun z => (ha' q hq).1 (k.1 z), fun z => (ha' q hq).2 (fun y => z (k.2 y))⟩
  · obtain ⟨⟨k, k1, k2, _⟩, _⟩ := z
    omega
theorem oz_Xfirst {post : Int32 → Prop} {C : Nat → Prop} (h32 : h ≤ 32) (hS : oz_Sit C len h a_site a_inner) {f : Nat} (hf : f < h) (hsf : oz_site C len f) (hn : ∀ q, q < f → ¬ oz_site C len q) (H : post (nI f)) : wpX_firstSite post (f_opLds, f_opSts, f_opPop, f_opRet, f_opJmp, f_opJnz, f_opCall, f_hiddenCall, f_hiddenReturn, f_hiddenJump, f_capacity, f_stackLimit, f_outLimit, f_phase, f_count, nI h, f_mainSize, f_sp, f_hidden, f_outs, f_at, f_pc, f_status, f_bestSaving, f_bestFrom, f_bestLen, f_bestCount, a_code, a_origin, a_regs, a_cells, a_linked, a_log, a_target, a_plainLen, a_tailLen, a_order, a_rank, a_shared, a_site, a_inner, a_next, a_moved, a_trail) := by
  have key : ∀ d i, i + d = f → wX_firstSite_2 post f_opLds f_opSts f_opPop f_opRet f_opJmp f_opJnz f_opCall f_hiddenCall f_hiddenReturn f_hiddenJump f_capacity f_stackLimit f_outLimit f_phase f_count (nI h) f_mainSize f_sp f_hidden f_outs f_at f_pc f_status f_bestSaving f_bestFrom f_bestLen f_bestCount a_code a_origin a_regs a_cells a_linked a_log a_target a_plainLen a_tailLen a_order a_rank a_shared a_site a_inner a_next a_moved a_trail (d + 1) (nI i) := by
    intro d
    induction d with
    | zero =>
      intro i hi
      have e : i = f := by omega
      subst e
      have e1 : ¬ a_site (nI i).toNatClampNeg = 0 := by rw [nI_clamp (by omega), (hS i hf).1 hsf]; decide
      exact pk_le h i (fun z => absurd z (by omega)) (fun _ => ⟨pk_in i 40 (by omega), br_f e1 H⟩)
    | succ d ih =>
      intro i hi
      have e1 : a_site (nI i).toNatClampNeg = 0 := by rw [nI_clamp (by omega)]; exact (hS i (by omega)).2.1 (hn i (by omega))
      exact pk_le h i (fun z => absurd z (by omega)) (fun _ => ⟨pk_in i 40 (by omega), br_t e1 (nm_r (nI_1 i) (ih (i + 1) (by omega)))⟩)
  exact ⟨f + 1, key f 0 (by omega)⟩
theorem oz_mon (hw : ∀ p, p < h → w p / 256 < 18) (hs : oz_Srt (oz_P w h 40) h od) (hl : len ≤ 40) {i j : Nat} (hij : i ≤ j) (hj : j < h) : oz_P w h len (od i) ≤ oz_P w h len (od j) := by
  by_cases e : i = j
  · rw [e]; exact Nat.le_refl _
  · have a := hs.1 i j (by omega) hj
    refine oz_PleD hw (40 - len) ?_
    rw [show len + (40 - len) = 40 from by omega]
    omega
theorem oz_shE (hw : ∀ p, p < h → w p / 256 < 18) (h32 : h ≤ 32) (hs : oz_Srt (oz_P w h 40) h od) (hS : oz_Sh a_shared w h od h) {i : Nat} (hi : i < h) (h0 : 0 < i) : ∃ n, n ≤ 32 ∧ a_shared i = nI n ∧ (len ≤ n ↔ oz_P w h len (od (i - 1)) = oz_P w h len (od i)) := by
  obtain ⟨n, hL, e⟩ := hS i hi h0
  have := hL.1
  refine ⟨n, by omega, e, oz_LCP hw hL ?_ len⟩
  intro z
  have := oz_Srt_inj hs (by omega) hi z
  omega
theorem oz_Xcnt (hw : ∀ p, p < h → w p / 256 < 18) (hI : oz_Idx w h a_plainLen a_tailLen a_order a_rank a_shared) (h32 : h ≤ 32) (hl0 : 0 < len) (hl : len ≤ 40) {f : Nat} (hf : f < h)
    (H : ∀ a b, oz_Sit (oz_C w h len (oz_P w h len f)) len h a b → post (nI (oz_K w h f len)) (f_opLds, f_opSts, f_opPop, f_opRet, f_opJmp, f_opJnz, f_opCall, f_hiddenCall, f_hiddenReturn, f_hiddenJump, f_capacity, f_stackLimit, f_outLimit, f_phase, f_count, nI h, f_mainSize, f_sp, f_hidden, f_outs, f_at, f_pc, f_status, f_bestSaving, f_bestFrom, f_bestLen, f_bestCount, a_code, a_origin, a_regs, a_cells, a_linked, a_log, a_target, a_plainLen, a_tailLen, a_order, a_rank, a_shared, a, b, a_next, a_moved, a_trail)) : wpX_countEqual post (f_opLds, f_opSts, f_opPop, f_opRet, f_opJmp, f_opJnz, f_opCall, f_hiddenCall, f_hiddenReturn, f_hiddenJump, f_capacity, f_stackLimit, f_outLimit, f_phase, f_count, nI h, f_mainSize, f_sp, f_hidden, f_outs, f_at, f_pc, f_status, f_bestSaving, f_bestFrom, f_bestLen, f_bestCount, a_code, a_origin, a_regs, a_cells, a_linked, a_log, a_target, a_plainLen, a_tailLen, a_order, a_rank, a_shared, a_site, a_inner, a_next, a_moved, a_trail) (nI f) (nI len) := by
  have hI0 := hI
  obtain ⟨pl, tl, od, hP, hQ, ha, hb, hs, ho, hR, hS⟩ := hI
  obtain ⟨k, hk, ek⟩ := hs.2.2 f hf
  have mon := fun {i j : Nat} (hij : i ≤ j) (hj : j < h) => oz_mon (len := len) hw hs hl hij hj
  -- the end
  have fin : ∀ lo hi, lo ≤ k → k < hi → hi ≤ h → (∀ i, lo ≤ i → i < hi → oz_P w h len (od i) = oz_P w h len f) → (lo = 0 ∨ ¬ oz_P w h len (od (lo - 1)) = oz_P w h len f) → (hi = h ∨ ¬ oz_P w h len (od hi) = oz_P w h len f) → wX_countEqual_58 post (nI len) (nI lo) (nI hi) f_opLds f_opSts f_opPop f_opRet f_opJmp f_opJnz f_opCall f_hiddenCall f_hiddenReturn f_hiddenJump f_capacity f_stackLimit f_outLimit f_phase f_count (nI h) f_mainSize f_sp f_hidden f_outs f_at f_pc f_status f_bestSaving f_bestFrom f_bestLen f_bestCount a_code a_origin a_regs a_cells a_linked a_log a_target a_plainLen a_tailLen a_order a_rank a_shared a_site a_inner a_next a_moved a_trail := by
    intro lo hi h1 h2 h3 h4 h5 h6
    unfold wX_countEqual_58
    refine oz_Xdisj hI0 h32 hl0 (by omega) hs ho (v := oz_P w h len f) ⟨by omega, h3, fun i hi' => ⟨fun z => h4 i z.1 z.2, fun z => ?_⟩⟩ (fun a b hab => H a b hab)
    refine ⟨?_, ?_⟩
    · by_cases c : lo ≤ i
      · exact c
      · exfalso
        rcases h5 with h5 | h5
        · omega
        · have m1 := mon (i := i) (j := lo - 1) (by omega) (by omega)
          have m2 := mon (i := lo - 1) (j := k) (by omega) hk
          rw [ek] at m2
          omega
    · by_cases c : i < hi
      · exact c
      · exfalso
        rcases h6 with h6 | h6
        · omega
        · have m1 := mon (i := hi) (j := i) (by omega) hi'
          have m2 := mon (i := k) (j := hi) (by omega) (by omega)
          rw [ek] at m2
          omega
  have up : ∀ lo, lo ≤ k → (∀ i, lo ≤ i → i ≤ k → oz_P w h len (od i) = oz_P w h len f) → (lo = 0 ∨ ¬ oz_P w h len (od (lo - 1)) = oz_P w h len f) → ∀ d hi, hi + d = h → k < hi → (∀ i, lo ≤ i → i < hi → oz_P w h len (od i) = oz_P w h len f) → wX_countEqual_32 post (nI len) (nI lo) f_opLds f_opSts f_opPop f_opRet f_opJmp f_opJnz f_opCall f_hiddenCall f_hiddenReturn f_hiddenJump f_capacity f_stackLimit f_outLimit f_phase f_count (nI h) f_mainSize f_sp f_hidden f_outs f_at f_pc f_status f_bestSaving f_bestFrom f_bestLen f_bestCount a_code a_origin a_regs a_cells a_linked a_log a_target a_plainLen a_tailLen a_order a_rank a_shared a_site a_inner a_next a_moved a_trail (d + 1) (nI hi) := by
    intro lo h1 h2 h3 d
    induction d with
    | zero =>
      intro hi e1 e2 e3
      exact pk_le h hi (fun _ => fin lo hi h1 e2 (by omega) e3 h3 (Or.inl (by omega))) (fun z => absurd z (by omega))
    | succ d ih =>
      intro hi e1 e2 e3
      obtain ⟨n, n1, n2, n3⟩ := oz_shE (len := len) hw h32 hs hS (i := hi) (by omega) (by omega)
      have e4 := e3 (hi - 1) (by omega) (by omega)
      refine pk_le h hi (fun z => absurd z (by omega)) (fun _ => ⟨pk_in hi 40 (by omega), pk_lt n len (fun z => ?_) (fun z => ?_) (hx := by rw [nI_clamp (by omega), n2])⟩)
      · refine fin lo hi h1 e2 (by omega) e3 h3 (Or.inr (fun y => ?_))
        have := n3.2 (e4.trans y.symm)
        omega
      · refine nm_r (nI_1 hi) (ih (hi + 1) (by omega) (by omega) (fun i i1 i2 => ?_))
        by_cases e : i = hi
        · rw [e, ← n3.1 z, e4]
        · exact e3 i i1 (by omega)
  have dn : ∀ lo, lo ≤ k → (∀ i, lo ≤ i → i ≤ k → oz_P w h len (od i) = oz_P w h len f) → wX_countEqual_12 post (nI len) (nI (k + 1)) f_opLds f_opSts f_opPop f_opRet f_opJmp f_opJnz f_opCall f_hiddenCall f_hiddenReturn f_hiddenJump f_capacity f_stackLimit f_outLimit f_phase f_count (nI h) f_mainSize f_sp f_hidden f_outs f_at f_pc f_status f_bestSaving f_bestFrom f_bestLen f_bestCount a_code a_origin a_regs a_cells a_linked a_log a_target a_plainLen a_tailLen a_order a_rank a_shared a_site a_inner a_next a_moved a_trail (lo + 1) (nI lo) := by
    intro lo
    induction lo with
    | zero =>
      intro h1 h2
      exact pk_le 0 0 (fun _ => ⟨h - (k + 1) + 1, up 0 h1 h2 (Or.inl rfl) (h - (k + 1)) (k + 1) (by omega) (by omega) (fun i i1 i2 => h2 i i1 (by omega))⟩) (fun z => absurd z (by omega))
    | succ lo ih =>
      intro h1 h2
      obtain ⟨n, n1, n2, n3⟩ := oz_shE (len := len) hw h32 hs hS (i := lo + 1) (by omega) (by omega)
      have e4 := h2 (lo + 1) (Nat.le_refl _) h1
      rw [show lo + 1 - 1 = lo from rfl] at n3
      refine pk_le (lo + 1) 0 (fun z => absurd z (by omega)) (fun _ => ⟨pk_in (lo + 1) 40 (by omega), pk_lt n len (fun z => ?_) (fun z => ?_) (hx := by rw [nI_clamp (by omega), n2])⟩)
      · refine ⟨h - (k + 1) + 1, up (lo + 1) h1 h2 (Or.inr (fun y => ?_)) (h - (k + 1)) (k + 1) (by omega) (by omega) (fun i i1 i2 => h2 i i1 (by omega))⟩
        have := n3.2 (Eq.trans y e4.symm)
        omega
      · refine nm_r (pk_m1 lo) (ih (by omega) (fun i i1 i2 => ?_))
        by_cases e : i = lo
        · rw [e, n3.1 z, e4]
        · exact h2 i (by omega) i2
  refine ⟨pk_in f 40 (by omega), nm_r (e' := nI k) (by rw [nI_clamp (by omega), ← ek, hR k hk]) (nm_r (nI_1 k) ⟨k + 1, dn k (Nat.le_refl _) (fun i i1 i2 => ?_)⟩)⟩
  rw [show i = k from by omega, ek]
end
end
section
/-! X: weigh, scanGroups, search -/
section
variable {f_opLds f_opSts f_opPop f_opRet f_opJmp f_opJnz f_opCall f_hiddenCall f_hiddenReturn f_hiddenJump f_capacity f_stackLimit f_outLimit f_phase f_count f_held f_mainSize f_sp f_hidden f_outs f_at f_pc f_status f_bestSaving f_bestFrom f_bestLen f_bestCount : Int32} {a_code a_origin a_regs a_cells a_linked a_log a_target a_plainLen a_tailLen a_order a_rank a_shared a_site a_inner a_next a_moved a_trail : Nat → Int32}
variable {post : SX → Prop} {w od : Nat → Nat} {h len v : Nat} {Q : Nat → Nat → Prop}
theorem oz_x8 {k f co : Nat} (h32 : h ≤ 32) (hl : 2 ≤ len) (hlh : len ≤ h) (hk : k ≤ h) (hK : k = oz_K w h f len) (hco : co = oz_co w f len) : ((nI k * (nI len - 1)) - nI co).toInt = oz_V w h f len := by
  have e1 : nI len - 1 = nI (len - 1) := by
    have := nI_pred (len - 1)
    rw [show len - 1 + 1 = len from by omega] at this
    exact this
  have c1 := oz_co1 (w := w) f len
  have c2 : k * (len - 1) ≤ 32 * 32 := Nat.mul_le_mul (by omega) (by omega)
  rw [e1, pk_mul, pk_sub_toInt (by omega) (by omega)]
  unfold oz_V
  rw [← hK, ← hco, Int.natCast_mul, Int.natCast_sub (by omega)]
  rfl
theorem oz_wg98 {x3 x4 x5 x8 z0 : Int32} {tied : Prop} (hz : (z0 = 0 → ¬ tied) ∧ (¬ z0 = 0 → tied))
    (Hk : (x8 ≤ 0 ∨ ¬ (f_bestSaving < x8 ∨ tied)) → post (f_opLds, f_opSts, f_opPop, f_opRet, f_opJmp, f_opJnz, f_opCall, f_hiddenCall, f_hiddenReturn, f_hiddenJump, f_capacity, f_stackLimit, f_outLimit, f_phase, f_count, f_held, f_mainSize, f_sp, f_hidden, f_outs, f_at, f_pc, f_status, f_bestSaving, f_bestFrom, f_bestLen, f_bestCount, a_code, a_origin, a_regs, a_cells, a_linked, a_log, a_target, a_plainLen, a_tailLen, a_order, a_rank, a_shared, a_site, a_inner, a_next, a_moved, a_trail)) (Hr : ¬ x8 ≤ 0 → (f_bestSaving < x8 ∨ tied) → post (f_opLds, f_opSts, f_opPop, f_opRet, f_opJmp, f_opJnz, f_opCall, f_hiddenCall, f_hiddenReturn, f_hiddenJump, f_capacity, f_stackLimit, f_outLimit, f_phase, f_count, f_held, f_mainSize, f_sp, f_hidden, f_outs, f_at, f_pc, f_status, x8, x5, x3, x4, a_code, a_origin, a_regs, a_cells, a_linked, a_log, a_target, a_plainLen, a_tailLen, a_order, a_rank, a_shared, a_site, a_inner, a_next, a_moved, a_trail)) : wX_weigh_98 post x3 x4 x5 x8 z0 f_opLds f_opSts f_opPop f_opRet f_opJmp f_opJnz f_opCall f_hiddenCall f_hiddenReturn f_hiddenJump f_capacity f_stackLimit f_outLimit f_phase f_count f_held f_mainSize f_sp f_hidden f_outs f_at f_pc f_status f_bestSaving f_bestFrom f_bestLen f_bestCount a_code a_origin a_regs a_cells a_linked a_log a_target a_plainLen a_tailLen a_order a_rank a_shared a_site a_inner a_next a_moved a_trail :=
  br_c (fun a => Hk (Or.inl a)) (fun a => br_c (fun b => Hr a (Or.inl b)) (fun b => br_c (fun c => Hk (Or.inr (fun d => d.elim b (hz.1 c)))) (fun c => Hr a (Or.inr (hz.2 c)))))
theorem oz_wg54 {x3 x4 x5 x8 z0 : Int32} (hx : x8 = (x4 * (x3 - 1)) - z0)
    (Hk : (x8 ≤ 0 ∨ ¬ (f_bestSaving < x8 ∨ (x8 = f_bestSaving ∧ (f_bestLen < x3 ∨ x5 < f_bestFrom)))) → post (f_opLds, f_opSts, f_opPop, f_opRet, f_opJmp, f_opJnz, f_opCall, f_hiddenCall, f_hiddenReturn, f_hiddenJump, f_capacity, f_stackLimit, f_outLimit, f_phase, f_count, f_held, f_mainSize, f_sp, f_hidden, f_outs, f_at, f_pc, f_status, f_bestSaving, f_bestFrom, f_bestLen, f_bestCount, a_code, a_origin, a_regs, a_cells, a_linked, a_log, a_target, a_plainLen, a_tailLen, a_order, a_rank, a_shared, a_site, a_inner, a_next, a_moved, a_trail)) (Hr : ¬ x8 ≤ 0 → (f_bestSaving < x8 ∨ (x8 = f_bestSaving ∧ (f_bestLen < x3 ∨ x5 < f_bestFrom))) → post (f_opLds, f_opSts, f_opPop, f_opRet, f_opJmp, f_opJnz, f_opCall, f_hiddenCall, f_hiddenReturn, f_hiddenJump, f_capacity, f_stackLimit, f_outLimit, f_phase, f_count, f_held, f_mainSize, f_sp, f_hidden, f_outs, f_at, f_pc, f_status, x8, x5, x3, x4, a_code, a_origin, a_regs, a_cells, a_linked, a_log, a_target, a_plainLen, a_tailLen, a_order, a_rank, a_shared, a_site, a_inner, a_next, a_moved, a_trail)) : wX_weigh_54 post x3 x4 x5 z0 f_opLds f_opSts f_opPop f_opRet f_opJmp f_opJnz f_opCall f_hiddenCall f_hiddenReturn f_hiddenJump f_capacity f_stackLimit f_outLimit f_phase f_count f_held f_mainSize f_sp f_hidden f_outs f_at f_pc f_status f_bestSaving f_bestFrom f_bestLen f_bestCount a_code a_origin a_regs a_cells a_linked a_log a_target a_plainLen a_tailLen a_order a_rank a_shared a_site a_inner a_next a_moved a_trail := by
  refine nm_r hx.symm (br_c (fun a => br_c (fun b => ?_) (fun b => br_c (fun c => ?_) (fun c => ?_))) (fun a => ?_))
  · exact oz_wg98 (z0 := 1) ⟨fun z => absurd z oz_10, fun _ => ⟨a, Or.inl b⟩⟩ Hk Hr
  · exact oz_wg98 (z0 := 0) ⟨fun _ z => z.2.elim b (fun y => Int32.not_lt.mpr c y), fun z => absurd rfl z⟩ Hk Hr
  · exact oz_wg98 (z0 := 1) ⟨fun z => absurd z oz_10, fun _ => ⟨a, Or.inr (Int32.not_le.mp c)⟩⟩ Hk Hr
  · exact oz_wg98 (z0 := 0) ⟨fun _ z => a z.1, fun z => absurd rfl z⟩ Hk Hr
theorem oz_Xweigh (hc : oz_Cd a_code h w) (hw : ∀ p, p < h → w p / 256 < 18) (h32 : h ≤ 32) (hI : oz_Idx w h a_plainLen a_tailLen a_order a_rank a_shared) (hl : 2 ≤ len) (hlh : len ≤ h) {lo hi : Nat} (hs : oz_Srt (oz_P w h 40) h od) (ho : ∀ k, k < h → a_order k = nI (od k)) (hG : oz_Grp w h len v od lo hi)
    (hQ : ∀ s l, Q s l → l ≤ len) (hB : oz_Bst w h Q f_bestSaving f_bestFrom f_bestLen f_bestCount)
    (H : ∀ a b sv fr ln ct, oz_Bst w h (fun s l => Q s l ∨ (l = len ∧ oz_P w h len s = v)) sv fr ln ct → post (f_opLds, f_opSts, f_opPop, f_opRet, f_opJmp, f_opJnz, f_opCall, f_hiddenCall, f_hiddenReturn, f_hiddenJump, f_capacity, f_stackLimit, f_outLimit, f_phase, f_count, nI h, f_mainSize, f_sp, f_hidden, f_outs, f_at, f_pc, f_status, sv, fr, ln, ct, a_code, a_origin, a_regs, a_cells, a_linked, a_log, a_target, a_plainLen, a_tailLen, a_order, a_rank, a_shared, a, b, a_next, a_moved, a_trail)) : wpX_weigh post (f_opLds, f_opSts, f_opPop, f_opRet, f_opJmp, f_opJnz, f_opCall, f_hiddenCall, f_hiddenReturn, f_hiddenJump, f_capacity, f_stackLimit, f_outLimit, f_phase, f_count, nI h, f_mainSize, f_sp, f_hidden, f_outs, f_at, f_pc, f_status, f_bestSaving, f_bestFrom, f_bestLen, f_bestCount, a_code, a_origin, a_regs, a_cells, a_linked, a_log, a_target, a_plainLen, a_tailLen, a_order, a_rank, a_shared, a_site, a_inner, a_next, a_moved, a_trail) (nI lo) (nI hi) (nI len) := by
  unfold wpX_weigh
  refine oz_Xdisj hI h32 (by omega) (by omega) hs ho hG (fun a b hab => ?_)
  have kh := oz_grle (C := oz_C w h len v) (len := len) h
  refine pk_le 2 (oz_gr (oz_C w h len v) len h).1 (fun k2 => ?_) (fun k2 => H _ _ _ _ _ _ (oz_BstX0 k2 hB))
  obtain ⟨s0, s1, s2⟩ := oz_gr1 (C := oz_C w h len v) (len := len) h (by omega)
  obtain ⟨f, hf, hn⟩ := pk_least (oz_C w h len v) ⟨s0, s2.1⟩
  have hfh := hf.1.2.1
  refine oz_Xfirst h32 hab (by omega) (oz_grf0 hf hn) (fun q hq hz => hn q hq hz.1) ?_
  have e : nI f + nI len - 1 = nI (f + (len - 1)) := by
    rw [nI_add]
    have := nI_pred (f + (len - 1))
    rw [show f + (len - 1) + 1 = f + len from by omega] at this
    exact this
  have wf := hw (f + (len - 1)) (by omega)
  have er : a_code (nI f + nI len - 1).toNatClampNeg >>> ((8 : Int32) &&& 31) = nI (w (f + (len - 1)) / 256) := by
    rw [e]; exact oz_rop (by omega) (by omega) (hc _ (by omega))
  have hK : (oz_gr (oz_C w h len v) len h).1 = oz_K w h f len := by unfold oz_K; rw [hf.2]
  refine ⟨pk_in (f + (len - 1)) 40 (by omega) e, nm_r er (oz_Xends (by omega) (fun t => ?_) (fun t => ?_))⟩
  · have hco : len = oz_co w f len := by unfold oz_co; rw [if_pos t]
    have hx := oz_x8 (w := w) h32 hl hlh kh hK hco
    refine br_f oz_10 (oz_wg54 rfl (fun z => H _ _ _ _ _ _ (oz_BstXk hw h32 hQ hf hn hx ?_ hB)) (fun z y => H _ _ _ _ _ _ (oz_BstXr hw h32 hQ hf hn hx ?_ y hB)))
    · rcases z with z | z
      · have := Int32.le_iff_toInt_le.mp z
        rw [hx, show (0 : Int32).toInt = 0 from by decide] at this
        exact Or.inl this
      · exact Or.inr z
    · have : ¬ (_ : Int) ≤ _ := fun k => z (Int32.le_iff_toInt_le.mpr k)
      rw [hx, show (0 : Int32).toInt = 0 from by decide] at this
      omega
  · have hco : len + 1 = oz_co w f len := by unfold oz_co; rw [if_neg t]
    have hx := oz_x8 (w := w) h32 hl hlh kh hK hco
    rw [nI_1]
    refine br_t rfl (oz_wg54 rfl (fun z => H _ _ _ _ _ _ (oz_BstXk hw h32 hQ hf hn hx ?_ hB)) (fun z y => H _ _ _ _ _ _ (oz_BstXr hw h32 hQ hf hn hx ?_ y hB)))
    · rcases z with z | z
      · have := Int32.le_iff_toInt_le.mp z
        rw [hx, show (0 : Int32).toInt = 0 from by decide] at this
        exact Or.inl this
      · exact Or.inr z
    · have : ¬ (_ : Int) ≤ _ := fun k => z (Int32.le_iff_toInt_le.mpr k)
      rw [hx, show (0 : Int32).toInt = 0 from by decide] at this
      omega
/-- the windows weighed so far -/
def oz_Qs (od : Nat → Nat) (len lo : Nat) : Nat → Nat → Prop := fun s l => l < len ∨ (l = len ∧ ∃ i, i < lo ∧ od i = s)
theorem oz_Qst (hs : oz_Srt (oz_P w h 40) h od) {lo hi : Nat} (hG : oz_Grp w h len v od lo hi) {sv fr ln ct : Int32} (hB : oz_Bst w h (fun s l => oz_Qs od len lo s l ∨ (l = len ∧ oz_P w h len s = v)) sv fr ln ct) : oz_Bst w h (oz_Qs od len hi) sv fr ln ct := by
  refine oz_Bst_c (fun s l e => ?_) hB
  have e1 := e.1
  have e2 := e.2.1
  constructor
  · rintro ((a | ⟨a, i, b, c⟩) | ⟨a, b⟩)
    · exact Or.inl a
    · have := hG.1
      exact Or.inr ⟨a, i, by omega, c⟩
    · obtain ⟨i, i1, i2⟩ := hs.2.2 s (by omega)
      have := (hG.2.2 i i1).2 (by rw [i2]; exact b)
      exact Or.inr ⟨a, i, this.2, i2⟩
  · rintro (a | ⟨a, i, b, c⟩)
    · exact Or.inl (Or.inl a)
    · by_cases z : i < lo
      · exact Or.inl (Or.inr ⟨a, i, z, c⟩)
      · have := (hG.2.2 i (by have := hG.2.1; omega)).1 ⟨by omega, b⟩
        rw [c] at this
        exact Or.inr ⟨a, this⟩
theorem oz_sg4 (hc : oz_Cd a_code h w) (hw : ∀ p, p < h → w p / 256 < 18) (h32 : h ≤ 32) (hI : oz_Idx w h a_plainLen a_tailLen a_order a_rank a_shared) (hl : 2 ≤ len) (hlh : len ≤ h) (hs : oz_Srt (oz_P w h 40) h od) (ho : ∀ k, k < h → a_order k = nI (od k)) (hS : oz_Sh a_shared w h od h)
    (H : ∀ a b sv fr ln ct, oz_Bst w h (oz_Qs od len h) sv fr ln ct → post (f_opLds, f_opSts, f_opPop, f_opRet, f_opJmp, f_opJnz, f_opCall, f_hiddenCall, f_hiddenReturn, f_hiddenJump, f_capacity, f_stackLimit, f_outLimit, f_phase, f_count, nI h, f_mainSize, f_sp, f_hidden, f_outs, f_at, f_pc, f_status, sv, fr, ln, ct, a_code, a_origin, a_regs, a_cells, a_linked, a_log, a_target, a_plainLen, a_tailLen, a_order, a_rank, a_shared, a, b, a_next, a_moved, a_trail)) :
    ∀ d hi lo a b sv fr ln ct, hi + d = h + 1 → lo < hi → lo ≤ h → (hi = h + 1 → lo = h) → (∀ i, lo ≤ i → i < hi → i < h → oz_P w h len (od i) = oz_P w h len (od lo)) → (lo = 0 ∨ lo = h ∨ ¬ oz_P w h len (od (lo - 1)) = oz_P w h len (od lo)) → oz_Bst w h (oz_Qs od len lo) sv fr ln ct →
      wX_scanGroups_4 post (nI len) (d + 1) (nI lo) (nI hi) f_opLds f_opSts f_opPop f_opRet f_opJmp f_opJnz f_opCall f_hiddenCall f_hiddenReturn f_hiddenJump f_capacity f_stackLimit f_outLimit f_phase f_count (nI h) f_mainSize f_sp f_hidden f_outs f_at f_pc f_status sv fr ln ct a_code a_origin a_regs a_cells a_linked a_log a_target a_plainLen a_tailLen a_order a_rank a_shared a b a_next a_moved a_trail := by
  intro d
  induction d with
  | zero =>
    intro hi lo a b sv fr ln ct e1 e2 e3 e4 e5 e6 hB
    have e : lo = h := e4 (by omega)
    subst e
    exact pk_lt lo hi (fun _ => H a b sv fr ln ct hB) (fun z => absurd z (by omega))
  | succ d ih =>
    intro hi lo a b sv fr ln ct e1 e2 e3 e4 e5 e6 hB
    have mon := fun {i j : Nat} (hij : i ≤ j) (hj : j < h) => oz_mon (len := len) hw hs (by omega) hij hj
    -- a group ends at hi
    have fin : (hi = h ∨ ¬ oz_P w h len (od (hi - 1)) = oz_P w h len (od hi)) → wX_scanGroups_30 post (wX_scanGroups_4 post (nI len) (d + 1)) (nI len) (nI lo) (nI hi) f_opLds f_opSts f_opPop f_opRet f_opJmp f_opJnz f_opCall f_hiddenCall f_hiddenReturn f_hiddenJump f_capacity f_stackLimit f_outLimit f_phase f_count (nI h) f_mainSize f_sp f_hidden f_outs f_at f_pc f_status sv fr ln ct a_code a_origin a_regs a_cells a_linked a_log a_target a_plainLen a_tailLen a_order a_rank a_shared a b a_next a_moved a_trail := by
      intro hb
      have hG : oz_Grp w h len (oz_P w h len (od lo)) od lo hi := by
        refine ⟨by omega, by omega, fun i hi' => ⟨fun z => e5 i z.1 z.2 hi', fun z => ⟨?_, ?_⟩⟩⟩
        · by_cases c : lo ≤ i
          · exact c
          · exfalso
            rcases e6 with e6 | e6 | e6
            · omega
            · omega
            · have m1 := mon (i := i) (j := lo - 1) (by omega) (by omega)
              have m2 := mon (i := lo - 1) (j := lo) (by omega) (by omega)
              omega
        · by_cases c : i < hi
          · exact c
          · exfalso
            rcases hb with hb | hb
            · omega
            · have m1 := mon (i := hi) (j := i) (by omega) (by omega)
              have m2 := mon (i := hi - 1) (j := hi) (by omega) (by omega)
              have m3 := e5 (hi - 1) (by omega) (by omega) (by omega)
              omega
      have next : ∀ a b sv fr ln ct, oz_Bst w h (fun s l => oz_Qs od len lo s l ∨ (l = len ∧ oz_P w h len s = oz_P w h len (od lo))) sv fr ln ct → wX_scanGroups_4 post (nI len) (d + 1) (nI hi) (nI (hi + 1)) f_opLds f_opSts f_opPop f_opRet f_opJmp f_opJnz f_opCall f_hiddenCall f_hiddenReturn f_hiddenJump f_capacity f_stackLimit f_outLimit f_phase f_count (nI h) f_mainSize f_sp f_hidden f_outs f_at f_pc f_status sv fr ln ct a_code a_origin a_regs a_cells a_linked a_log a_target a_plainLen a_tailLen a_order a_rank a_shared a b a_next a_moved a_trail := by
        intro a b sv fr ln ct hB'
        refine ih (hi + 1) hi a b sv fr ln ct (by omega) (by omega) (by omega) (fun z => by omega) (fun i i1 i2 i3 => ?_) ?_ (oz_Qst hs hG hB')
        · rw [show i = hi from by omega]
        · rcases hb with hb | hb
          · exact Or.inr (Or.inl hb)
          · exact Or.inr (Or.inr hb)
      refine pk_le (hi - lo) 1 (fun z => nm_r (nI_1 hi) (next _ _ _ _ _ _ (oz_BstX0 ?_ hB))) (fun z => ?_) (hx := pk_sub (by omega))
      · by_cases c : (oz_gr (oz_C w h len (oz_P w h len (od lo))) len h).1 < 2
        · exact c
        · exfalso
          obtain ⟨s, t, st, th, ss, tt⟩ := oz_gr2 (C := oz_C w h len (oz_P w h len (od lo))) (len := len) h (by omega)
          obtain ⟨i, i1, i2⟩ := hs.2.2 s (by omega)
          obtain ⟨j, j1, j2⟩ := hs.2.2 t th
          have hi2 := (hG.2.2 i i1).2 (by rw [i2]; exact ss.1.2)
          have hj2 := (hG.2.2 j j1).2 (by rw [j2]; exact tt.1.2)
          have : i = j := by omega
          rw [this, j2] at i2
          omega
      · refine oz_Xweigh hc hw h32 hI hl hlh hs ho hG (fun s l q => ?_) hB (fun a b sv fr ln ct hB' => nm_r (nI_1 hi) (next a b sv fr ln ct hB'))
        rcases q with q | q
        · omega
        · omega
    refine pk_lt h hi (fun z => absurd z (by omega)) (fun _ => pk_eq hi h (fun z => fin (Or.inl z)) (fun z => ⟨pk_in hi 40 (by omega), ?_⟩))
    obtain ⟨n, n1, n2, n3⟩ := oz_shE (len := len) hw h32 hs hS (i := hi) (by omega) (by omega)
    refine pk_le len n (fun y => nm_r (nI_1 hi) (ih (hi + 1) lo a b sv fr ln ct (by omega) (by omega) e3 (fun x => by omega) (fun i i1 i2 i3 => ?_) e6 hB)) (fun y => fin (Or.inr (fun x => ?_))) (hy := by rw [nI_clamp (by omega), n2])
    · by_cases e : i = hi
      · rw [e, ← n3.1 y]; exact e5 (hi - 1) (by omega) (by omega) (by omega)
      · exact e5 i i1 (by omega) i3
    · have := n3.2 x
      omega
theorem oz_Xscan (hc : oz_Cd a_code h w) (hw : ∀ p, p < h → w p / 256 < 18) (h32 : h ≤ 32) (hI : oz_Idx w h a_plainLen a_tailLen a_order a_rank a_shared) (hl : 2 ≤ len) (hlh : len ≤ h) (hB : oz_Bst w h (fun _ l => l < len) f_bestSaving f_bestFrom f_bestLen f_bestCount)
    (H : ∀ a b sv fr ln ct, oz_Bst w h (fun _ l => l < len + 1) sv fr ln ct → post (f_opLds, f_opSts, f_opPop, f_opRet, f_opJmp, f_opJnz, f_opCall, f_hiddenCall, f_hiddenReturn, f_hiddenJump, f_capacity, f_stackLimit, f_outLimit, f_phase, f_count, nI h, f_mainSize, f_sp, f_hidden, f_outs, f_at, f_pc, f_status, sv, fr, ln, ct, a_code, a_origin, a_regs, a_cells, a_linked, a_log, a_target, a_plainLen, a_tailLen, a_order, a_rank, a_shared, a, b, a_next, a_moved, a_trail)) : wpX_scanGroups post (f_opLds, f_opSts, f_opPop, f_opRet, f_opJmp, f_opJnz, f_opCall, f_hiddenCall, f_hiddenReturn, f_hiddenJump, f_capacity, f_stackLimit, f_outLimit, f_phase, f_count, nI h, f_mainSize, f_sp, f_hidden, f_outs, f_at, f_pc, f_status, f_bestSaving, f_bestFrom, f_bestLen, f_bestCount, a_code, a_origin, a_regs, a_cells, a_linked, a_log, a_target, a_plainLen, a_tailLen, a_order, a_rank, a_shared, a_site, a_inner, a_next, a_moved, a_trail) (nI len) := by
  have hI0 := hI
  obtain ⟨pl, tl, od, hP, hQ, ha, hb, hs, ho, hR, hS⟩ := hI
  refine ⟨h + 1, oz_sg4 hc hw h32 hI0 hl hlh hs ho hS (fun a b sv fr ln ct hB' => H a b sv fr ln ct (oz_Bst_c (fun s l e => ?_) hB')) h 1 0 _ _ _ _ _ _ (by omega) (by omega) (by omega) (fun z => by omega) (fun i i1 i2 i3 => ?_) (Or.inl rfl) (oz_Bst_c (fun s l e => ?_) hB)⟩
  · have := e.2.1
    have := e.1
    constructor
    · rintro (z | z) <;> omega
    · intro z
      by_cases y : l < len
      · exact Or.inl y
      · obtain ⟨i, i1, i2⟩ := hs.2.2 s (by omega)
        exact Or.inr ⟨by omega, i, i1, i2⟩
  · rw [show i = 0 from by omega]
  · constructor
    · intro z; exact Or.inl z
    · rintro (z | ⟨_, i, z, _⟩) <;> omega
theorem oz_se26 (hc : oz_Cd a_code h w) (hw : ∀ p, p < h → w p / 256 < 18) (h32 : h ≤ 32) (hI : oz_Idx w h a_plainLen a_tailLen a_order a_rank a_shared)
    (H : ∀ a b sv fr ln ct, oz_Bst w h (fun _ _ => True) sv fr ln ct → post (f_opLds, f_opSts, f_opPop, f_opRet, f_opJmp, f_opJnz, f_opCall, f_hiddenCall, f_hiddenReturn, f_hiddenJump, f_capacity, f_stackLimit, f_outLimit, f_phase, f_count, nI h, f_mainSize, f_sp, f_hidden, f_outs, f_at, f_pc, f_status, sv, fr, ln, ct, a_code, a_origin, a_regs, a_cells, a_linked, a_log, a_target, a_plainLen, a_tailLen, a_order, a_rank, a_shared, a, b, a_next, a_moved, a_trail)) :
    ∀ d len a b sv fr ln ct, h + 1 - len = d → 2 ≤ len → len < 100 → oz_Bst w h (fun _ l => l < len) sv fr ln ct → wX_search_26 post (d + 1) (nI len) f_opLds f_opSts f_opPop f_opRet f_opJmp f_opJnz f_opCall f_hiddenCall f_hiddenReturn f_hiddenJump f_capacity f_stackLimit f_outLimit f_phase f_count (nI h) f_mainSize f_sp f_hidden f_outs f_at f_pc f_status sv fr ln ct a_code a_origin a_regs a_cells a_linked a_log a_target a_plainLen a_tailLen a_order a_rank a_shared a b a_next a_moved a_trail := by
  intro d
  induction d with
  | zero =>
    intro len a b sv fr ln ct e1 e2 e3 hB
    refine pk_lt h len (fun _ => H a b sv fr ln ct (oz_Bst_c (fun s l e => ⟨fun _ => True.intro, fun _ => ?_⟩) hB)) (fun z => absurd z (by omega))
    have := e.2.1
    omega
  | succ d ih =>
    intro len a b sv fr ln ct e1 e2 e3 hB
    refine pk_lt h len (fun z => absurd z (by omega)) (fun z => ?_)
    refine oz_Xscan hc hw h32 hI e2 z hB (fun a b sv fr ln ct hB' => nm_r (nI_1 len) (ih (len + 1) a b sv fr ln ct (by omega) (by omega) (by omega) hB'))
theorem oz_Xsearch (hc : oz_Cd a_code h w) (hw : ∀ p, p < h → w p / 256 < 18) (h32 : h ≤ 32)
    (H : ∀ t a b o r s st ii sv fr ln ct, oz_Idx w h a b o r s → oz_Bst w h (fun _ _ => True) sv fr ln ct → post (f_opLds, f_opSts, f_opPop, f_opRet, f_opJmp, f_opJnz, f_opCall, f_hiddenCall, f_hiddenReturn, f_hiddenJump, f_capacity, f_stackLimit, f_outLimit, f_phase, f_count, nI h, f_mainSize, f_sp, f_hidden, f_outs, f_at, f_pc, f_status, sv, fr, ln, ct, a_code, a_origin, a_regs, a_cells, a_linked, a_log, t, a, b, o, r, s, st, ii, a_next, a_moved, a_trail)) : wpX_search post (f_opLds, f_opSts, f_opPop, f_opRet, f_opJmp, f_opJnz, f_opCall, f_hiddenCall, f_hiddenReturn, f_hiddenJump, f_capacity, f_stackLimit, f_outLimit, f_phase, f_count, nI h, f_mainSize, f_sp, f_hidden, f_outs, f_at, f_pc, f_status, f_bestSaving, f_bestFrom, f_bestLen, f_bestCount, a_code, a_origin, a_regs, a_cells, a_linked, a_log, a_target, a_plainLen, a_tailLen, a_order, a_rank, a_shared, a_site, a_inner, a_next, a_moved, a_trail) := by
  unfold wpX_search
  refine oz_Xindex hc hw h32 (fun t a b o r s hI => ⟨h + 1 - 2 + 1, ?_⟩)
  refine oz_se26 hc hw h32 hI (fun st ii sv fr ln ct hB => H t a b o r s st ii sv fr ln ct hI hB) (h + 1 - 2) 2 _ _ _ _ _ _ rfl (by omega) (by omega) (oz_Bst_0 (fun s l e z => ?_))
  have := e.1
  omega
end
end
section
/-! X: placeText, relocated, writeBody, moveOrigins, rewrite -/
noncomputable def oz_mvF (I : Nat → Prop) : Nat → Nat
  | 0 => 0
  | p + 1 => @ite _ (I p) (Classical.propDecidable _) (oz_mvF I p) (oz_mvF I p + 1)
theorem oz_mvE (h len : Nat) (site : Nat → Prop) : ∃ mv, oz_Mv h len site mv :=
  ⟨oz_mvF (oz_inn site len), rfl, fun p _ => ⟨fun z => if_pos z, fun z => if_neg z⟩⟩
section
variable {f_opLds f_opSts f_opPop f_opRet f_opJmp f_opJnz f_opCall f_hiddenCall f_hiddenReturn f_hiddenJump f_capacity f_stackLimit f_outLimit f_phase f_count f_held f_mainSize f_sp f_hidden f_outs f_at f_pc f_status f_bestSaving f_bestFrom f_bestLen f_bestCount : Int32} {a_code a_origin a_regs a_cells a_linked a_log a_target a_plainLen a_tailLen a_order a_rank a_shared a_site a_inner a_next a_moved a_trail : Nat → Int32}
variable {w mv og : Nat → Nat} {h len ms cnt F : Nat} {C : Nat → Prop}
theorem oz_Xplace {post : Int32 → SX → Prop} (h32 : h ≤ 32) (hS : oz_Sit C len h a_site a_inner) (hM : oz_Mv h len (oz_site C len) mv) (H : ∀ m, (∀ p, p ≤ h → m p = nI (mv p)) → post (nI (mv h)) (f_opLds, f_opSts, f_opPop, f_opRet, f_opJmp, f_opJnz, f_opCall, f_hiddenCall, f_hiddenReturn, f_hiddenJump, f_capacity, f_stackLimit, f_outLimit, f_phase, f_count, nI h, f_mainSize, f_sp, f_hidden, f_outs, f_at, f_pc, f_status, f_bestSaving, f_bestFrom, f_bestLen, f_bestCount, a_code, a_origin, a_regs, a_cells, a_linked, a_log, a_target, a_plainLen, a_tailLen, a_order, a_rank, a_shared, a_site, a_inner, a_next, m, a_trail)) : wpX_placeText post (f_opLds, f_opSts, f_opPop, f_opRet, f_opJmp, f_opJnz, f_opCall, f_hiddenCall, f_hiddenReturn, f_hiddenJump, f_capacity, f_stackLimit, f_outLimit, f_phase, f_count, nI h, f_mainSize, f_sp, f_hidden, f_outs, f_at, f_pc, f_status, f_bestSaving, f_bestFrom, f_bestLen, f_bestCount, a_code, a_origin, a_regs, a_cells, a_linked, a_log, a_target, a_plainLen, a_tailLen, a_order, a_rank, a_shared, a_site, a_inner, a_next, a_moved, a_trail) := by
  have key : ∀ d p m, p + d = h → (∀ q, q < p → m q = nI (mv q)) → wX_placeText_4 post f_opLds f_opSts f_opPop f_opRet f_opJmp f_opJnz f_opCall f_hiddenCall f_hiddenReturn f_hiddenJump f_capacity f_stackLimit f_outLimit f_phase f_count (nI h) f_mainSize f_sp f_hidden f_outs f_at f_pc f_status f_bestSaving f_bestFrom f_bestLen f_bestCount (d + 1) (nI (mv p)) (nI p) a_code a_origin a_regs a_cells a_linked a_log a_target a_plainLen a_tailLen a_order a_rank a_shared a_site a_inner a_next m a_trail := by
    intro d
    induction d with
    | zero =>
      intro p m hp hm
      have e : p = h := by omega
      subst e
      refine pk_le p p (fun _ => ⟨pk_in p 40 (by omega), nm_r (oz_up (by omega)) (H _ fun q hq => ?_)⟩) (fun z => absurd z (by omega))
      by_cases e : q = p
      · rw [e, pk_us]
      · rw [pk_un e]; exact hm q (by omega)
    | succ d ih =>
      intro p m hp hm
      have hm' : ∀ q, q < p + 1 → upd m p (nI (mv p)) q = nI (mv q) := by
        intro q hq
        by_cases e : q = p
        · rw [e, pk_us]
        · rw [pk_un e]; exact hm q (by omega)
      have g := ih (p + 1) (upd m p (nI (mv p))) (by omega) hm'
      refine pk_le h p (fun z => absurd z (by omega)) (fun _ => ⟨pk_in p 40 (by omega), nm_r (oz_up (by omega)) ⟨pk_in p 40 (by omega), ?_⟩⟩)
      by_cases c : oz_inn (oz_site C len) len p
      · have e1 : ¬ a_inner (nI p).toNatClampNeg = 0 := by rw [nI_clamp (by omega), (hS p (by omega)).2.2.1 c]; decide
        rw [(hM.2 p (by omega)).1 c] at g
        exact br_f e1 (nm_r (nI_1 p) g)
      · have e1 : a_inner (nI p).toNatClampNeg = 0 := by rw [nI_clamp (by omega)]; exact (hS p (by omega)).2.2.2 c
        rw [(hM.2 p (by omega)).2 c] at g
        exact br_t e1 (nm_r (nI_1 _) (nm_r (nI_1 p) g))
  have := key h 0 a_moved (by omega) (fun q hq => absurd hq (by omega))
  rw [hM.1] at this
  exact ⟨h + 1, this⟩
theorem oz_Xrel {post : Int32 → Prop} {x : Nat} (hx : x < 2 ^ 31) (hm : oz_aim (x / 256) → a_moved (x % 32) = nI (mv (x % 32))) (H : post (nI (oz_rel mv x))) : wpX_relocated post (f_opLds, f_opSts, f_opPop, f_opRet, f_opJmp, f_opJnz, f_opCall, f_hiddenCall, f_hiddenReturn, f_hiddenJump, f_capacity, f_stackLimit, f_outLimit, f_phase, f_count, f_held, f_mainSize, f_sp, f_hidden, f_outs, f_at, f_pc, f_status, f_bestSaving, f_bestFrom, f_bestLen, f_bestCount, a_code, a_origin, a_regs, a_cells, a_linked, a_log, a_target, a_plainLen, a_tailLen, a_order, a_rank, a_shared, a_site, a_inner, a_next, a_moved, a_trail) (nI x) := by
  refine nm_r (oz_sh8 hx) (nm_r (oz_b31 hx) ?_)
  refine oz_Xaims (by omega) (fun a => br_f oz_10 ⟨pk_in (x % 32) 40 (by omega), ?_⟩) (fun a => br_t rfl ?_)
  · rw [nI_clamp (by omega), hm a, pk_sub (by omega), nI_add]
    unfold oz_rel at H
    rw [if_pos a] at H
    exact H
  · unfold oz_rel at H
    rw [if_neg a] at H
    exact H
/-- the body's words -/
def oz_Bw (w mv : Nat → Nat) (F : Nat) (tail : Prop) (nx : Nat → Int32) (top i : Nat) : Prop := ∀ j, j < i → ((¬ tail ∧ (w (F + j) / 256 = 5 ∨ w (F + j) / 256 = 6)) → nx (top + j) = nI (oz_rel mv (w (F + j)) + 1)) ∧ (¬ (¬ tail ∧ (w (F + j) / 256 = 5 ∨ w (F + j) / 256 = 6)) → nx (top + j) = nI (oz_rel mv (w (F + j))))
theorem oz_Xbody {post : Int32 → SX → Prop} {tail : Prop} {tl : Int32} (htl : (tail → tl = 1) ∧ (¬ tail → tl = 0)) (hc : oz_Cd a_code h w) (hw : ∀ p, p < h → w p / 256 < 18) (h32 : h ≤ 32) (sT : ∀ p, p < h → oz_aim (w p / 256) → w p % 32 < h) (hF : F + len ≤ h) (hl : 0 < len) (hm : ∀ p, p ≤ h → a_moved p = nI (mv p)) (hmv : ∀ p, p ≤ h → mv p ≤ p) {top : Nat} (ht : top + len + 1 ≤ 40)
    (H : ∀ nx, (∀ P, P < top → nx P = a_next P) → oz_Bw w mv F tail nx top len → (¬ tail → nx (top + len) = nI 4096) → (tail → post (nI (top + len)) (f_opLds, f_opSts, f_opPop, f_opRet, f_opJmp, f_opJnz, f_opCall, f_hiddenCall, f_hiddenReturn, f_hiddenJump, f_capacity, f_stackLimit, f_outLimit, f_phase, f_count, nI h, f_mainSize, f_sp, f_hidden, f_outs, f_at, f_pc, f_status, f_bestSaving, nI F, nI len, f_bestCount, a_code, a_origin, a_regs, a_cells, a_linked, a_log, a_target, a_plainLen, a_tailLen, a_order, a_rank, a_shared, a_site, a_inner, nx, a_moved, a_trail)) ∧ (¬ tail → post (nI (top + len + 1)) (f_opLds, f_opSts, f_opPop, f_opRet, f_opJmp, f_opJnz, f_opCall, f_hiddenCall, f_hiddenReturn, f_hiddenJump, f_capacity, f_stackLimit, f_outLimit, f_phase, f_count, nI h, f_mainSize, f_sp, f_hidden, f_outs, f_at, f_pc, f_status, f_bestSaving, nI F, nI len, f_bestCount, a_code, a_origin, a_regs, a_cells, a_linked, a_log, a_target, a_plainLen, a_tailLen, a_order, a_rank, a_shared, a_site, a_inner, nx, a_moved, a_trail))) : wpX_writeBody post (f_opLds, f_opSts, f_opPop, f_opRet, f_opJmp, f_opJnz, f_opCall, f_hiddenCall, f_hiddenReturn, f_hiddenJump, f_capacity, f_stackLimit, f_outLimit, f_phase, f_count, nI h, f_mainSize, f_sp, f_hidden, f_outs, f_at, f_pc, f_status, f_bestSaving, nI F, nI len, f_bestCount, a_code, a_origin, a_regs, a_cells, a_linked, a_log, a_target, a_plainLen, a_tailLen, a_order, a_rank, a_shared, a_site, a_inner, a_next, a_moved, a_trail) (nI top) tl := by
  have key : ∀ d i nx, i + d = len → (∀ P, P < top → nx P = a_next P) → oz_Bw w mv F tail nx top i → wX_writeBody_5 post tl f_opLds f_opSts f_opPop f_opRet f_opJmp f_opJnz f_opCall f_hiddenCall f_hiddenReturn f_hiddenJump f_capacity f_stackLimit f_outLimit f_phase f_count (nI h) f_mainSize f_sp f_hidden f_outs f_at f_pc f_status f_bestSaving (nI F) (nI len) f_bestCount (d + 1) (nI (top + i)) (nI i) a_code a_origin a_regs a_cells a_linked a_log a_target a_plainLen a_tailLen a_order a_rank a_shared a_site a_inner nx a_moved a_trail := by
    intro d
    induction d with
    | zero =>
      intro i nx hi h1 h2
      have e : i = len := by omega
      subst e
      refine pk_le i i (fun _ => ?_) (fun z => absurd z (by omega))
      by_cases t : tail
      · have e1 : ¬ tl = 0 := by rw [htl.1 t]; decide
        exact br_f e1 ((H nx h1 h2 (fun z => absurd t z)).1 t)
      · refine br_t (htl.2 t) ⟨pk_in (top + i) 40 (by omega), nm_r (oz_up (by omega)) (nm_r (nI_1 _) ((H _ (fun P hP => ?_) (fun j hj => ?_) (fun _ => pk_us)).2 t))⟩
        · rw [pk_un (by omega)]; exact h1 P hP
        · rw [pk_un (by omega)]; exact h2 j hj
    | succ d ih =>
      intro i nx hi h1 h2
      have wi := hw (F + i) (by omega)
      have er : a_code (nI F + nI i).toNatClampNeg = nI (w (F + i)) := by rw [nI_add, nI_clamp (by omega), hc _ (by omega)]
      have hmm : oz_aim (w (F + i) / 256) → mv (w (F + i) % 32) < 32 := fun a => by
        have b := sT (F + i) (by omega) a
        have := hmv (w (F + i) % 32) (by omega)
        omega
      have rr := oz_relop (mv := mv) (x := w (F + i)) hmm
      have hrl : oz_rel mv (w (F + i)) < 2 ^ 31 := by have := rr.1; omega
      have key2 : ∀ y, ((¬ tail ∧ (w (F + i) / 256 = 5 ∨ w (F + i) / 256 = 6)) → y = oz_rel mv (w (F + i)) + 1) → (¬ (¬ tail ∧ (w (F + i) / 256 = 5 ∨ w (F + i) / 256 = 6)) → y = oz_rel mv (w (F + i))) → wX_writeBody_5 post tl f_opLds f_opSts f_opPop f_opRet f_opJmp f_opJnz f_opCall f_hiddenCall f_hiddenReturn f_hiddenJump f_capacity f_stackLimit f_outLimit f_phase f_count (nI h) f_mainSize f_sp f_hidden f_outs f_at f_pc f_status f_bestSaving (nI F) (nI len) f_bestCount (d + 1) (nI (top + i + 1)) (nI (i + 1)) a_code a_origin a_regs a_cells a_linked a_log a_target a_plainLen a_tailLen a_order a_rank a_shared a_site a_inner (upd nx (top + i) (nI y)) a_moved a_trail := by
        intro y y1 y2
        refine ih (i + 1) _ (by omega) (fun P hP => by rw [pk_un (by omega)]; exact h1 P hP) (fun j hj => ?_)
        by_cases e : j = i
        · rw [e, pk_us]
          exact ⟨fun z => by rw [y1 z], fun z => by rw [y2 z]⟩
        · rw [pk_un (by omega)]; exact h2 j (by omega)
      have d60 : ¬ (¬ tail ∧ (w (F + i) / 256 = 5 ∨ w (F + i) / 256 = 6)) → wX_writeBody_60 post (wX_writeBody_5 post tl f_opLds f_opSts f_opPop f_opRet f_opJmp f_opJnz f_opCall f_hiddenCall f_hiddenReturn f_hiddenJump f_capacity f_stackLimit f_outLimit f_phase f_count (nI h) f_mainSize f_sp f_hidden f_outs f_at f_pc f_status f_bestSaving (nI F) (nI len) f_bestCount (d + 1)) tl (nI (top + i)) (nI i) (nI (oz_rel mv (w (F + i)))) f_opLds f_opSts f_opPop f_opRet f_opJmp f_opJnz f_opCall f_hiddenCall f_hiddenReturn f_hiddenJump f_capacity f_stackLimit f_outLimit f_phase f_count (nI h) f_mainSize f_sp f_hidden f_outs f_at f_pc f_status f_bestSaving (nI F) (nI len) f_bestCount a_code a_origin a_regs a_cells a_linked a_log a_target a_plainLen a_tailLen a_order a_rank a_shared a_site a_inner nx a_moved a_trail := fun z =>
        br_t rfl ⟨pk_in (top + i) 40 (by omega), nm_r (oz_up (by omega)) (nm_r (nI_1 _) (nm_r (nI_1 _) (key2 _ (fun y => absurd y z) (fun _ => rfl))))⟩
      have d56 : (¬ tail ∧ (w (F + i) / 256 = 5 ∨ w (F + i) / 256 = 6)) → wX_writeBody_56 post (wX_writeBody_5 post tl f_opLds f_opSts f_opPop f_opRet f_opJmp f_opJnz f_opCall f_hiddenCall f_hiddenReturn f_hiddenJump f_capacity f_stackLimit f_outLimit f_phase f_count (nI h) f_mainSize f_sp f_hidden f_outs f_at f_pc f_status f_bestSaving (nI F) (nI len) f_bestCount (d + 1)) tl (nI (top + i)) (nI i) (nI (oz_rel mv (w (F + i)))) f_opLds f_opSts f_opPop f_opRet f_opJmp f_opJnz f_opCall f_hiddenCall f_hiddenReturn f_hiddenJump f_capacity f_stackLimit f_outLimit f_phase f_count (nI h) f_mainSize f_sp f_hidden f_outs f_at f_pc f_status f_bestSaving (nI F) (nI len) f_bestCount a_code a_origin a_regs a_cells a_linked a_log a_target a_plainLen a_tailLen a_order a_rank a_shared a_site a_inner nx a_moved a_trail := fun z =>
        br_f oz_10 ⟨pk_in (top + i) 40 (by omega), nm_r (e' := upd nx (top + i) (nI (oz_rel mv (w (F + i)) + 1))) (by rw [oz_up (by omega), nI_1]) (nm_r (nI_1 _) (nm_r (nI_1 _) (key2 _ (fun _ => rfl) (fun y => absurd z y))))⟩
      refine pk_le len i (fun z => absurd z (by omega)) (fun _ => ⟨pk_in (F + i) 40 (by omega) (nI_add F i), ?_⟩)
      rw [er]
      refine oz_Xrel (by omega) (fun a => hm _ (by have := sT (F + i) (by omega) a; omega)) (nm_r (oz_sh8 hrl) ?_)
      rw [rr.1]
      by_cases t : tail
      · have e1 : ¬ tl = 0 := by rw [htl.1 t]; decide
        exact br_f e1 (d60 (fun z => z.1 t))
      · refine br_t (htl.2 t) (pk_eq (w (F + i) / 256) 5 (fun a => d56 ⟨t, Or.inl a⟩) (fun a => pk_eq (w (F + i) / 256) 6 (fun b => d56 ⟨t, Or.inr b⟩) (fun b => d60 (fun z => ?_))))
        rcases z.2 with z | z
        · exact a z
        · exact b z
  exact ⟨len + 1, key len 0 a_next (by omega) (fun _ _ => rfl) (fun j hj => absurd hj (by omega))⟩
theorem oz_Xmoveo {post : SX → Prop} (h32 : h ≤ 32) (hms : ms ≤ h) (hmsn : ¬ oz_inn (oz_site C len) len ms) (hS : oz_Sit C len h a_site a_inner) (hM : oz_Mv h len (oz_site C len) mv) (hm : ∀ p, p ≤ h → a_moved p = nI (mv p))
    (H : ∀ o, (∀ p, p < ms → ¬ oz_inn (oz_site C len) len p → o (mv p) = a_origin p) → o (mv ms) = f_count → post (f_opLds, f_opSts, f_opPop, f_opRet, f_opJmp, f_opJnz, f_opCall, f_hiddenCall, f_hiddenReturn, f_hiddenJump, f_capacity, f_stackLimit, f_outLimit, f_phase, f_count, f_held, nI (mv ms), f_sp, f_hidden, f_outs, f_at, f_pc, f_status, f_bestSaving, f_bestFrom, f_bestLen, f_bestCount, a_code, o, a_regs, a_cells, a_linked, a_log, a_target, a_plainLen, a_tailLen, a_order, a_rank, a_shared, a_site, a_inner, a_next, a_moved, a_trail)) : wpX_moveOrigins post (f_opLds, f_opSts, f_opPop, f_opRet, f_opJmp, f_opJnz, f_opCall, f_hiddenCall, f_hiddenReturn, f_hiddenJump, f_capacity, f_stackLimit, f_outLimit, f_phase, f_count, f_held, nI ms, f_sp, f_hidden, f_outs, f_at, f_pc, f_status, f_bestSaving, f_bestFrom, f_bestLen, f_bestCount, a_code, a_origin, a_regs, a_cells, a_linked, a_log, a_target, a_plainLen, a_tailLen, a_order, a_rank, a_shared, a_site, a_inner, a_next, a_moved, a_trail) := by
  have mle := oz_mvle hM
  have key : ∀ d i o, i + d = ms → (∀ p, p < i → ¬ oz_inn (oz_site C len) len p → o (mv p) = a_origin p) → (∀ p, i ≤ p → o p = a_origin p) → wX_moveOrigins_2 post f_opLds f_opSts f_opPop f_opRet f_opJmp f_opJnz f_opCall f_hiddenCall f_hiddenReturn f_hiddenJump f_capacity f_stackLimit f_outLimit f_phase f_count f_held (nI ms) f_sp f_hidden f_outs f_at f_pc f_status f_bestSaving f_bestFrom f_bestLen f_bestCount (d + 1) (nI i) a_code o a_regs a_cells a_linked a_log a_target a_plainLen a_tailLen a_order a_rank a_shared a_site a_inner a_next a_moved a_trail := by
    intro d
    induction d with
    | zero =>
      intro i o hi h1 h2
      have e : i = ms := by omega
      subst e
      have ml := mle i hms
      refine pk_le i i (fun _ => ⟨pk_in i 40 (by omega), nm_r (e' := nI (mv i)) (oz_rd (by omega) (hm i hms)) ⟨pk_in (mv i) 40 (by omega), nm_r (oz_up (by omega)) (H _ (fun p hp hn => ?_) pk_us)⟩⟩) (fun z => absurd z (by omega))
      have := oz_mvlt hM hn hp hms
      rw [pk_un (by omega)]
      exact h1 p hp hn
    | succ d ih =>
      intro i o hi h1 h2
      have ml := mle i (by omega)
      refine pk_le ms i (fun z => absurd z (by omega)) (fun _ => ⟨pk_in i 40 (by omega), ?_⟩)
      by_cases c : oz_inn (oz_site C len) len i
      · have e1 : ¬ a_inner (nI i).toNatClampNeg = 0 := by rw [nI_clamp (by omega), (hS i (by omega)).2.2.1 c]; decide
        refine br_f e1 (nm_r (nI_1 i) (ih (i + 1) o (by omega) (fun p hp hn => ?_) (fun p hp => h2 p (by omega))))
        by_cases e : p = i
        · rw [e] at hn; exact absurd c hn
        · exact h1 p (by omega) hn
      · have e1 : a_inner (nI i).toNatClampNeg = 0 := by rw [nI_clamp (by omega)]; exact (hS i (by omega)).2.2.2 c
        have e2 : a_moved (nI i).toNatClampNeg = nI (mv i) := oz_rd (by omega) (hm i (by omega))
        refine br_t e1 ⟨pk_in i 40 (by omega), pk_in i 40 (by omega), ?_⟩
        rw [e2]
        refine ⟨pk_in (mv i) 40 (by omega), nm_r (e' := upd o (mv i) (a_origin i)) (by rw [nI_clamp (by omega), nI_clamp (by omega), h2 i (Nat.le_refl _)]) (nm_r (nI_1 i) (ih (i + 1) _ (by omega) (fun p hp hn => ?_) (fun p hp => ?_)))⟩
        · by_cases e : p = i
          · rw [e, pk_us]
          · have := oz_mvlt hM hn (show p < i by omega) (by omega)
            rw [pk_un (by omega)]
            exact h1 p (by omega) hn
        · rw [pk_un (by omega)]; exact h2 p (by omega)
  exact ⟨ms + 1, key ms 0 a_origin (by omega) (fun p hp => absurd hp (by omega)) (fun _ _ => rfl)⟩
/-- the words behind the loop over the text -/
def oz_Nw (w mv : Nat → Nat) (C : Nat → Prop) (len en : Nat) (nx : Nat → Int32) (i : Nat) : Prop := ∀ p, p < i → ¬ oz_inn (oz_site C len) len p → (oz_site C len p → nx (mv p) = nI en) ∧ (¬ oz_site C len p → nx (mv p) = nI (oz_rel mv (w p)))
theorem oz_Xtext {post : SX → Prop} {tl : Int32} {x3 : Int32} {en : Nat} (hc : oz_Cd a_code h w) (hw : ∀ p, p < h → w p / 256 < 18) (h32 : h ≤ 32) (sT : ∀ p, p < h → oz_aim (w p / 256) → w p % 32 < h) (hS : oz_Sit C len h a_site a_inner) (hM : oz_Mv h len (oz_site C len) mv) (hm : ∀ p, p ≤ h → a_moved p = nI (mv p))
    (H : ∀ nx, oz_Nw w mv C len en nx h → wpX_writeBody (fun r_141 u => match u with | (f_opLds, f_opSts, f_opPop, f_opRet, f_opJmp, f_opJnz, f_opCall, f_hiddenCall, f_hiddenReturn, f_hiddenJump, f_capacity, f_stackLimit, f_outLimit, f_phase, f_count, f_held, f_mainSize, f_sp, f_hidden, f_outs, f_at, f_pc, f_status, f_bestSaving, f_bestFrom, f_bestLen, f_bestCount, a_code, a_origin, a_regs, a_cells, a_linked, a_log, a_target, a_plainLen, a_tailLen, a_order, a_rank, a_shared, a_site, a_inner, a_next, a_moved, a_trail) => (wpX_moveOrigins (fun u => match u with | (f_opLds, f_opSts, f_opPop, f_opRet, f_opJmp, f_opJnz, f_opCall, f_hiddenCall, f_hiddenReturn, f_hiddenJump, f_capacity, f_stackLimit, f_outLimit, f_phase, f_count, f_held, f_mainSize, f_sp, f_hidden, f_outs, f_at, f_pc, f_status, f_bestSaving, f_bestFrom, f_bestLen, f_bestCount, a_code, a_origin, a_regs, a_cells, a_linked, a_log, a_target, a_plainLen, a_tailLen, a_order, a_rank, a_shared, a_site, a_inner, a_next, a_moved, a_trail) => (∃ n144 : Nat, wX_rewrite_144 post r_141 f_opLds f_opSts f_opPop f_opRet f_opJmp f_opJnz f_opCall f_hiddenCall f_hiddenReturn f_hiddenJump f_capacity f_stackLimit f_outLimit f_phase f_count f_held f_mainSize f_sp f_hidden f_outs f_at f_pc f_status f_bestSaving f_bestFrom f_bestLen f_bestCount n144 0 a_code a_origin a_regs a_cells a_linked a_log a_target a_plainLen a_tailLen a_order a_rank a_shared a_site a_inner a_next a_moved a_trail)) (f_opLds, f_opSts, f_opPop, f_opRet, f_opJmp, f_opJnz, f_opCall, f_hiddenCall, f_hiddenReturn, f_hiddenJump, f_capacity, f_stackLimit, f_outLimit, f_phase, f_count, f_held, f_mainSize, f_sp, f_hidden, f_outs, f_at, f_pc, f_status, f_bestSaving, f_bestFrom, f_bestLen, f_bestCount, a_code, a_origin, a_regs, a_cells, a_linked, a_log, a_target, a_plainLen, a_tailLen, a_order, a_rank, a_shared, a_site, a_inner, a_next, a_moved, a_trail))) (f_opLds, f_opSts, f_opPop, f_opRet, f_opJmp, f_opJnz, f_opCall, f_hiddenCall, f_hiddenReturn, f_hiddenJump, f_capacity, f_stackLimit, f_outLimit, f_phase, f_count, nI h, f_mainSize, f_sp, f_hidden, f_outs, f_at, f_pc, f_status, f_bestSaving, f_bestFrom, f_bestLen, f_bestCount, a_code, a_origin, a_regs, a_cells, a_linked, a_log, a_target, a_plainLen, a_tailLen, a_order, a_rank, a_shared, a_site, a_inner, nx, a_moved, a_trail) x3 tl) :
    ∀ d i nx, i + d = h → oz_Nw w mv C len en nx i → wX_rewrite_66 post tl x3 (nI en) f_opLds f_opSts f_opPop f_opRet f_opJmp f_opJnz f_opCall f_hiddenCall f_hiddenReturn f_hiddenJump f_capacity f_stackLimit f_outLimit f_phase f_count (nI h) f_mainSize f_sp f_hidden f_outs f_at f_pc f_status f_bestSaving f_bestFrom f_bestLen f_bestCount (d + 1) (nI i) a_code a_origin a_regs a_cells a_linked a_log a_target a_plainLen a_tailLen a_order a_rank a_shared a_site a_inner nx a_moved a_trail := by
  have mle := oz_mvle hM
  intro d
  induction d with
  | zero =>
    intro i nx hi hn
    have e : i = h := by omega
    subst e
    exact pk_le i i (fun _ => H nx hn) (fun z => absurd z (by omega))
  | succ d ih =>
    intro i nx hi hn
    have ml := mle i (by omega)
    have wi := hw i (by omega)
    have ci := hc i (by omega)
    have e2 : a_moved (nI i).toNatClampNeg = nI (mv i) := oz_rd (by omega) (hm i (by omega))
    have e3 : a_code (nI i).toNatClampNeg = nI (w i) := oz_rd (by omega) ci
    have g : ¬ oz_inn (oz_site C len) len i → ∀ y, (oz_site C len i → y = en) → (¬ oz_site C len i → y = oz_rel mv (w i)) → wX_rewrite_66 post tl x3 (nI en) f_opLds f_opSts f_opPop f_opRet f_opJmp f_opJnz f_opCall f_hiddenCall f_hiddenReturn f_hiddenJump f_capacity f_stackLimit f_outLimit f_phase f_count (nI h) f_mainSize f_sp f_hidden f_outs f_at f_pc f_status f_bestSaving f_bestFrom f_bestLen f_bestCount (d + 1) (nI (i + 1)) a_code a_origin a_regs a_cells a_linked a_log a_target a_plainLen a_tailLen a_order a_rank a_shared a_site a_inner (upd nx (mv i) (nI y)) a_moved a_trail := by
      intro hni y y1 y2
      refine ih (i + 1) _ (by omega) (fun p hp hpn => ?_)
      by_cases e : p = i
      · rw [e, pk_us]
        exact ⟨fun z => by rw [y1 z], fun z => by rw [y2 z]⟩
      · have := oz_mvlt hM hpn (show p < i by omega) (by omega)
        rw [pk_un (by omega)]
        exact hn p (by omega) hpn
    refine pk_le h i (fun z => absurd z (by omega)) (fun _ => ⟨pk_in i 40 (by omega), ?_⟩)
    by_cases c : oz_inn (oz_site C len) len i
    · have e1 : ¬ a_inner (nI i).toNatClampNeg = 0 := by rw [nI_clamp (by omega), (hS i (by omega)).2.2.1 c]; decide
      refine br_f e1 (nm_r (nI_1 i) (ih (i + 1) nx (by omega) (fun p hp hpn => ?_)))
      by_cases e : p = i
      · rw [e] at hpn; exact absurd c hpn
      · exact hn p (by omega) hpn
    · have e1 : a_inner (nI i).toNatClampNeg = 0 := by rw [nI_clamp (by omega)]; exact (hS i (by omega)).2.2.2 c
      refine br_t e1 ⟨pk_in i 40 (by omega), pk_in i 40 (by omega), ?_⟩
      rw [e2, e3]
      by_cases s : oz_site C len i
      · have e4 : ¬ a_site (nI i).toNatClampNeg = 0 := by rw [nI_clamp (by omega), (hS i (by omega)).1 s]; decide
        exact br_f e4 ⟨pk_in (mv i) 40 (by omega), nm_r (oz_up (by omega)) (nm_r (nI_1 i) (g c en (fun _ => rfl) (fun z => absurd s z)))⟩
      · have e4 : a_site (nI i).toNatClampNeg = 0 := by rw [nI_clamp (by omega)]; exact (hS i (by omega)).2.1 s
        refine br_t e4 ⟨pk_in i 40 (by omega), oz_Xrel (by omega) (fun a => hm _ (by have := sT i (by omega) a; omega)) ⟨pk_in (mv i) 40 (by omega), nm_r (oz_up (by omega)) (nm_r (nI_1 i) (g c _ (fun z => absurd z s) (fun _ => rfl)))⟩⟩
theorem oz_Xcopy {post : SX → Prop} {n : Nat} (hn : n ≤ 40) (H : ∀ c, (∀ p, p < n → c p = a_next p) → post (f_opLds, f_opSts, f_opPop, f_opRet, f_opJmp, f_opJnz, f_opCall, f_hiddenCall, f_hiddenReturn, f_hiddenJump, f_capacity, f_stackLimit, f_outLimit, f_phase, f_count, nI n, f_mainSize, f_sp, f_hidden, f_outs, f_at, f_pc, f_status, f_bestSaving, f_bestFrom, f_bestLen, f_bestCount, c, a_origin, a_regs, a_cells, a_linked, a_log, a_target, a_plainLen, a_tailLen, a_order, a_rank, a_shared, a_site, a_inner, a_next, a_moved, a_trail)) : ∀ d i c, i + d = n → (∀ p, p < i → c p = a_next p) → wX_rewrite_144 post (nI n) f_opLds f_opSts f_opPop f_opRet f_opJmp f_opJnz f_opCall f_hiddenCall f_hiddenReturn f_hiddenJump f_capacity f_stackLimit f_outLimit f_phase f_count f_held f_mainSize f_sp f_hidden f_outs f_at f_pc f_status f_bestSaving f_bestFrom f_bestLen f_bestCount (d + 1) (nI i) c a_origin a_regs a_cells a_linked a_log a_target a_plainLen a_tailLen a_order a_rank a_shared a_site a_inner a_next a_moved a_trail := by
  intro d
  induction d with
  | zero =>
    intro i c hi hc
    have e : i = n := by omega
    subst e
    exact pk_le i i (fun _ => H c hc) (fun z => absurd z (by omega))
  | succ d ih =>
    intro i c hi hc
    refine pk_le n i (fun z => absurd z (by omega)) (fun _ => ⟨pk_in i 40 (by omega), pk_in i 40 (by omega), nm_r (e' := upd c i (a_next i)) (by rw [nI_clamp (by omega)]) (nm_r (nI_1 i) (ih (i + 1) _ (by omega) (fun p hp => ?_)))⟩)
    by_cases e : p = i
    · rw [e, pk_us]
    · rw [pk_un e]; exact hc p (by omega)
end
end
section
/-! X: rewrite as a whole; rewindMachine; outline's loop -/
/-- the held form as the arrays hold it -/
def oz_Hf (code origin : Nat → Int32) (w : Nat → Nat) (h ms : Nat) (og E : Nat → Nat) (cnt r : Nat) : Prop :=
  oz_Cd code h w ∧ (∀ p, p ≤ ms → origin p = nI (og p)) ∧ oz_St w h ms og cnt r ∧ ∃ R, oz_Dy R w h ms og E cnt r
theorem oz_newHf {code origin c o nx nx2 : Nat → Int32} {w mv og E : Nat → Nat} {h ms cnt r L F en h' : Nat} {C : Nat → Prop} {tail : Prop}
    (hH : oz_Hf code origin w h ms og E cnt r) (hr : r ≤ 8) (hW : oz_Win w h L F (oz_site C L) tail) (hM : oz_Mv h L (oz_site C L) mv)
    (hnx : oz_Nw w mv C L en nx h) (n1 : ∀ P, P < mv h → nx2 P = nx P) (n2 : oz_Bw w mv F tail nx2 (mv h) L) (n3 : ¬ tail → nx2 (mv h + L) = nI 4096)
    (hen : (tail → en = 17 * 256 + mv h) ∧ (¬ tail → en = 15 * 256 + mv h)) (hh : (tail → h' = mv h + L) ∧ (¬ tail → h' = mv h + L + 1)) (hlt : h' < h) (c1 : ∀ p, p < h' → c p = nx2 p)
    (o1 : ∀ p, p < ms → ¬ oz_inn (oz_site C L) L p → o (mv p) = origin p) (o2 : o (mv ms) = nI cnt) : ∃ w' og', oz_Hf c o w' h' (mv ms) og' E cnt (r + 1) := by
  obtain ⟨hc, ho, hSt, R, hDy⟩ := hH
  have hSt0 := hSt
  obtain ⟨⟨c32, hcn, hms, og0, ogm⟩, sOp, sT, sNR, sDe, sMain, sTm, sOg, sB, sLs⟩ := hSt
  have h2 := hW.1
  have hf := (hW.2.2.1 F hW.2.1).1
  have hmsn := oz_msni hW hms sB
  have mle := oz_mvle hM
  have mh := mle h (Nat.le_refl _)
  have rl : ∀ p, p < h → oz_rel mv (w p) < 2 ^ 30 := by
    intro p hp
    have a := oz_relop (mv := mv) (x := w p) fun z => by
      have b := sT p hp z
      have := mle (w p % 32) (by omega)
      omega
    have := sOp p hp
    have := a.1
    omega
  have hogl : ∀ p, p ≤ ms → og p ≤ cnt := fun p hp => (hDy.2.1 p [] (og p) 0 (hDy.1 p 0 hp)).2.1
  have hen' : en < 2 ^ 30 := by
    by_cases t : tail
    · rw [hen.1 t]; omega
    · rw [hen.2 t]; omega
  have hN : oz_New w h L F (oz_site C L) tail mv (fun P => (nx2 P).toNatClampNeg) h' := by
    refine ⟨fun p hp hs => ?_, fun p hp hi hs => ?_, fun i hi => ⟨fun z => ?_, fun z => ?_⟩, fun t => ⟨?_, hh.2 t⟩, hh.1, hlt⟩
    · have hi := oz_sni hW hs
      have e : nx2 (mv p) = nI en := by rw [n1 _ (oz_mvlt hM hi hp (Nat.le_refl _))]; exact (hnx p hp hi).1 hs
      refine ⟨fun t => ?_, fun t => ?_⟩
      · show (nx2 (mv p)).toNatClampNeg = _
        rw [e, nI_clamp (by omega)]; exact hen.1 t
      · show (nx2 (mv p)).toNatClampNeg = _
        rw [e, nI_clamp (by omega)]; exact hen.2 t
    · have e : nx2 (mv p) = nI (oz_rel mv (w p)) := by rw [n1 _ (oz_mvlt hM hi hp (Nat.le_refl _))]; exact (hnx p hp hi).2 hs
      show (nx2 (mv p)).toNatClampNeg = _
      have := rl p hp
      rw [e, nI_clamp (by omega)]
    · have := rl (F + i) (by omega)
      show (nx2 (mv h + i)).toNatClampNeg = _
      rw [(n2 i hi).1 z, nI_clamp (by omega)]
    · have := rl (F + i) (by omega)
      show (nx2 (mv h + i)).toNatClampNeg = _
      rw [(n2 i hi).2 z, nI_clamp (by omega)]
    · show (nx2 (mv h + L)).toNatClampNeg = _
      rw [n3 t, nI_clamp (by omega)]
  have hO : oz_Og ms L (oz_site C L) mv og (fun P => (o P).toNatClampNeg) cnt := by
    refine ⟨fun p hp hi => ?_, ?_⟩
    · show (o (mv p)).toNatClampNeg = _
      have := hogl p (by omega)
      rw [o1 p hp hi, ho p (by omega), nI_clamp (by omega)]
    · show (o (mv ms)).toNatClampNeg = _
      rw [o2, nI_clamp (by omega)]
  refine ⟨fun P => (nx2 P).toNatClampNeg, fun P => (o P).toNatClampNeg, ?_, ?_, oz_St_new hSt0 hr hW hM hN hO, _, oz_Dy_new hSt0 hr hDy hW hM hN hO⟩
  · intro P hP
    have key : ∃ y, y < 2 ^ 31 ∧ nx2 P = nI y := by
      rcases oz_cls hM hN hP with ⟨p, hp, hi, rfl⟩ | ⟨i, hi, rfl⟩ | ⟨t, rfl⟩
      · rw [n1 _ (oz_mvlt hM hi hp (Nat.le_refl _))]
        by_cases hs : oz_site C L p
        · exact ⟨en, by omega, (hnx p hp hi).1 hs⟩
        · have := rl p hp
          exact ⟨_, by omega, (hnx p hp hi).2 hs⟩
      · have := rl (F + i) (by omega)
        by_cases z : ¬ tail ∧ (w (F + i) / 256 = 5 ∨ w (F + i) / 256 = 6)
        · exact ⟨_, by omega, (n2 i hi).1 z⟩
        · exact ⟨_, by omega, (n2 i hi).2 z⟩
      · exact ⟨4096, by omega, n3 t⟩
    obtain ⟨y, y1, y2⟩ := key
    show c P = nI (nx2 P).toNatClampNeg
    rw [c1 P hP, y2, nI_clamp y1]
  · intro P hP
    have hex : ∃ p, p ≤ ms ∧ ¬ oz_inn (oz_site C L) L p ∧ mv p = P := by
      by_cases z : P = mv ms
      · exact ⟨ms, Nat.le_refl _, hmsn, z.symm⟩
      · obtain ⟨p, a, b, c⟩ := oz_surj hM ms hms P (by omega)
        exact ⟨p, by omega, b, c⟩
    obtain ⟨p, hp, hi, rfl⟩ := hex
    show o (mv p) = nI (o (mv p)).toNatClampNeg
    have key : ∃ y, y < 2 ^ 31 ∧ o (mv p) = nI y := by
      by_cases z : p = ms
      · rw [z]; exact ⟨cnt, by omega, o2⟩
      · have := hogl p hp
        exact ⟨og p, by omega, by rw [o1 p (by omega) hi, ho p hp]⟩
    obtain ⟨y, y1, y2⟩ := key
    rw [y2, nI_clamp y1]
section
variable {f_opLds f_opSts f_opPop f_opRet f_opJmp f_opJnz f_opCall f_hiddenCall f_hiddenReturn f_hiddenJump f_capacity f_stackLimit f_outLimit f_phase f_count f_held f_mainSize f_sp f_hidden f_outs f_at f_pc f_status f_bestSaving f_bestFrom f_bestLen f_bestCount : Int32} {a_code a_origin a_regs a_cells a_linked a_log a_target a_plainLen a_tailLen a_order a_rank a_shared a_site a_inner a_next a_moved a_trail : Nat → Int32}
variable {post : SX → Prop} {w og E : Nat → Nat} {h ms cnt r F L : Nat}
theorem oz_Xrewrite (hr : r ≤ 8) (hH : oz_Hf a_code a_origin w h ms og E cnt r) (hI : oz_Idx w h a_plainLen a_tailLen a_order a_rank a_shared) (he : oz_EL w h F L) (hV : 0 < oz_V w h F L) (hF : ∀ s, oz_C w h L (oz_P w h L F) s → F ≤ s)
    (H : ∀ c o st ii nx mo w' h' ms' og', oz_Hf c o w' h' ms' og' E cnt (r + 1) → h' < h → post (f_opLds, f_opSts, f_opPop, f_opRet, f_opJmp, f_opJnz, f_opCall, f_hiddenCall, f_hiddenReturn, f_hiddenJump, f_capacity, f_stackLimit, f_outLimit, f_phase, nI cnt, nI h', nI ms', f_sp, f_hidden, f_outs, f_at, f_pc, f_status, f_bestSaving, nI F, nI L, f_bestCount, c, o, a_regs, a_cells, a_linked, a_log, a_target, a_plainLen, a_tailLen, a_order, a_rank, a_shared, st, ii, nx, mo, a_trail)) :
    wpX_rewrite post (f_opLds, f_opSts, f_opPop, f_opRet, f_opJmp, f_opJnz, f_opCall, f_hiddenCall, f_hiddenReturn, f_hiddenJump, f_capacity, f_stackLimit, f_outLimit, f_phase, nI cnt, nI h, nI ms, f_sp, f_hidden, f_outs, f_at, f_pc, f_status, f_bestSaving, nI F, nI L, f_bestCount, a_code, a_origin, a_regs, a_cells, a_linked, a_log, a_target, a_plainLen, a_tailLen, a_order, a_rank, a_shared, a_site, a_inner, a_next, a_moved, a_trail) := by
  have hH0 := hH
  obtain ⟨hc, ho, ⟨⟨c32, hcn, hms, og0, ogm⟩, sOp, sT, sNR, sDe, sMain, sTm, sOg, sB, sLs⟩, _⟩ := hH
  have h32 : h ≤ 32 := by omega
  have h2 := he.1
  have hFl := he.2.1
  have hW := oz_Bwin sOp he hF
  obtain ⟨mv, hM⟩ := oz_mvE h L (oz_site (oz_C w h L (oz_P w h L F)) L)
  have hlt := oz_Bh he hV hM
  have mle := oz_mvle hM
  have hmsn := oz_msni hW hms sB
  have e : nI F + nI L - 1 = nI (F + (L - 1)) := by
    rw [nI_add]
    have := nI_pred (F + (L - 1))
    rw [show F + (L - 1) + 1 = F + L from by omega] at this
    exact this
  have wf := sOp (F + (L - 1)) (by omega)
  have er : a_code (nI F + nI L - 1).toNatClampNeg >>> ((8 : Int32) &&& 31) = nI (w (F + (L - 1)) / 256) := by
    rw [e]; exact oz_rop (by omega) (by omega) (hc _ (by omega))
  unfold wpX_rewrite
  refine oz_Xcnt sOp hI h32 (by omega) (by omega) (by omega) (fun st ii hS => ?_)
  refine ⟨pk_in (F + (L - 1)) 40 (by omega) e, nm_r er (oz_Xends (by omega) (fun t => ?_) (fun t => ?_))⟩
  · have hco : oz_co w F L = L := by unfold oz_co; rw [if_pos t]
    rw [hco] at hlt
    refine oz_Xplace h32 hS hM (fun mo hmo => ?_)
    refine br_f oz_10 (nm_r (e' := nI (17 * 256 + mv h)) (by rw [← nI_add]; rfl) ⟨h + 1, oz_Xtext hc sOp h32 sT hS hM hmo (fun nx hnx => ?_) h 0 a_next (by omega) (fun p hp => absurd hp (by omega))⟩)
    refine oz_Xbody (tail := oz_end (w (F + (L - 1)) / 256)) (mv := mv) ⟨fun _ => rfl, fun z => absurd t z⟩ hc sOp h32 sT hFl (by omega) hmo mle (top := mv h) (by omega) (fun nx2 n1 n2 n3 => ⟨fun _ => ?_, fun z => absurd t z⟩)
    refine oz_Xmoveo h32 hms hmsn hS hM hmo (fun o o1 o2 => ⟨mv h + L + 1, oz_Xcopy (by omega) (fun c c1 => ?_) (mv h + L) 0 _ (by omega) (fun p hp => absurd hp (by omega))⟩)
    obtain ⟨w', og', hn⟩ := oz_newHf (c := c) (o := o) hH0 hr hW hM hnx n1 n2 n3 ⟨fun _ => rfl, fun z => absurd t z⟩ ⟨fun _ => rfl, fun z => absurd t z⟩ hlt c1 o1 o2
    exact H c o st ii nx2 mo w' _ _ og' hn hlt
  · have hco : oz_co w F L = L + 1 := by unfold oz_co; rw [if_neg t]
    rw [hco] at hlt
    refine oz_Xplace h32 hS hM (fun mo hmo => ?_)
    refine br_t rfl (nm_r (e' := nI (15 * 256 + mv h)) (by rw [← nI_add]; rfl) ⟨h + 1, oz_Xtext hc sOp h32 sT hS hM hmo (fun nx hnx => ?_) h 0 a_next (by omega) (fun p hp => absurd hp (by omega))⟩)
    refine oz_Xbody (tail := oz_end (w (F + (L - 1)) / 256)) (mv := mv) ⟨fun z => absurd z t, fun _ => rfl⟩ hc sOp h32 sT hFl (by omega) hmo mle (top := mv h) (by omega) (fun nx2 n1 n2 n3 => ⟨fun z => absurd z t, fun _ => ?_⟩)
    refine oz_Xmoveo h32 hms hmsn hS hM hmo (fun o o1 o2 => ⟨mv h + L + 1 + 1, oz_Xcopy (by omega) (fun c c1 => ?_) (mv h + L + 1) 0 _ (by omega) (fun p hp => absurd hp (by omega))⟩)
    obtain ⟨w', og', hn⟩ := oz_newHf (c := c) (o := o) hH0 hr hW hM hnx n1 n2 n3 ⟨fun z => absurd z t, fun _ => rfl⟩ ⟨fun z => absurd z t, fun _ => rfl⟩ hlt c1 o1 o2
    exact H c o st ii nx2 mo w' _ _ og' hn hlt
/-- the registers cleared -/
def oz_z4 (a : Nat → Int32) : Nat → Int32 := upd (upd (upd (upd a 0 0) 1 0) 2 0) 3 0
theorem oz_Xrew (H : post (f_opLds, f_opSts, f_opPop, f_opRet, f_opJmp, f_opJnz, f_opCall, f_hiddenCall, f_hiddenReturn, f_hiddenJump, f_capacity, f_stackLimit, f_outLimit, f_phase, f_count, f_held, f_mainSize, 0, 0, 0, 0, 0, 0, f_bestSaving, f_bestFrom, f_bestLen, f_bestCount, a_code, a_origin, oz_z4 a_regs, a_cells, a_linked, a_log, a_target, a_plainLen, a_tailLen, a_order, a_rank, a_shared, a_site, a_inner, a_next, a_moved, a_trail)) : wpX_rewindMachine post (f_opLds, f_opSts, f_opPop, f_opRet, f_opJmp, f_opJnz, f_opCall, f_hiddenCall, f_hiddenReturn, f_hiddenJump, f_capacity, f_stackLimit, f_outLimit, f_phase, f_count, f_held, f_mainSize, f_sp, f_hidden, f_outs, f_at, f_pc, f_status, f_bestSaving, f_bestFrom, f_bestLen, f_bestCount, a_code, a_origin, a_regs, a_cells, a_linked, a_log, a_target, a_plainLen, a_tailLen, a_order, a_rank, a_shared, a_site, a_inner, a_next, a_moved, a_trail) := by
  refine ⟨5, ?_⟩
  refine pk_le 4 0 (fun z => absurd z (by omega)) (fun _ => ⟨pk_in 0 4 (by omega), nm_r (e' := upd a_regs 0 0) rfl (nm_r (e' := nI 1) rfl ?_)⟩)
  refine pk_le 4 1 (fun z => absurd z (by omega)) (fun _ => ⟨pk_in 1 4 (by omega), nm_r (e' := upd (upd a_regs 0 0) 1 0) rfl (nm_r (e' := nI 2) rfl ?_)⟩)
  refine pk_le 4 2 (fun z => absurd z (by omega)) (fun _ => ⟨pk_in 2 4 (by omega), nm_r (e' := upd (upd (upd a_regs 0 0) 1 0) 2 0) rfl (nm_r (e' := nI 3) rfl ?_)⟩)
  refine pk_le 4 3 (fun z => absurd z (by omega)) (fun _ => ⟨pk_in 3 4 (by omega), nm_r (e' := oz_z4 a_regs) rfl (nm_r (e' := nI 4) rfl ?_)⟩)
  exact pk_le 4 4 (fun _ => H) (fun z => absurd z (by omega))
end
end
section
/-! X: outline's loop; unfold, layPlain, restore -/
section
variable {f_opLds f_opSts f_opPop f_opRet f_opJmp f_opJnz f_opCall f_hiddenCall f_hiddenReturn f_hiddenJump f_capacity f_stackLimit f_outLimit f_phase f_count f_held f_mainSize f_sp f_hidden f_outs f_at f_pc f_status f_bestSaving f_bestFrom f_bestLen f_bestCount : Int32} {a_code a_origin a_regs a_cells a_linked a_log a_target a_plainLen a_tailLen a_order a_rank a_shared a_site a_inner a_next a_moved a_trail : Nat → Int32}
variable {w og E : Nat → Nat} {h ms cnt r : Nat}
theorem oz_ol63 {post : Int32 → SX → Prop} (H : post 0 (f_opLds, f_opSts, f_opPop, f_opRet, f_opJmp, f_opJnz, f_opCall, f_hiddenCall, f_hiddenReturn, f_hiddenJump, f_capacity, f_stackLimit, f_outLimit, 2, f_count, f_held, f_mainSize, 0, 0, 0, 0, 0, 0, f_bestSaving, f_bestFrom, f_bestLen, f_bestCount, a_code, a_origin, oz_z4 a_regs, a_cells, a_linked, a_log, a_target, a_plainLen, a_tailLen, a_order, a_rank, a_shared, a_site, a_inner, a_next, a_moved, a_trail)) : wX_outline_63 post f_opLds f_opSts f_opPop f_opRet f_opJmp f_opJnz f_opCall f_hiddenCall f_hiddenReturn f_hiddenJump f_capacity f_stackLimit f_outLimit f_phase f_count f_held f_mainSize f_sp f_hidden f_outs f_at f_pc f_status f_bestSaving f_bestFrom f_bestLen f_bestCount a_code a_origin a_regs a_cells a_linked a_log a_target a_plainLen a_tailLen a_order a_rank a_shared a_site a_inner a_next a_moved a_trail := by
  unfold wX_outline_63
  exact oz_Xrew H
theorem oz_Bpos {sv fr ln ct : Int32} (hw : ∀ p, p < h → w p / 256 < 18) (hB : oz_Bst w h (fun _ _ => True) sv fr ln ct) (hs : ¬ sv ≤ 0) : ∃ F L, fr = nI F ∧ ln = nI L ∧ oz_EL w h F L ∧ 0 < oz_V w h F L ∧ ∀ s, oz_C w h L (oz_P w h L F) s → F ≤ s := by
  rcases hB with ⟨rfl, h2, h3, h4, ha⟩ | ⟨F, L, q, e, vv, s1, h1, h2, h3, ha⟩
  · exact absurd (Int32.le_refl 0) hs
  · refine ⟨F, L, h1, h2, e, vv, fun s hs => ?_⟩
    have a := ha s L True.intro hs.1
    have b := oz_Ve hw e hs.2.symm
    omega
theorem oz_ol36 {post : Int32 → SX → Prop}
    (H : ∀ (w og : Nat → Nat) (h ms r : Nat) (sv fr ln ct : Int32) (c o t a b od rk sh st ii nx mo : Nat → Int32), oz_Hf c o w h ms og E cnt r → r ≤ 8 → h < cnt → post 0 (f_opLds, f_opSts, f_opPop, f_opRet, f_opJmp, f_opJnz, f_opCall, f_hiddenCall, f_hiddenReturn, f_hiddenJump, f_capacity, f_stackLimit, f_outLimit, 2, nI cnt, nI h, nI ms, 0, 0, 0, 0, 0, 0, sv, fr, ln, ct, c, o, oz_z4 a_regs, a_cells, a_linked, a_log, t, a, b, od, rk, sh, st, ii, nx, mo, a_trail)) :
    ∀ d rd (w og : Nat → Nat) (h ms : Nat) (sv fr ln ct : Int32) (c o t a b od rk sh st ii nx mo : Nat → Int32), rd + d = 8 → oz_Hf c o w h ms og E cnt rd → (h < cnt ∨ (rd = 0 ∧ ¬ sv ≤ 0)) → oz_Idx w h a b od rk sh → oz_Bst w h (fun _ _ => True) sv fr ln ct →
      wX_outline_36 post (d + 1) (nI rd) f_opLds f_opSts f_opPop f_opRet f_opJmp f_opJnz f_opCall f_hiddenCall f_hiddenReturn f_hiddenJump f_capacity f_stackLimit f_outLimit f_phase (nI cnt) (nI h) (nI ms) f_sp f_hidden f_outs f_at f_pc f_status sv fr ln ct c o a_regs a_cells a_linked a_log t a b od rk sh st ii nx mo a_trail := by
  intro d
  induction d with
  | zero =>
    intro rd w og h ms sv fr ln ct c o t a b od rk sh st ii nx mo e1 hH hd hI hB
    exact pk_le 8 rd (fun _ => oz_ol63 (H w og h ms rd sv fr ln ct c o t a b od rk sh st ii nx mo hH (by omega) (by omega))) (fun z => absurd z (by omega))
  | succ d ih =>
    intro rd w og h ms sv fr ln ct c o t a b od rk sh st ii nx mo e1 hH hd hI hB
    refine pk_le 8 rd (fun z => absurd z (by omega)) (fun _ => br_c (fun z => ?_) (fun z => ?_))
    · have hl : h < cnt := by
        rcases hd with hd | hd
        · exact hd
        · exact absurd z hd.2
      exact oz_ol63 (H w og h ms rd sv fr ln ct c o t a b od rk sh st ii nx mo hH (by omega) hl)
    · have sOp := hH.2.2.1.2.1
      have hle := hH.2.2.1.1
      obtain ⟨F, L, rfl, rfl, he, hV, hF⟩ := oz_Bpos sOp hB z
      refine oz_Xrewrite (by omega) hH hI he hV hF (fun c' o' st' ii' nx' mo' w' h' ms' og' hH' hlt => ?_)
      have hle' := hH'.2.2.1.1
      refine oz_Xsearch hH'.1 hH'.2.2.1.2.1 (by omega) (fun t2 a2 b2 od2 rk2 sh2 st2 ii2 sv2 fr2 ln2 ct2 hI2 hB2 => nm_r (nI_1 rd) ?_)
      exact ih (rd + 1) w' og' h' ms' sv2 fr2 ln2 ct2 c' o' t2 a2 b2 od2 rk2 sh2 st2 ii2 nx' mo' (by omega) hH' (Or.inl (by omega)) hI2 hB2
theorem oz_Xew {post : Int32 → Prop} {e p d : Nat} (hE : oz_EM w og E e p d) (hp : w p / 256 ≤ 14) (ho : 11 ≤ w p / 256 → w p / 256 ≤ 13 → a_origin (w p % 32) = nI (og (w p % 32))) (H : post (nI (E e))) : wpX_emittedWord post (f_opLds, f_opSts, f_opPop, f_opRet, f_opJmp, f_opJnz, f_opCall, f_hiddenCall, f_hiddenReturn, f_hiddenJump, f_capacity, f_stackLimit, f_outLimit, f_phase, f_count, f_held, f_mainSize, f_sp, f_hidden, f_outs, f_at, f_pc, f_status, f_bestSaving, f_bestFrom, f_bestLen, f_bestCount, a_code, a_origin, a_regs, a_cells, a_linked, a_log, a_target, a_plainLen, a_tailLen, a_order, a_rank, a_shared, a_site, a_inner, a_next, a_moved, a_trail) (nI (w p)) (nI d) := by
  obtain ⟨a, b, c, g⟩ := hE
  refine nm_r (oz_sh8 (by omega)) (nm_r (oz_b31 (by omega)) (pk_eq (w p / 256) 5 (fun k => ?_) (fun k => pk_eq (w p / 256) 6 (fun k2 => ?_) (fun k2 => ?_))))
  · have := c (Or.inl k)
    rw [pk_sub (by omega), show w p - d = E e from by omega]
    exact H
  · have := c (Or.inr k2)
    rw [pk_sub (by omega), show w p - d = E e from by omega]
    exact H
  · refine oz_Xaims (by omega) (fun ha => br_f oz_10 ⟨pk_in (w p % 32) 40 (by omega), ?_⟩) (fun ha => br_t rfl ?_)
    · have h13 : 11 ≤ w p / 256 ∧ w p / 256 ≤ 13 := by rcases ha with z | z | z <;> omega
      have := b h13.1 h13.2
      rw [nI_clamp (by omega), ho h13.1 h13.2, pk_sub (by omega), nI_add, show w p - w p % 32 + og (w p % 32) = E e from by omega]
      exact H
    · have h13 : ¬ (11 ≤ w p / 256 ∧ w p / 256 ≤ 13) := fun z => ha (Or.inl z)
      have := g h13 (by omega)
      rw [show w p = E e from by omega]
      exact H
def oz_Tr (t : Nat → Int32) : List Nat → Prop
  | [] => True
  | q :: S => t S.length = nI q ∧ oz_Tr t S
theorem oz_TrU {t : Nat → Int32} {k : Nat} {v : Int32} : ∀ {S : List Nat}, S.length ≤ k → oz_Tr t S → oz_Tr (upd t k v) S := by
  intro S
  induction S with
  | nil => intro _ _; exact True.intro
  | cons q S ih =>
    intro hk hT
    rw [List.length_cons] at hk
    exact ⟨by rw [pk_un (by omega)]; exact hT.1, ih (by omega) hT.2⟩
theorem oz_uf12 {post : SX → Prop} {R : Nat → List Nat → Nat → Nat → Prop} (hr : r ≤ 8) (hc : oz_Cd a_code h w) (ho : ∀ p, p ≤ ms → a_origin p = nI (og p)) (hSt : oz_St w h ms og cnt r) (hDy : oz_Dy R w h ms og E cnt r)
    (H : ∀ nx tr, (∀ e, e < cnt → nx e = nI (E e)) → post (f_opLds, f_opSts, f_opPop, f_opRet, f_opJmp, f_opJnz, f_opCall, f_hiddenCall, f_hiddenReturn, f_hiddenJump, f_capacity, f_stackLimit, f_outLimit, f_phase, nI cnt, f_held, nI ms, f_sp, f_hidden, f_outs, f_at, f_pc, f_status, f_bestSaving, f_bestFrom, f_bestLen, f_bestCount, a_code, a_origin, a_regs, a_cells, a_linked, a_log, a_target, a_plainLen, a_tailLen, a_order, a_rank, a_shared, a_site, a_inner, nx, a_moved, tr)) :
    ∀ N p S e x rho hp m nx tr, 20 * (cnt - e) + m ≤ N → hp + N ≤ 700 → m ≤ 18 → R p S e x → (e < cnt → oz_M w m p S) → rho ≤ ms → og rho = x → oz_Tr tr S → (∀ j, j < e → nx j = nI (E j)) →
      wX_unfold_12 post f_opLds f_opSts f_opPop f_opRet f_opJmp f_opJnz f_opCall f_hiddenCall f_hiddenReturn f_hiddenJump f_capacity f_stackLimit f_outLimit f_phase (nI cnt) f_held (nI ms) f_sp f_hidden f_outs f_at f_pc f_status f_bestSaving f_bestFrom f_bestLen f_bestCount (N + 1) (nI p) (nI e) (nI S.length) (nI rho) (nI hp) a_code a_origin a_regs a_cells a_linked a_log a_target a_plainLen a_tailLen a_order a_rank a_shared a_site a_inner nx a_moved tr := by
  have hSt0 := hSt
  obtain ⟨⟨c32, hcn, hms, og0, ogm⟩, sOp, sT, sNR, sDe, sMain, sTm, sOg, sB, sLs⟩ := hSt
  intro N
  induction N with
  | zero =>
    intro p S e x rho hp m nx tr e1 e2 e3 hR hM hrho hx hT hn
    have hb := hDy.2.1 p S e x hR
    refine pk_le 2048 hp (fun z => absurd z (by omega)) (fun _ => pk_le cnt e (fun z => H nx tr (fun j hj => hn j (by omega))) (fun z => ?_))
    omega
  | succ N ih =>
    intro p S e x rho hp m nx tr e1 e2 e3 hR hM hrho hx hT hn
    obtain ⟨hb1, hb2, hb3, hb4⟩ := hDy.2.1 p S e x hR
    refine pk_le 2048 hp (fun z => absurd z (by omega)) (fun _ => pk_le cnt e (fun z => H nx tr (fun j hj => hn j (by omega))) (fun z => ?_))
    obtain ⟨hp', q15, q16, q17, q14⟩ := hDy.2.2 p S e x hR z
    have hMm := hM z
    have m0 : 0 < m := by
      by_cases y : 0 < m
      · exact y
      · have : m = 0 := by omega
        subst this
        exact (oz_M0 hMm).elim
    obtain ⟨m', rfl⟩ : ∃ m', m = m' + 1 := ⟨m - 1, by omega⟩
    have ci := hc p hp'
    have wi := sOp p hp'
    refine ⟨pk_in p 40 (by omega), nm_r (oz_rop (by omega) (by omega) ci) ⟨pk_in p 40 (by omega), nm_r (oz_rb (by omega) (by omega) ci) ?_⟩⟩
    -- a visible word
    have vis : ¬ w p / 256 = 17 → w p / 256 ≤ 14 → wX_unfold_105 post (wX_unfold_12 post f_opLds f_opSts f_opPop f_opRet f_opJmp f_opJnz f_opCall f_hiddenCall f_hiddenReturn f_hiddenJump f_capacity f_stackLimit f_outLimit f_phase (nI cnt) f_held (nI ms) f_sp f_hidden f_outs f_at f_pc f_status f_bestSaving f_bestFrom f_bestLen f_bestCount (N + 1)) (nI p) (nI e) (nI S.length) (nI rho) (nI hp) (nI (w p / 256)) (nI (w p % 32)) f_opLds f_opSts f_opPop f_opRet f_opJmp f_opJnz f_opCall f_hiddenCall f_hiddenReturn f_hiddenJump f_capacity f_stackLimit f_outLimit f_phase (nI cnt) f_held (nI ms) f_sp f_hidden f_outs f_at f_pc f_status f_bestSaving f_bestFrom f_bestLen f_bestCount a_code a_origin a_regs a_cells a_linked a_log a_target a_plainLen a_tailLen a_order a_rank a_shared a_site a_inner nx a_moved tr := by
      intro n17 l14
      obtain ⟨g1, g2, g3, g4⟩ := q14 l14
      have e3' : a_code (nI p).toNatClampNeg = nI (w p) := oz_rd (by omega) ci
      have hn' : ∀ j, j < e + 1 → upd nx e (nI (E e)) j = nI (E j) := by
        intro j hj
        by_cases y : j = e
        · rw [y, pk_us]
        · rw [pk_un y]; exact hn j (by omega)
      have next : ∀ p2 S2 x2 rho2, R p2 S2 (e + 1) x2 → rho2 ≤ ms → og rho2 = x2 → oz_Tr tr S2 → wX_unfold_12 post f_opLds f_opSts f_opPop f_opRet f_opJmp f_opJnz f_opCall f_hiddenCall f_hiddenReturn f_hiddenJump f_capacity f_stackLimit f_outLimit f_phase (nI cnt) f_held (nI ms) f_sp f_hidden f_outs f_at f_pc f_status f_bestSaving f_bestFrom f_bestLen f_bestCount (N + 1) (nI p2) (nI (e + 1)) (nI S2.length) (nI rho2) (nI (hp + 1)) a_code a_origin a_regs a_cells a_linked a_log a_target a_plainLen a_tailLen a_order a_rank a_shared a_site a_inner (upd nx e (nI (E e))) a_moved tr := by
        intro p2 S2 x2 rho2 hR2 h2 h3 h4
        refine ih p2 S2 (e + 1) x2 rho2 (hp + 1) 18 _ tr (by omega) (by omega) (by omega) hR2 (fun y => ?_) h2 h3 h4 hn'
        exact oz_M18 hSt0 hr (hDy.2.2 p2 S2 (e + 1) x2 hR2 y).1 (hDy.2.1 p2 S2 (e + 1) x2 hR2).2.2.1
      refine pk_eq (w p / 256) 17 (fun y => absurd y n17) (fun _ => ⟨pk_in p 40 (by omega), ?_⟩)
      rw [e3']
      refine oz_Xew g1 l14 (fun k1 k2 => ho _ (by have := sTm p hp' k1 k2; omega)) ⟨pk_in e 40 (by omega), nm_r (oz_up (by omega)) (nm_r (nI_1 e) (pk_eq (w p / 256) 10 (fun k => ?_) (fun k => ?_)))⟩
      · have hS := g2 (by omega)
        subst hS
        refine pk_lt p ms (fun k2 => nm_r (nI_1 p) (nm_r (nI_1 hp) ?_)) (fun k2 => nm_r (nI_1 hp) ?_)
        · have ho2 := sOg p k2 l14
          have he := (hb4 k2).2
          have hR2 := hDy.1 (p + 1) x (by omega)
          rw [ho2, ← he] at hR2
          exact next (p + 1) [] x rho hR2 hrho hx True.intro
        · have hxe := g4 k k2
          have hR2 := hDy.1 rho x hrho
          rw [hx] at hR2
          subst hxe
          exact next rho [] _ rho hR2 hrho hx True.intro
      · exact nm_r (nI_1 p) (nm_r (nI_1 hp) (next (p + 1) S x rho (g3 k) hrho hx hT))
    have j81 : ¬ w p / 256 = 15 → wX_unfold_81 post (wX_unfold_12 post f_opLds f_opSts f_opPop f_opRet f_opJmp f_opJnz f_opCall f_hiddenCall f_hiddenReturn f_hiddenJump f_capacity f_stackLimit f_outLimit f_phase (nI cnt) f_held (nI ms) f_sp f_hidden f_outs f_at f_pc f_status f_bestSaving f_bestFrom f_bestLen f_bestCount (N + 1)) (nI p) (nI e) (nI S.length) (nI rho) (nI hp) (nI (w p / 256)) (nI (w p % 32)) f_opLds f_opSts f_opPop f_opRet f_opJmp f_opJnz f_opCall f_hiddenCall f_hiddenReturn f_hiddenJump f_capacity f_stackLimit f_outLimit f_phase (nI cnt) f_held (nI ms) f_sp f_hidden f_outs f_at f_pc f_status f_bestSaving f_bestFrom f_bestLen f_bestCount a_code a_origin a_regs a_cells a_linked a_log a_target a_plainLen a_tailLen a_order a_rank a_shared a_site a_inner nx a_moved tr := by
      intro n15
      refine pk_eq (w p / 256) 16 (fun k => ?_) (fun k => ?_)
      · obtain ⟨q, S', rfl, hR2⟩ := q16 k
        rw [List.length_cons] at hb3 ⊢
        have hq := (hDy.2.2 q S' e x hR2 z).1
        refine pk_le (S'.length + 1) 0 (fun y => absurd y (by omega)) (fun _ => nm_r (pk_m1 _) ⟨pk_in S'.length 16 (by omega), nm_r (e' := nI q) (oz_rd (by omega) hT.1) (nm_r (nI_1 hp) ?_)⟩)
        exact ih q S' e x rho (hp + 1) m' nx tr (by omega) (by omega) (by omega) hR2 (fun _ => oz_M2 hSt0 hr hq k hMm) hrho hx hT.2 hn
      · by_cases k17 : w p / 256 = 17
        · have hR2 := q17 k17
          refine pk_eq (w p / 256) 17 (fun _ => ?_) (fun y => absurd k17 y)
          refine pk_le ms p (fun y => nm_r (nI_1 hp) ?_) (fun y => nm_r (nI_1 p) (nm_r (nI_1 hp) ?_))
          · exact ih _ S e x rho (hp + 1) m' nx tr (by omega) (by omega) (by omega) (hR2.2 y) (fun _ => oz_M1 hSt0 hp' (Or.inr k17) hMm S) hrho hx hT hn
          · exact ih _ S e _ (p + 1) (hp + 1) m' nx tr (by omega) (by omega) (by omega) (hR2.1 y) (fun _ => oz_M1 hSt0 hp' (Or.inr k17) hMm S) (by omega) rfl hT hn
        · exact vis k17 (by omega)
    refine pk_eq (w p / 256) 15 (fun k => ?_) (fun k => j81 k)
    refine pk_le 16 S.length (fun y => absurd y (by omega)) (fun _ => ⟨pk_in S.length 16 (by omega), nm_r (e' := upd tr S.length (nI (p + 1))) (by rw [oz_up (by omega), nI_1]) (nm_r (nI_1 _) (nm_r (nI_1 hp) ?_))⟩)
    exact ih _ ((p + 1) :: S) e x rho (hp + 1) m' nx _ (by omega) (by omega) (by omega) (q15 k) (fun _ => oz_M1 hSt0 hp' (Or.inl k) hMm _) hrho hx ⟨pk_us, oz_TrU (Nat.le_refl _) hT⟩ hn
theorem oz_Xunf {post : SX → Prop} (hr : r ≤ 8) (hH : oz_Hf a_code a_origin w h ms og E cnt r)
    (H : ∀ nx tr, (∀ e, e < cnt → nx e = nI (E e)) → post (f_opLds, f_opSts, f_opPop, f_opRet, f_opJmp, f_opJnz, f_opCall, f_hiddenCall, f_hiddenReturn, f_hiddenJump, f_capacity, f_stackLimit, f_outLimit, f_phase, nI cnt, f_held, nI ms, f_sp, f_hidden, f_outs, f_at, f_pc, f_status, f_bestSaving, f_bestFrom, f_bestLen, f_bestCount, a_code, a_origin, a_regs, a_cells, a_linked, a_log, a_target, a_plainLen, a_tailLen, a_order, a_rank, a_shared, a_site, a_inner, nx, a_moved, tr)) : wpX_unfold post (f_opLds, f_opSts, f_opPop, f_opRet, f_opJmp, f_opJnz, f_opCall, f_hiddenCall, f_hiddenReturn, f_hiddenJump, f_capacity, f_stackLimit, f_outLimit, f_phase, nI cnt, f_held, nI ms, f_sp, f_hidden, f_outs, f_at, f_pc, f_status, f_bestSaving, f_bestFrom, f_bestLen, f_bestCount, a_code, a_origin, a_regs, a_cells, a_linked, a_log, a_target, a_plainLen, a_tailLen, a_order, a_rank, a_shared, a_site, a_inner, a_next, a_moved, a_trail) := by
  obtain ⟨hc, ho, hSt, R, hDy⟩ := hH
  have hle := hSt.1
  have hR := hDy.1 0 0 (Nat.zero_le _)
  have e0 := hle.2.2.2.1
  rw [e0] at hR
  exact ⟨_, oz_uf12 hr hc ho hSt hDy H 658 0 [] 0 0 0 0 18 a_next a_trail (by omega) (by omega) (by omega) hR (fun z => oz_M18 hSt hr (hDy.2.2 _ _ _ _ hR z).1 (Nat.zero_le _)) (Nat.zero_le _) e0 True.intro (fun j hj => absurd hj (by omega))⟩
theorem oz_Xlay {post : SX → Prop} (h32 : cnt ≤ 32) (H : ∀ o, (∀ p, p ≤ cnt → o p = nI p) → post (f_opLds, f_opSts, f_opPop, f_opRet, f_opJmp, f_opJnz, f_opCall, f_hiddenCall, f_hiddenReturn, f_hiddenJump, f_capacity, f_stackLimit, f_outLimit, f_phase, nI cnt, nI cnt, nI cnt, f_sp, f_hidden, f_outs, f_at, f_pc, f_status, f_bestSaving, f_bestFrom, f_bestLen, f_bestCount, a_code, o, a_regs, a_cells, a_linked, a_log, a_target, a_plainLen, a_tailLen, a_order, a_rank, a_shared, a_site, a_inner, a_next, a_moved, a_trail)) : wpX_layPlain post (f_opLds, f_opSts, f_opPop, f_opRet, f_opJmp, f_opJnz, f_opCall, f_hiddenCall, f_hiddenReturn, f_hiddenJump, f_capacity, f_stackLimit, f_outLimit, f_phase, nI cnt, f_held, f_mainSize, f_sp, f_hidden, f_outs, f_at, f_pc, f_status, f_bestSaving, f_bestFrom, f_bestLen, f_bestCount, a_code, a_origin, a_regs, a_cells, a_linked, a_log, a_target, a_plainLen, a_tailLen, a_order, a_rank, a_shared, a_site, a_inner, a_next, a_moved, a_trail) := by
  have key : ∀ d i o, i + d = cnt + 1 → (∀ p, p < i → o p = nI p) → wX_layPlain_18 post f_opLds f_opSts f_opPop f_opRet f_opJmp f_opJnz f_opCall f_hiddenCall f_hiddenReturn f_hiddenJump f_capacity f_stackLimit f_outLimit f_phase (nI cnt) (nI cnt) (nI cnt) f_sp f_hidden f_outs f_at f_pc f_status f_bestSaving f_bestFrom f_bestLen f_bestCount (d + 1) (nI i) a_code o a_regs a_cells a_linked a_log a_target a_plainLen a_tailLen a_order a_rank a_shared a_site a_inner a_next a_moved a_trail := by
    intro d
    induction d with
    | zero =>
      intro i o hi ho
      exact pk_lt cnt i (fun _ => H o (fun p hp => ho p (by omega))) (fun z => absurd z (by omega))
    | succ d ih =>
      intro i o hi ho
      refine pk_lt cnt i (fun z => absurd z (by omega)) (fun _ => ⟨pk_in i 40 (by omega), nm_r (oz_up (by omega)) (nm_r (nI_1 i) (ih (i + 1) _ (by omega) (fun p hp => ?_)))⟩)
      by_cases e : p = i
      · rw [e, pk_us]
      · rw [pk_un e]; exact ho p (by omega)
  exact ⟨_, key (cnt + 1) 0 a_origin (by omega) (fun p hp => absurd hp (by omega))⟩
theorem oz_Xrest {post : SX → Prop} (hr : r ≤ 8) (hH : oz_Hf a_code a_origin w h ms og E cnt r)
    (H : ∀ c o nx tr, oz_Cd c cnt E → (∀ p, p ≤ cnt → o p = nI p) → post (f_opLds, f_opSts, f_opPop, f_opRet, f_opJmp, f_opJnz, f_opCall, f_hiddenCall, f_hiddenReturn, f_hiddenJump, f_capacity, f_stackLimit, f_outLimit, f_phase, nI cnt, nI cnt, nI cnt, f_sp, f_hidden, f_outs, f_at, f_pc, f_status, f_bestSaving, f_bestFrom, f_bestLen, f_bestCount, c, o, a_regs, a_cells, a_linked, a_log, a_target, a_plainLen, a_tailLen, a_order, a_rank, a_shared, a_site, a_inner, nx, a_moved, tr)) : wpX_restore post (f_opLds, f_opSts, f_opPop, f_opRet, f_opJmp, f_opJnz, f_opCall, f_hiddenCall, f_hiddenReturn, f_hiddenJump, f_capacity, f_stackLimit, f_outLimit, f_phase, nI cnt, f_held, nI ms, f_sp, f_hidden, f_outs, f_at, f_pc, f_status, f_bestSaving, f_bestFrom, f_bestLen, f_bestCount, a_code, a_origin, a_regs, a_cells, a_linked, a_log, a_target, a_plainLen, a_tailLen, a_order, a_rank, a_shared, a_site, a_inner, a_next, a_moved, a_trail) := by
  have h32 := hH.2.2.1.1.1
  unfold wpX_restore
  refine oz_Xunf hr hH (fun nx tr hn => ⟨cnt + 1, ?_⟩)
  have key : ∀ d i c, i + d = cnt → (∀ p, p < i → c p = nI (E p)) → wX_restore_6 post f_opLds f_opSts f_opPop f_opRet f_opJmp f_opJnz f_opCall f_hiddenCall f_hiddenReturn f_hiddenJump f_capacity f_stackLimit f_outLimit f_phase (nI cnt) f_held (nI ms) f_sp f_hidden f_outs f_at f_pc f_status f_bestSaving f_bestFrom f_bestLen f_bestCount (d + 1) (nI i) c a_origin a_regs a_cells a_linked a_log a_target a_plainLen a_tailLen a_order a_rank a_shared a_site a_inner nx a_moved tr := by
    intro d
    induction d with
    | zero =>
      intro i c hi hc
      have e : i = cnt := by omega
      subst e
      refine pk_le i i (fun _ => ?_) (fun z => absurd z (by omega))
      exact oz_Xlay h32 (fun o ho => H c o nx tr hc ho)
    | succ d ih =>
      intro i c hi hc
      refine pk_le cnt i (fun z => absurd z (by omega)) (fun _ => ⟨pk_in i 40 (by omega), pk_in i 40 (by omega), nm_r (e' := upd c i (nI (E i))) (by rw [nI_clamp (by omega), hn i (by omega)]) (nm_r (nI_1 i) (ih (i + 1) _ (by omega) (fun p hp => ?_)))⟩)
      by_cases e : p = i
      · rw [e, pk_us]
      · rw [pk_un e]; exact hc p (by omega)
  exact key cnt 0 a_code (by omega) (fun p hp => absurd hp (by omega))
end
end
section
/-! Y: eligible, countOf, bestOf -/
/-- an emitted word -/
def oz_Wf (x : Nat) : Prop := x / 256 ≤ 14 ∧ x / 32 % 8 ≤ 3 ∧ (1 ≤ x / 256 → x / 256 ≤ 4 → x % 32 ≤ 3) ∧ ((x / 256 = 5 ∨ x / 256 = 6) → x % 32 ≤ 7) ∧ (7 ≤ x / 256 → ¬ (11 ≤ x / 256 ∧ x / 256 ≤ 13) → x % 32 = 0)
/-- the emitted program in Y's arrays -/
def oz_Em (cnt : Nat) (E : Nat → Nat) (ops as bs : Nat → Int32) : Prop := ∀ e, e < cnt → oz_Wf (E e) ∧ ops e = nI (E e / 256) ∧ as e = nI (E e / 32 % 8) ∧ bs e = nI (E e % 32)
def oz_fl (x : Int32) (P : Prop) : Prop := (P → x = 1) ∧ (¬ P → x = 0)
theorem oz_fl1 {P : Prop} (h : P) : oz_fl 1 P := ⟨fun _ => rfl, fun z => absurd h z⟩
theorem oz_fl0 {P : Prop} (h : ¬ P) : oz_fl 0 P := ⟨fun z => absurd z h, fun _ => rfl⟩
theorem oz_flc {x : Int32} {P Q : Prop} (h : oz_fl x P) (e : P ↔ Q) : oz_fl x Q := ⟨fun z => h.1 (e.2 z), fun z => h.2 (fun y => z (e.1 y))⟩
theorem oz_flb {x : Int32} {P A B : Prop} (h : oz_fl x P) (f : ¬ P → A) (g : P → B) : (x = 0 → A) ∧ (¬ x = 0 → B) := by
  by_cases c : P
  · exact br_f (by rw [h.1 c]; decide) (g c)
  · exact br_t (h.2 c) (f c)
section
variable {y_capacity y_stackLimit y_outLimit y_phase y_count y_status y_at y_depth y_outs : Int32} {b_ops b_as b_bs b_regs b_cells b_links b_log : Nat → Int32}
variable {E : Nat → Nat} {cnt s len : Nat}
theorem oz_ye118 {post : Int32 → Prop} (hE : oz_Em cnt E b_ops b_as b_bs) (h32 : cnt ≤ 32) (hl : 2 ≤ len) (hs : s + len ≤ cnt) (H1 : ((∀ j, s ≤ j → j < s + len → E j / 256 ≤ 7) ∨ (E (s + (len - 1)) / 256 = 10 ∧ ∀ j, s ≤ j → j < s + len → j < s + (len - 1) → E j / 256 ≤ 9)) → post 1) (H0 : ¬ ((∀ j, s ≤ j → j < s + len → E j / 256 ≤ 7) ∨ (E (s + (len - 1)) / 256 = 10 ∧ ∀ j, s ≤ j → j < s + len → j < s + (len - 1) → E j / 256 ≤ 9)) → post 0) :
    ∀ d i x3 x4, i + d = s + len → s ≤ i → oz_fl x3 (∀ j, s ≤ j → j < i → E j / 256 ≤ 7) → oz_fl x4 (E (s + (len - 1)) / 256 = 10 ∧ ∀ j, s ≤ j → j < i → j < s + (len - 1) → E j / 256 ≤ 9) → wY_eligible_118 post (nI s) (nI len) y_capacity y_stackLimit y_outLimit y_phase (nI cnt) y_status y_at y_depth y_outs b_ops b_as b_bs b_regs b_cells b_links b_log (d + 1) x3 x4 (nI i) := by
  intro d
  induction d with
  | zero =>
    intro i x3 x4 hi hsi f3 f4
    have e : i = s + len := by omega
    subst e
    refine pk_le (s + len) (s + len) (fun _ => ?_) (fun z => absurd z (by omega)) (hx := nI_add s len)
    exact oz_flb f3 (fun a => oz_flb f4 (fun b => H0 (fun z => z.elim a b)) (fun b => H1 (Or.inr b))) (fun a => H1 (Or.inl a))
  | succ d ih =>
    intro i x3 x4 hi hsi f3 f4
    obtain ⟨wf, eo, ea, eb⟩ := hE i (by omega)
    have er : b_ops (nI i).toNatClampNeg = nI (E i / 256) := oz_rd (by omega) eo
    have w14 := wf.1
    have e1 : nI s + nI len - 1 = nI (s + (len - 1)) := by
      rw [nI_add]
      have := nI_pred (s + (len - 1))
      rw [show s + (len - 1) + 1 = s + len from by omega] at this
      exact this
    have step : ∀ x3', oz_fl x3' (∀ j, s ≤ j → j < i + 1 → E j / 256 ≤ 7) → wY_eligible_140 post (wY_eligible_118 post (nI s) (nI len) y_capacity y_stackLimit y_outLimit y_phase (nI cnt) y_status y_at y_depth y_outs b_ops b_as b_bs b_regs b_cells b_links b_log (d + 1)) (nI s) (nI len) x3' x4 (nI i) y_capacity y_stackLimit y_outLimit y_phase (nI cnt) y_status y_at y_depth y_outs b_ops b_as b_bs b_regs b_cells b_links b_log := by
      intro x3' f3'
      refine pk_le (s + (len - 1)) i (fun a => nm_r (nI_1 i) (ih (i + 1) x3' x4 (by omega) (by omega) f3' (oz_flc f4 ?_))) (fun a => ⟨pk_in i 32 (by omega), pk_le (E i / 256) 9 (fun b => nm_r (nI_1 i) (ih (i + 1) x3' x4 (by omega) (by omega) f3' (oz_flc f4 ?_))) (fun b => nm_r (nI_1 i) (ih (i + 1) x3' 0 (by omega) (by omega) f3' (oz_fl0 ?_))) (hx := er)⟩) (hx := e1)
      · constructor
        · exact fun z => ⟨z.1, fun j j1 j2 j3 => z.2 j j1 (by omega) j3⟩
        · exact fun z => ⟨z.1, fun j j1 j2 j3 => z.2 j j1 (by omega) j3⟩
      · constructor
        · refine fun z => ⟨z.1, fun j j1 j2 j3 => ?_⟩
          by_cases e : j = i
          · rw [e]; exact b
          · exact z.2 j j1 (by omega) j3
        · exact fun z => ⟨z.1, fun j j1 j2 j3 => z.2 j j1 (by omega) j3⟩
      · intro z
        have := z.2 i hsi (by omega) a
        omega
    refine pk_le (s + len) i (fun z => absurd z (by omega)) (fun _ => ⟨pk_in i 32 (by omega), pk_le (E i / 256) 7 (fun b => step x3 (oz_flc f3 ?_)) (fun b => step 0 (oz_fl0 ?_)) (hx := er)⟩) (hx := nI_add s len)
    · constructor
      · intro z j j1 j2
        by_cases e : j = i
        · rw [e]; exact b
        · exact z j j1 (by omega)
      · exact fun z j j1 j2 => z j j1 (by omega)
    · intro z
      have := z i hsi (by omega)
      omega
theorem oz_ELy (hE : oz_Em cnt E b_ops b_as b_bs) (hl : 2 ≤ len) (hs : s + len ≤ cnt) : oz_EL E cnt s len ↔ ((∀ q, q < cnt → 11 ≤ E q / 256 → E q / 256 ≤ 13 → ¬ (s < E q % 32 ∧ E q % 32 < s + len)) ∧ ((∀ j, s ≤ j → j < s + len → E j / 256 ≤ 7) ∨ (E (s + (len - 1)) / 256 = 10 ∧ ∀ j, s ≤ j → j < s + len → j < s + (len - 1) → E j / 256 ≤ 9))) := by
  constructor
  · rintro ⟨_, _, h3, h4⟩
    refine ⟨fun q q1 q2 q3 q4 => ?_, ?_⟩
    · refine h3 (E q % 32 - s) (by omega) (by omega) ⟨q, q1, Or.inl ⟨q2, q3⟩, by omega⟩
    · rcases h4 with h4 | ⟨h4, h5⟩
      · refine Or.inl (fun j j1 j2 => ?_)
        have := h4 (j - s) (by omega)
        rw [show s + (j - s) = j from by omega] at this
        exact this
      · have b := (hE (s + (len - 1)) (by omega)).1.1
        refine Or.inr ⟨by rcases h4 with z | z | z <;> omega, fun j j1 j2 j3 => ?_⟩
        have b2 := (hE j (by omega)).1.1
        have := h5 (j - s) (by omega)
        rw [show s + (j - s) = j from by omega] at this
        rcases this with z | z <;> omega
  · rintro ⟨h3, h4⟩
    refine ⟨hl, hs, fun i i1 i2 => ?_, ?_⟩
    · rintro ⟨q, q1, q2, q3⟩
      have b := (hE q q1).1.1
      rcases q2 with q2 | q2 | q2
      · exact h3 q q1 q2.1 q2.2 (by omega)
      · omega
      · omega
    · rcases h4 with h4 | ⟨h4, h5⟩
      · exact Or.inl (fun i hi => h4 (s + i) (by omega) (by omega))
      · refine Or.inr ⟨Or.inl h4, fun i hi => Or.inl ?_⟩
        have := h5 (s + i) (by omega) (by omega) (by omega)
        omega
theorem oz_Yel {post : Int32 → Prop} (hE : oz_Em cnt E b_ops b_as b_bs) (h32 : cnt ≤ 32) (hs : s < 2 ^ 31) (hl : len < 2 ^ 31) (H1 : oz_EL E cnt s len → post 1) (H0 : ¬ oz_EL E cnt s len → post 0) : wpY_eligible post (y_capacity, y_stackLimit, y_outLimit, y_phase, nI cnt, y_status, y_at, y_depth, y_outs, b_ops, b_as, b_bs, b_regs, b_cells, b_links, b_log) (nI s) (nI len) := by
  refine pk_lt len 2 (fun z => H0 (fun e => by have := e.1; omega)) (fun l2 => pk_lt s 0 (fun z => absurd z (by omega)) (fun _ => pk_lt cnt s (fun z => H0 (fun e => by have := e.1; have := e.2.1; omega)) (fun sc => pk_le len (cnt - s) (fun z => ?_) (fun z => H0 (fun e => by have := e.2.1; omega)) (hy := pk_sub (by omega)))))
  have EL := oz_ELy hE l2 (show s + len ≤ cnt by omega)
  have e1 : nI s + nI len - 1 = nI (s + (len - 1)) := by
    rw [nI_add]
    have := nI_pred (s + (len - 1))
    rw [show s + (len - 1) + 1 = s + len from by omega] at this
    exact this
  have key : ∀ d i, i + d = cnt → (∀ q, q < i → 11 ≤ E q / 256 → E q / 256 ≤ 13 → ¬ (s < E q % 32 ∧ E q % 32 < s + len)) → wY_eligible_31 post (nI s) (nI len) y_capacity y_stackLimit y_outLimit y_phase (nI cnt) y_status y_at y_depth y_outs b_ops b_as b_bs b_regs b_cells b_links b_log (d + 1) (nI i) := by
    intro d
    induction d with
    | zero =>
      intro i hi hq
      have e : i = cnt := by omega
      subst e
      obtain ⟨wf, eo, ea, eb⟩ := hE (s + (len - 1)) (by omega)
      have w14 := wf.1
      have er : b_ops (nI s + nI len - 1).toNatClampNeg = nI (E (s + (len - 1)) / 256) := by rw [e1, nI_clamp (by omega), eo]
      have K1 := fun z => H1 (EL.2 ⟨hq, z⟩)
      have K0 : ¬ _ → post 0 := fun z => H0 (fun y => z (EL.1 y).2)
      refine pk_le i i (fun _ => ⟨pk_in (s + (len - 1)) 32 (by omega) e1, pk_eq (E (s + (len - 1)) / 256) 10 (fun a => ⟨len + 1, oz_ye118 hE h32 l2 (by omega) K1 K0 len s 1 1 rfl (Nat.le_refl _) (oz_fl1 (fun j j1 j2 => by omega)) (oz_fl1 ⟨a, fun j j1 j2 => by omega⟩)⟩) (fun a => ⟨len + 1, oz_ye118 hE h32 l2 (by omega) K1 K0 len s 1 0 rfl (Nat.le_refl _) (oz_fl1 (fun j j1 j2 => by omega)) (oz_fl0 (fun z => a z.1))⟩) (hx := er)⟩) (fun z => absurd z (by omega))
    | succ d ih =>
      intro i hi hq
      obtain ⟨wf, eo, ea, eb⟩ := hE i (by omega)
      have w14 := wf.1
      have er : b_ops (nI i).toNatClampNeg = nI (E i / 256) := oz_rd (by omega) eo
      have eb' : b_bs (nI i).toNatClampNeg = nI (E i % 32) := oz_rd (by omega) eb
      have nx : ¬ (11 ≤ E i / 256 ∧ E i / 256 ≤ 13 ∧ s < E i % 32 ∧ E i % 32 < s + len) → wY_eligible_31 post (nI s) (nI len) y_capacity y_stackLimit y_outLimit y_phase (nI cnt) y_status y_at y_depth y_outs b_ops b_as b_bs b_regs b_cells b_links b_log (d + 1) (nI (i + 1)) := by
        intro c
        refine ih (i + 1) (by omega) (fun q q1 q2 q3 q4 => ?_)
        by_cases e : q = i
        · subst e; exact c ⟨q2, q3, q4⟩
        · exact hq q (by omega) q2 q3 q4
      refine pk_le cnt i (fun z => absurd z (by omega)) (fun _ => ⟨pk_in i 32 (by omega), pk_lt (E i / 256) 11 (fun a => nm_r (nI_1 i) (nx (by omega))) (fun a => ⟨pk_in i 32 (by omega), pk_lt 13 (E i / 256) (fun b => nm_r (nI_1 i) (nx (by omega))) (fun b => ⟨pk_in i 32 (by omega), pk_le (E i % 32) s (fun c => nm_r (nI_1 i) (nx (by omega))) (fun c => ⟨pk_in i 32 (by omega), pk_le (s + len) (E i % 32) (fun g => nm_r (nI_1 i) (nx (by omega))) (fun g => H0 (fun y => ?_)) (hx := nI_add s len) (hy := eb')⟩) (hx := eb')⟩) (hy := er)⟩) (hx := er)⟩)
      exact (EL.1 y).1 i (by omega) (by omega) (by omega) ⟨c, g⟩
  exact ⟨cnt + 1, key cnt 0 (by omega) (fun q q1 => absurd q1 (by omega))⟩
theorem oz_wEq {x y : Nat} (h1 : x / 256 = y / 256) (h2 : x / 32 % 8 = y / 32 % 8) (h3 : x % 32 = y % 32) : x = y := by omega
theorem oz_yc46 {post : Int32 → Prop} {J : Int32 → Int32 → Int32 → Prop} {k free p : Nat} {b : Prop} (hE : oz_Em cnt E b_ops b_as b_bs) (h32 : cnt ≤ 32) (hp : p + len ≤ cnt) (hs : s + len ≤ cnt) (H1 : (b ∧ ∀ j, j < len → E (p + j) = E (s + j)) → J (nI (k + 1)) (nI (p + len)) (nI (p + 1))) (H0 : ¬ (b ∧ ∀ j, j < len → E (p + j) = E (s + j)) → J (nI k) (nI free) (nI (p + 1))) :
    ∀ d i x6, i + d = len → oz_fl x6 (b ∧ ∀ j, j < i → E (p + j) = E (s + j)) → wY_countOf_46 post J (nI s) (nI len) (nI k) (nI free) (nI p) y_capacity y_stackLimit y_outLimit y_phase (nI cnt) y_status y_at y_depth y_outs b_ops b_as b_bs b_regs b_cells b_links b_log (d + 1) x6 (nI i) := by
  intro d
  induction d with
  | zero =>
    intro i x6 hi hf
    have e : i = len := by omega
    subst e
    exact pk_le i i (fun _ => oz_flb hf (fun a => nm_r (nI_1 p) (H0 a)) (fun a => nm_r (nI_1 k) (nm_r (nI_add p i) (nm_r (nI_1 p) (H1 a))))) (fun z => absurd z (by omega))
  | succ d ih =>
    intro i x6 hi hf
    obtain ⟨wf, eo, ea, eb⟩ := hE (p + i) (by omega)
    obtain ⟨wf', eo', ea', eb'⟩ := hE (s + i) (by omega)
    have w1 := wf.1
    have w2 := wf'.1
    have ip : pk_in (x := nI p + nI i) (p + i) 32 (by omega) (nI_add p i) = pk_in (x := nI p + nI i) (p + i) 32 (by omega) (nI_add p i) := rfl
    have rp : ∀ (a : Nat → Int32) (v : Int32), a (p + i) = v → a (nI p + nI i).toNatClampNeg = v := fun a v z => by rw [nI_add, nI_clamp (by omega)]; exact z
    have rs : ∀ (a : Nat → Int32) (v : Int32), a (s + i) = v → a (nI s + nI i).toNatClampNeg = v := fun a v z => by rw [nI_add, nI_clamp (by omega)]; exact z
    have vp : vp_in (nI p + nI i) 32 := pk_in (p + i) 32 (by omega) (nI_add p i)
    have vs : vp_in (nI s + nI i) 32 := pk_in (s + i) 32 (by omega) (nI_add s i)
    have ne : ¬ E (p + i) = E (s + i) → wY_countOf_46 post J (nI s) (nI len) (nI k) (nI free) (nI p) y_capacity y_stackLimit y_outLimit y_phase (nI cnt) y_status y_at y_depth y_outs b_ops b_as b_bs b_regs b_cells b_links b_log (d + 1) 0 (nI (i + 1)) := fun c =>
      ih (i + 1) 0 (by omega) (oz_fl0 (fun z => c (z.2 i (by omega))))
    refine pk_le len i (fun z => absurd z (by omega)) (fun _ => ⟨vp, vs, pk_eq (E (p + i) / 256) (E (s + i) / 256) (fun a1 => ⟨vp, vs, pk_eq (E (p + i) / 32 % 8) (E (s + i) / 32 % 8) (fun a2 => ⟨vp, vs, pk_eq (E (p + i) % 32) (E (s + i) % 32) (fun a3 => nm_r (nI_1 i) (ih (i + 1) x6 (by omega) (oz_flc hf ?_))) (fun a3 => nm_r (nI_1 i) (ne (fun z => a3 (by rw [z])))) (hx := rp _ _ eb) (hy := rs _ _ eb')⟩) (fun a2 => nm_r (nI_1 i) (ne (fun z => a2 (by rw [z])))) (hx := rp _ _ ea) (hy := rs _ _ ea')⟩) (fun a1 => nm_r (nI_1 i) (ne (fun z => a1 (by rw [z])))) (hx := rp _ _ eo) (hy := rs _ _ eo')⟩)
    constructor
    · refine fun z => ⟨z.1, fun j hj => ?_⟩
      by_cases e : j = i
      · rw [e]; exact oz_wEq a1 a2 a3
      · exact z.2 j (by omega)
    · exact fun z => ⟨z.1, fun j hj => z.2 j (by omega)⟩
theorem oz_EmOp (hE : oz_Em cnt E b_ops b_as b_bs) : ∀ p, p < cnt → E p / 256 < 18 := fun p hp => by
  have := (hE p hp).1.1
  omega
theorem oz_Ycnt {post : Int32 → Prop} (hE : oz_Em cnt E b_ops b_as b_bs) (h32 : cnt ≤ 32) (he : oz_EL E cnt s len) (H : post (nI (oz_K E cnt s len))) : wpY_countOf post (y_capacity, y_stackLimit, y_outLimit, y_phase, nI cnt, y_status, y_at, y_depth, y_outs, b_ops, b_as, b_bs, b_regs, b_cells, b_links, b_log) (nI s) (nI len) := by
  have hl := he.1
  have hs := he.2.1
  have hop := oz_EmOp hE
  have hend : oz_K E cnt s len = (oz_gr (oz_C E cnt len (oz_P E cnt len s)) len (cnt - len + 1)).1 := by
    unfold oz_K
    have := oz_gr_end (C := oz_C E cnt len (oz_P E cnt len s)) (len := len) (cnt - len + 1) (len - 1) (fun q q1 q2 z => by have := z.1.2.1; omega)
    rw [show cnt - len + 1 + (len - 1) = cnt from by omega] at this
    rw [this]
  rw [hend] at H
  have key : ∀ d p, p + d = cnt - len + 1 → wY_countOf_8 post (nI s) (nI len) y_capacity y_stackLimit y_outLimit y_phase (nI cnt) y_status y_at y_depth y_outs b_ops b_as b_bs b_regs b_cells b_links b_log (d + 1) (nI (oz_gr (oz_C E cnt len (oz_P E cnt len s)) len p).1) (nI (oz_gr (oz_C E cnt len (oz_P E cnt len s)) len p).2) (nI p) := by
    intro d
    induction d with
    | zero =>
      intro p hp
      have e : p = cnt - len + 1 := by omega
      subst e
      exact pk_lt (cnt - len) (cnt - len + 1) (fun _ => H) (fun z => absurd z (by omega)) (hx := pk_sub (by omega))
    | succ d ih =>
      intro p hp
      have g := ih (p + 1) (by omega)
      have hfr := oz_grfree (C := oz_C E cnt len (oz_P E cnt len s)) (len := len) (h := cnt) (fun q hq => hq.1.2.1) p
      have hct := oz_grle (C := oz_C E cnt len (oz_P E cnt len s)) (len := len) p
      have run : ∀ (b : Prop) x6, oz_fl x6 b → (b ↔ ((oz_gr (oz_C E cnt len (oz_P E cnt len s)) len p).2 ≤ p ∧ oz_EL E cnt p len)) → ∃ n46 : Nat, wY_countOf_46 post (wY_countOf_8 post (nI s) (nI len) y_capacity y_stackLimit y_outLimit y_phase (nI cnt) y_status y_at y_depth y_outs b_ops b_as b_bs b_regs b_cells b_links b_log (d + 1)) (nI s) (nI len) (nI (oz_gr (oz_C E cnt len (oz_P E cnt len s)) len p).1) (nI (oz_gr (oz_C E cnt len (oz_P E cnt len s)) len p).2) (nI p) y_capacity y_stackLimit y_outLimit y_phase (nI cnt) y_status y_at y_depth y_outs b_ops b_as b_bs b_regs b_cells b_links b_log n46 x6 0 := by
        intro b x6 hf hb
        refine ⟨len + 1, oz_yc46 (b := b) hE h32 (by omega) hs (fun z => ?_) (fun z => ?_) len 0 x6 (by omega) (oz_flc hf ⟨fun y => ⟨y, fun j hj => absurd hj (by omega)⟩, fun y => y.1⟩)⟩
        · have k := hb.1 z.1
          have hsite : oz_site (oz_C E cnt len (oz_P E cnt len s)) len p := ⟨⟨k.2, oz_Pw' (x := s) (y := p) hs (by omega) (fun j hj => z.2 j hj)⟩, k.1⟩
          rw [oz_grt hsite] at g
          exact g
        · have hsite : ¬ oz_site (oz_C E cnt len (oz_P E cnt len s)) len p := by
            rintro ⟨⟨k1, k2⟩, k3⟩
            exact z ⟨hb.2 ⟨k3, k1⟩, fun j hj => (oz_Pw hop hs k2.symm j hj).2⟩
          rw [oz_grf hsite] at g
          exact g
      refine pk_lt (cnt - len) p (fun z => absurd z (by omega)) (fun _ => pk_lt p (oz_gr (oz_C E cnt len (oz_P E cnt len s)) len p).2 (fun a => run False 0 (oz_fl0 id) ⟨fun z => z.elim, fun z => by omega⟩) (fun a => ?_)) (hx := pk_sub (by omega))
      refine oz_Yel hE h32 (by omega) (by omega) (fun k => br_f oz_10 (run True 1 (oz_fl1 True.intro) ⟨fun _ => ⟨a, k⟩, fun _ => True.intro⟩)) (fun k => br_t rfl (run False 0 (oz_fl0 id) ⟨fun z => z.elim, fun z => k z.2⟩))
  exact ⟨_, key (cnt - len + 1) 0 (by omega)⟩
theorem oz_yb84 {post : Int32 → Prop} {J16 J25 : Int32 → Int32 → Int32 → Int32 → Int32 → Prop} {x1 x2 x3 x4 x5 x6 x8 z0 x : Int32} (hx : (x8 * (x6 - 1)) - z0 = x) (H0 : x ≤ x2 → J25 x2 x3 x4 x5 (nI (s + 1))) (H1 : x2 < x → J25 x (nI s) x6 x8 (nI (s + 1))) : wY_bestOf_84 post J16 J25 x1 x2 x3 x4 x5 x6 (nI s) x8 z0 y_capacity y_stackLimit y_outLimit y_phase y_count y_status y_at y_depth y_outs b_ops b_as b_bs b_regs b_cells b_links b_log := by
  unfold wY_bestOf_84
  rw [hx]
  exact br_c (fun a => nm_r (nI_1 s) (H0 a)) (fun a => nm_e (nm_r (nI_1 s) (H1 (Int32.not_le.mp a))))
theorem oz_Ybest {post : Int32 → Prop} {x1 : Int32} (hE : oz_Em cnt E b_ops b_as b_bs) (h32 : cnt ≤ 32) (H : ∀ sv fr ln ct, oz_Bst E cnt (fun _ _ => True) sv fr ln ct → (x1 = 0 → post sv) ∧ (¬ x1 = 0 → (x1 = 1 → post fr) ∧ (¬ x1 = 1 → (x1 = 2 → post ln) ∧ (¬ x1 = 2 → post ct)))) : wpY_bestOf post (y_capacity, y_stackLimit, y_outLimit, y_phase, nI cnt, y_status, y_at, y_depth, y_outs, b_ops, b_as, b_bs, b_regs, b_cells, b_links, b_log) x1 := by
  have hop := oz_EmOp hE
  have inner : ∀ (J : Int32 → Int32 → Int32 → Int32 → Int32 → Prop) len, 2 ≤ len + 1 → len + 1 ≤ cnt → (∀ sv fr ln ct, oz_Bst E cnt (fun _ l => len < l) sv fr ln ct → J sv fr ln ct (nI len)) → ∀ d s sv fr ln ct, s + d = cnt - (len + 1) + 1 → oz_Bst E cnt (fun s' l => len + 1 < l ∨ (l = len + 1 ∧ s' < s)) sv fr ln ct → wY_bestOf_25 post J x1 (nI (len + 1)) y_capacity y_stackLimit y_outLimit y_phase (nI cnt) y_status y_at y_depth y_outs b_ops b_as b_bs b_regs b_cells b_links b_log (d + 1) sv fr ln ct (nI s) := by
    intro J len hl hlc HJ d
    induction d with
    | zero =>
      intro s sv fr ln ct hs hB
      refine pk_lt (cnt - (len + 1)) s (fun _ => nm_r (pk_m1 len) (HJ sv fr ln ct (oz_Bst_c (fun s' l e => ?_) hB))) (fun z => absurd z (by omega)) (hx := pk_sub (by omega))
      have := e.2.1
      omega
    | succ d ih =>
      intro s sv fr ln ct hs hB
      have next : ∀ sv fr ln ct, oz_Bst E cnt (fun s' l => (len + 1 < l ∨ (l = len + 1 ∧ s' < s)) ∨ (l = len + 1 ∧ s' = s)) sv fr ln ct → wY_bestOf_25 post J x1 (nI (len + 1)) y_capacity y_stackLimit y_outLimit y_phase (nI cnt) y_status y_at y_depth y_outs b_ops b_as b_bs b_regs b_cells b_links b_log (d + 1) sv fr ln ct (nI (s + 1)) := by
        intro sv fr ln ct hB'
        refine ih (s + 1) sv fr ln ct (by omega) (oz_Bst_c (fun s' l e => ?_) hB')
        omega
      refine pk_lt (cnt - (len + 1)) s (fun z => absurd z (by omega)) (fun _ => ?_) (hx := pk_sub (by omega))
      refine oz_Yel hE h32 (by omega) (by omega) (fun he => br_f oz_10 ?_) (fun he => br_t rfl (nm_r (nI_1 s) (next sv fr ln ct (oz_BstYk (x := 0) (fun t l q => by omega) (fun z => absurd z he) hB))))
      refine oz_Ycnt hE h32 he ?_
      have hK : oz_K E cnt s (len + 1) ≤ cnt := oz_grle _
      have e1 : nI s + nI (len + 1) - 1 = nI (s + (len + 1 - 1)) := by
        rw [nI_add, show s + (len + 1) = s + (len + 1 - 1) + 1 from by omega, nI_pred]
      obtain ⟨wf, eo, ea, eb⟩ := hE (s + (len + 1 - 1)) (by omega)
      have w14 := wf.1
      have er : b_ops (nI s + nI (len + 1) - 1).toNatClampNeg = nI (E (s + (len + 1 - 1)) / 256) := by rw [e1, nI_clamp (by omega), eo]
      refine ⟨pk_in (s + (len + 1 - 1)) 32 (by omega) e1, pk_eq (E (s + (len + 1 - 1)) / 256) 10 (fun a => ?_) (fun a => ?_) (hx := er)⟩
      · have hco : len + 1 = oz_co E s (len + 1) := by unfold oz_co; rw [if_pos (Or.inl a)]
        have hx := oz_x8 (w := E) h32 hl hlc hK rfl hco
        exact oz_yb84 rfl (fun z => next sv fr ln ct (oz_BstYk (fun t l q => by omega) (fun _ => ⟨hx, z⟩) hB)) (fun z => next _ _ _ _ (oz_BstYr he hx z hB))
      · have hco : len + 1 + 1 = oz_co E s (len + 1) := by
          unfold oz_co
          rw [if_neg (by rintro (z | z | z) <;> omega)]
        have hx := oz_x8 (w := E) h32 hl hlc hK rfl hco
        rw [nI_1]
        exact oz_yb84 rfl (fun z => next sv fr ln ct (oz_BstYk (fun t l q => by omega) (fun _ => ⟨hx, z⟩) hB)) (fun z => next _ _ _ _ (oz_BstYr he hx z hB))
  have outer : ∀ len, len ≤ cnt → ∀ sv fr ln ct, oz_Bst E cnt (fun _ l => len < l) sv fr ln ct → wY_bestOf_16 post x1 y_capacity y_stackLimit y_outLimit y_phase (nI cnt) y_status y_at y_depth y_outs b_ops b_as b_bs b_regs b_cells b_links b_log (len + 1) sv fr ln ct (nI len) := by
    intro len
    induction len with
    | zero =>
      intro _ sv fr ln ct hB
      refine pk_lt 0 2 (fun _ => H sv fr ln ct (oz_Bst_c (fun s l e => ⟨fun _ => True.intro, fun _ => ?_⟩) hB)) (fun z => absurd z (by omega))
      have := e.1
      omega
    | succ len ih =>
      intro hl sv fr ln ct hB
      refine pk_lt (len + 1) 2 (fun z => H sv fr ln ct (oz_Bst_c (fun s l e => ⟨fun _ => True.intro, fun _ => ?_⟩) hB)) (fun z => ⟨cnt - (len + 1) + 1 + 1, ?_⟩)
      · have := e.1
        omega
      · refine inner _ len z hl (fun sv fr ln ct hB' => ih (by omega) sv fr ln ct hB') (cnt - (len + 1) + 1) 0 sv fr ln ct (by omega) (oz_Bst_c (fun s l e => ?_) hB)
        omega
  refine ⟨cnt + 1, outer cnt (Nat.le_refl _) 0 (-1) 0 0 (oz_Bst_0 (fun s l e z => ?_))⟩
  have := e.2.1
  have := e.1
  omega
end
end
section
/-! the relation -/
def oz_Bs (cap sl ol cnt dp ou : Nat) : Prop := 8 ≤ cap ∧ cap ≤ 32 ∧ 2 ≤ sl ∧ sl ≤ 12 ∧ 4 ≤ ol ∧ ol ≤ 16 ∧ cnt ≤ cap ∧ dp ≤ sl ∧ ou ≤ ol
/-- the visible cells -/
def oz_Cl (dp ms : Nat) (og : Nat → Nat) (cells linked cells' links : Nat → Int32) : Prop := ∀ i, i < dp → (links i = 0 ∧ linked i = 0 ∧ cells i = cells' i) ∨ (links i = 1 ∧ linked i = 1 ∧ ∃ L, L ≤ ms ∧ cells i = nI L ∧ cells' i = nI (og L))
/-- the hidden links above them -/
def oz_Hs (dp : Nat) (cells : Nat → Int32) : List Nat → Prop
  | [] => True
  | q :: S => cells (dp + S.length) = nI q ∧ oz_Hs dp cells S
/-- the held form, sealed -/
def oz_Hp (ph cnt h ms r : Nat) (E w og : Nat → Nat) (R : Nat → List Nat → Nat → Nat → Prop) (code origin : Nat → Int32) : Prop :=
  (ph = 1 ∨ ph = 2) ∧ r ≤ 8 ∧ oz_Cd code h w ∧ (∀ p, p ≤ ms → origin p = nI (og p)) ∧ oz_St w h ms og cnt r ∧ oz_Dy R w h ms og E cnt r ∧ (ph = 1 → (h = cnt ∧ ∀ p, p < cnt → w p = E p) ∧ ms = cnt ∧ ∀ p, p ≤ cnt → og p = p) ∧ (ph = 2 → h < cnt) ∧ (∀ e, e < cnt → 11 ≤ E e / 256 → E e / 256 ≤ 13 → E e % 32 < cnt)
/-- the machine -/
def oz_Ds (ax dp ms pc : Nat) (S : List Nat) (og : Nat → Nat) (R : Nat → List Nat → Nat → Nat → Prop) (cells linked cells' links : Nat → Int32) : Prop :=
  (∃ x, R pc S ax x) ∧ oz_Cl dp ms og cells linked cells' links ∧ oz_Hs dp cells S
def i_Rel (_ : Nat) (u : SX) (v : SY) : Prop := match u with
  | (f_opLds, f_opSts, f_opPop, f_opRet, f_opJmp, f_opJnz, f_opCall, f_hiddenCall, f_hiddenReturn, f_hiddenJump, f_capacity, f_stackLimit, f_outLimit, f_phase, f_count, f_held, f_mainSize, f_sp, f_hidden, f_outs, f_at, f_pc, f_status, f_bestSaving, f_bestFrom, f_bestLen, f_bestCount, a_code, a_origin, a_regs, a_cells, a_linked, a_log, a_target, a_plainLen, a_tailLen, a_order, a_rank, a_shared, a_site, a_inner, a_next, a_moved, a_trail) => match v with
    | (y_capacity, y_stackLimit, y_outLimit, y_phase, y_count, y_status, y_at, y_depth, y_outs, b_ops, b_as, b_bs, b_regs, b_cells, b_links, b_log) => ∃ (cap sl ol cnt dp ou ax : Nat) (E : Nat → Nat),
      (f_capacity = nI cap ∧ y_capacity = nI cap ∧ f_stackLimit = nI sl ∧ y_stackLimit = nI sl ∧ f_outLimit = nI ol ∧ y_outLimit = nI ol ∧ f_count = nI cnt ∧ y_count = nI cnt ∧ y_depth = nI dp ∧ f_outs = nI ou ∧ y_outs = nI ou ∧ f_at = nI ax ∧ y_at = nI ax ∧ y_status = f_status ∧ b_regs = a_regs ∧ b_log = a_log) ∧
      oz_Bs cap sl ol cnt dp ou ∧ oz_Em cnt E b_ops b_as b_bs ∧
      ((f_phase = nI 0 ∧ y_phase = nI 0 ∧ f_held = nI cnt ∧ f_sp = nI 0 ∧ f_hidden = nI 0 ∧ dp = 0 ∧ oz_Cd a_code cnt E) ∨
       ∃ (ph h ms pc r : Nat) (S : List Nat) (w og : Nat → Nat) (R : Nat → List Nat → Nat → Nat → Prop), f_phase = nI ph ∧ y_phase = nI ph ∧ f_held = nI h ∧ f_mainSize = nI ms ∧ f_sp = nI (dp + S.length) ∧ f_hidden = nI S.length ∧ f_pc = nI pc ∧
         oz_Hp ph cnt h ms r E w og R a_code a_origin ∧ oz_Ds ax dp ms pc S og R a_cells a_linked b_cells b_links)
theorem i_up {k : Nat} {u : SX} {v : SY} (h : i_Rel k u v) : i_Rel (k + 4) u v := h
section
variable {f_opLds f_opSts f_opPop f_opRet f_opJmp f_opJnz f_opCall f_hiddenCall f_hiddenReturn f_hiddenJump f_capacity f_stackLimit f_outLimit f_phase f_count f_held f_mainSize f_sp f_hidden f_outs f_at f_pc f_status f_bestSaving f_bestFrom f_bestLen f_bestCount : Int32} {a_code a_origin a_regs a_cells a_linked a_log a_target a_plainLen a_tailLen a_order a_rank a_shared a_site a_inner a_next a_moved a_trail : Nat → Int32} {y_capacity y_stackLimit y_outLimit y_phase y_count y_status y_at y_depth y_outs : Int32} {b_ops b_as b_bs b_regs b_cells b_links b_log : Nat → Int32}
variable {k cap sl ol cnt dp ou ax ph h ms pc r : Nat} {E w og : Nat → Nat} {S : List Nat} {R : Nat → List Nat → Nat → Nat → Prop} {st : Int32}
theorem oz_in0 (hB : oz_Bs cap sl ol cnt 0 ou) (hE : oz_Em cnt E b_ops b_as b_bs) (hc : oz_Cd a_code cnt E) : i_Rel k (f_opLds, f_opSts, f_opPop, f_opRet, f_opJmp, f_opJnz, f_opCall, f_hiddenCall, f_hiddenReturn, f_hiddenJump, nI cap, nI sl, nI ol, nI 0, nI cnt, nI cnt, f_mainSize, nI 0, nI 0, nI ou, nI ax, f_pc, st, f_bestSaving, f_bestFrom, f_bestLen, f_bestCount, a_code, a_origin, a_regs, a_cells, a_linked, a_log, a_target, a_plainLen, a_tailLen, a_order, a_rank, a_shared, a_site, a_inner, a_next, a_moved, a_trail) (nI cap, nI sl, nI ol, nI 0, nI cnt, st, nI ax, nI 0, nI ou, b_ops, b_as, b_bs, a_regs, b_cells, b_links, a_log) :=
  ⟨cap, sl, ol, cnt, 0, ou, ax, E, ⟨rfl, rfl, rfl, rfl, rfl, rfl, rfl, rfl, rfl, rfl, rfl, rfl, rfl, rfl, rfl, rfl⟩, hB, hE, Or.inl ⟨rfl, rfl, rfl, rfl, rfl, rfl, hc⟩⟩
theorem oz_in1 (hB : oz_Bs cap sl ol cnt dp ou) (hE : oz_Em cnt E b_ops b_as b_bs) (hP : oz_Hp ph cnt h ms r E w og R a_code a_origin) (hD : oz_Ds ax dp ms pc S og R a_cells a_linked b_cells b_links) : i_Rel k (f_opLds, f_opSts, f_opPop, f_opRet, f_opJmp, f_opJnz, f_opCall, f_hiddenCall, f_hiddenReturn, f_hiddenJump, nI cap, nI sl, nI ol, nI ph, nI cnt, nI h, nI ms, nI (dp + S.length), nI S.length, nI ou, nI ax, nI pc, st, f_bestSaving, f_bestFrom, f_bestLen, f_bestCount, a_code, a_origin, a_regs, a_cells, a_linked, a_log, a_target, a_plainLen, a_tailLen, a_order, a_rank, a_shared, a_site, a_inner, a_next, a_moved, a_trail) (nI cap, nI sl, nI ol, nI ph, nI cnt, st, nI ax, nI dp, nI ou, b_ops, b_as, b_bs, a_regs, b_cells, b_links, a_log) :=
  ⟨cap, sl, ol, cnt, dp, ou, ax, E, ⟨rfl, rfl, rfl, rfl, rfl, rfl, rfl, rfl, rfl, rfl, rfl, rfl, rfl, rfl, rfl, rfl⟩, hB, hE, Or.inr ⟨ph, h, ms, pc, r, S, w, og, R, rfl, rfl, rfl, rfl, rfl, rfl, rfl, hP, hD⟩⟩
end
theorem oz_el {k : Nat} {P : SX → SY → Prop}
    (h0 : ∀ (cap sl ol cnt ou ax : Nat) (E : Nat → Nat) (st : Int32) (f_opLds f_opSts f_opPop f_opRet f_opJmp f_opJnz f_opCall f_hiddenCall f_hiddenReturn f_hiddenJump f_capacity f_stackLimit f_outLimit f_phase f_count f_held f_mainSize f_sp f_hidden f_outs f_at f_pc f_status f_bestSaving f_bestFrom f_bestLen f_bestCount : Int32) (a_code a_origin a_regs a_cells a_linked a_log a_target a_plainLen a_tailLen a_order a_rank a_shared a_site a_inner a_next a_moved a_trail : Nat → Int32) (y_capacity : Int32) (b_ops b_as b_bs b_cells b_links : Nat → Int32), oz_Bs cap sl ol cnt 0 ou → oz_Em cnt E b_ops b_as b_bs → oz_Cd a_code cnt E → P (f_opLds, f_opSts, f_opPop, f_opRet, f_opJmp, f_opJnz, f_opCall, f_hiddenCall, f_hiddenReturn, f_hiddenJump, nI cap, nI sl, nI ol, nI 0, nI cnt, nI cnt, f_mainSize, nI 0, nI 0, nI ou, nI ax, f_pc, st, f_bestSaving, f_bestFrom, f_bestLen, f_bestCount, a_code, a_origin, a_regs, a_cells, a_linked, a_log, a_target, a_plainLen, a_tailLen, a_order, a_rank, a_shared, a_site, a_inner, a_next, a_moved, a_trail) (nI cap, nI sl, nI ol, nI 0, nI cnt, st, nI ax, nI 0, nI ou, b_ops, b_as, b_bs, a_regs, b_cells, b_links, a_log))
    (h1 : ∀ (cap sl ol cnt dp ou ax ph h ms pc r : Nat) (E w og : Nat → Nat) (S : List Nat) (R : Nat → List Nat → Nat → Nat → Prop) (st : Int32) (f_opLds f_opSts f_opPop f_opRet f_opJmp f_opJnz f_opCall f_hiddenCall f_hiddenReturn f_hiddenJump f_capacity f_stackLimit f_outLimit f_phase f_count f_held f_mainSize f_sp f_hidden f_outs f_at f_pc f_status f_bestSaving f_bestFrom f_bestLen f_bestCount : Int32) (a_code a_origin a_regs a_cells a_linked a_log a_target a_plainLen a_tailLen a_order a_rank a_shared a_site a_inner a_next a_moved a_trail : Nat → Int32) (b_ops b_as b_bs b_cells b_links : Nat → Int32), oz_Bs cap sl ol cnt dp ou → oz_Em cnt E b_ops b_as b_bs → oz_Hp ph cnt h ms r E w og R a_code a_origin → oz_Ds ax dp ms pc S og R a_cells a_linked b_cells b_links → P (f_opLds, f_opSts, f_opPop, f_opRet, f_opJmp, f_opJnz, f_opCall, f_hiddenCall, f_hiddenReturn, f_hiddenJump, nI cap, nI sl, nI ol, nI ph, nI cnt, nI h, nI ms, nI (dp + S.length), nI S.length, nI ou, nI ax, nI pc, st, f_bestSaving, f_bestFrom, f_bestLen, f_bestCount, a_code, a_origin, a_regs, a_cells, a_linked, a_log, a_target, a_plainLen, a_tailLen, a_order, a_rank, a_shared, a_site, a_inner, a_next, a_moved, a_trail) (nI cap, nI sl, nI ol, nI ph, nI cnt, st, nI ax, nI dp, nI ou, b_ops, b_as, b_bs, a_regs, b_cells, b_links, a_log))
    {u : SX} {v : SY} (I : i_Rel k u v) : P u v := by
  obtain ⟨f_opLds, f_opSts, f_opPop, f_opRet, f_opJmp, f_opJnz, f_opCall, f_hiddenCall, f_hiddenReturn, f_hiddenJump, f_capacity, f_stackLimit, f_outLimit, f_phase, f_count, f_held, f_mainSize, f_sp, f_hidden, f_outs, f_at, f_pc, f_status, f_bestSaving, f_bestFrom, f_bestLen, f_bestCount, a_code, a_origin, a_regs, a_cells, a_linked, a_log, a_target, a_plainLen, a_tailLen, a_order, a_rank, a_shared, a_site, a_inner, a_next, a_moved, a_trail⟩ := u
  obtain ⟨y_capacity, y_stackLimit, y_outLimit, y_phase, y_count, y_status, y_at, y_depth, y_outs, b_ops, b_as, b_bs, b_regs, b_cells, b_links, b_log⟩ := v
  obtain ⟨cap, sl, ol, cnt, dp, ou, ax, E, ⟨rfl, rfl, rfl, rfl, rfl, rfl, rfl, rfl, rfl, rfl, rfl, rfl, rfl, rfl, rfl, rfl⟩, hB, hE, ⟨rfl, rfl, rfl, rfl, rfl, rfl, hc⟩ | ⟨ph, h, ms, pc, r, S, w, og, R, rfl, rfl, rfl, rfl, rfl, rfl, rfl, hP, hD⟩⟩ := I
  · have q := h0 cap sl ol cnt ou ax E y_status
    exact q _ _ _ _ _ _ _ _ _ _ 0 0 0 0 0 0 _ 0 0 0 0 _ 0 _ _ _ _ _ _ _ _ _ _ _ _ _ _ _ _ _ _ _ _ _ 0 _ _ _ _ _ hB hE hc
  · have q := h1 cap sl ol cnt dp ou ax ph h ms pc r E w og S R y_status
    exact q _ _ _ _ _ _ _ _ _ _ 0 0 0 0 0 0 0 0 0 0 0 0 0 _ _ _ _ _ _ _ _ _ _ _ _ _ _ _ _ _ _ _ _ _ _ _ _ _ _ hB hE hP hD
end
section
/-! faults on both sides; X's push, go, follow -/
/-- the fault of an instruction, by the visible stack -/
def oz_ft (o b dp ou sl ol : Nat) (lk : Nat → Int32) : Int32 :=
  if o = 5 ∨ o = 6 then (if b < dp then (if lk (dp - 1 - b) = 0 then 0 else 4) else 3)
  else if o = 9 then (if dp = 0 then 3 else if lk (dp - 1) = 0 then 0 else 4)
  else if o = 7 then (if ou < ol then 0 else 7)
  else if o = 8 ∨ o = 13 then (if dp < sl then 0 else 6)
  else if o = 10 then (if dp = 0 then 3 else if lk (dp - 1) = 0 then 5 else 0)
  else 0
section
variable {o b dp ou sl ol : Nat} {lk : Nat → Int32}
theorem oz_ft56 (h : o = 5 ∨ o = 6) : oz_ft o b dp ou sl ol lk = if b < dp then (if lk (dp - 1 - b) = 0 then 0 else 4) else 3 := by
  unfold oz_ft; rw [if_pos h]
theorem oz_ft9 (h : o = 9) : oz_ft o b dp ou sl ol lk = if dp = 0 then 3 else if lk (dp - 1) = 0 then 0 else 4 := by
  unfold oz_ft; rw [if_neg (by omega), if_pos h]
theorem oz_ft7 (h : o = 7) : oz_ft o b dp ou sl ol lk = if ou < ol then 0 else 7 := by
  unfold oz_ft; rw [if_neg (by omega), if_neg (by omega), if_pos h]
theorem oz_ft8 (h : o = 8 ∨ o = 13) : oz_ft o b dp ou sl ol lk = if dp < sl then 0 else 6 := by
  unfold oz_ft; rw [if_neg (by omega), if_neg (by omega), if_neg (by omega), if_pos h]
theorem oz_ft10 (h : o = 10) : oz_ft o b dp ou sl ol lk = if dp = 0 then 3 else if lk (dp - 1) = 0 then 5 else 0 := by
  unfold oz_ft; rw [if_neg (by omega), if_neg (by omega), if_neg (by omega), if_neg (by omega), if_pos h]
theorem oz_ftn (h : ¬ (o = 5 ∨ o = 6 ∨ o = 7 ∨ o = 8 ∨ o = 9 ∨ o = 10 ∨ o = 13)) : oz_ft o b dp ou sl ol lk = 0 := by
  unfold oz_ft; rw [if_neg (by omega), if_neg (by omega), if_neg (by omega), if_neg (by omega), if_neg (by omega)]
end
theorem oz_pr {n : Nat} (h : 0 < n) : nI n - 1 = nI (n - 1) := by
  have := nI_pred (n - 1)
  rw [show n - 1 + 1 = n from by omega] at this
  exact this
section
variable {y_capacity y_stackLimit y_outLimit y_phase y_count y_status y_at y_depth y_outs : Int32} {b_ops b_as b_bs b_regs b_cells b_links b_log : Nat → Int32}
variable {post : Int32 → Prop} {o b dp ou sl ol cnt cap : Nat}
theorem oz_y139 (ho : o < 100) (hn : ¬ o = 10) (H : post 0) : wY_faultOf_139 post (nI o) y_capacity y_stackLimit y_outLimit y_phase y_count y_status y_at y_depth y_outs b_ops b_as b_bs b_regs b_cells b_links b_log := pk_eq o 10 (fun z => absurd z hn) (fun _ => H)
theorem oz_y117 (ho : o < 100) (h9 : ¬ o = 9) (h10 : ¬ o = 10) (H : post 0) : wY_faultOf_117 post (nI o) y_capacity y_stackLimit y_outLimit y_phase y_count y_status y_at y_depth y_outs b_ops b_as b_bs b_regs b_cells b_links b_log := pk_eq o 9 (fun z => absurd z h9) (fun _ => oz_y139 ho h10 H)
theorem oz_y96 (ho : o < 100) (h9 : ¬ o = 9) (h10 : ¬ o = 10) (H : post 0) : wY_faultOf_96 post (nI o) y_capacity y_stackLimit y_outLimit y_phase y_count y_status y_at y_depth y_outs b_ops b_as b_bs b_regs b_cells b_links b_log := pk_eq o 9 (fun z => absurd z h9) (fun _ => pk_eq o 10 (fun z => absurd z h10) (fun _ => oz_y117 ho h9 h10 H))
theorem oz_y70 (ho : o < 100) (h8 : ¬ o = 8) (h13 : ¬ o = 13) (H : wY_faultOf_96 post (nI o) y_capacity y_stackLimit y_outLimit y_phase y_count y_status y_at y_depth y_outs b_ops b_as b_bs b_regs b_cells b_links b_log) : wY_faultOf_70 post (nI o) y_capacity y_stackLimit y_outLimit y_phase y_count y_status y_at y_depth y_outs b_ops b_as b_bs b_regs b_cells b_links b_log := pk_eq o 8 (fun z => absurd z h8) (fun _ => pk_eq o 13 (fun z => absurd z h13) (fun _ => H))
theorem oz_y50 (ho : o < 100) (h7 : ¬ o = 7) (H : wY_faultOf_70 post (nI o) y_capacity y_stackLimit y_outLimit y_phase y_count y_status y_at y_depth y_outs b_ops b_as b_bs b_regs b_cells b_links b_log) : wY_faultOf_50 post (nI o) y_capacity y_stackLimit y_outLimit y_phase y_count y_status y_at y_depth y_outs b_ops b_as b_bs b_regs b_cells b_links b_log := pk_eq o 7 (fun z => absurd z h7) (fun _ => H)
theorem oz_y0 {x2 : Int32} (ho : o < 100) (h5 : ¬ o = 5) (h6 : ¬ o = 6) (H : wY_faultOf_50 post (nI o) y_capacity y_stackLimit y_outLimit y_phase y_count y_status y_at y_depth y_outs b_ops b_as b_bs b_regs b_cells b_links b_log) : wpY_faultOf post (y_capacity, y_stackLimit, y_outLimit, y_phase, y_count, y_status, y_at, y_depth, y_outs, b_ops, b_as, b_bs, b_regs, b_cells, b_links, b_log) (nI o) x2 := by
  have k : wY_faultOf_21 post (nI o) x2 y_capacity y_stackLimit y_outLimit y_phase y_count y_status y_at y_depth y_outs b_ops b_as b_bs b_regs b_cells b_links b_log := pk_eq o 5 (fun z => absurd z h5) (fun _ => pk_eq o 6 (fun z => absurd z h6) (fun _ => H))
  exact pk_eq o 5 (fun z => absurd z h5) (fun _ => pk_eq o 6 (fun z => absurd z h6) (fun _ => k))
theorem oz_Yft (ho : o < 100) (hb : b < 100) (hd : dp ≤ 12) (hsl : sl ≤ 12) (hou : ou ≤ 16) (hol : ol ≤ 16) (H : post (oz_ft o b dp ou sl ol b_links)) : wpY_faultOf post (y_capacity, nI sl, nI ol, y_phase, y_count, y_status, y_at, nI dp, nI ou, b_ops, b_as, b_bs, b_regs, b_cells, b_links, b_log) (nI o) (nI b) := by
  by_cases c5 : o = 5 ∨ o = 6
  · rw [oz_ft56 c5] at H
    have k : wY_faultOf_11 post (nI o) (nI b) y_capacity (nI sl) (nI ol) y_phase y_count y_status y_at (nI dp) (nI ou) b_ops b_as b_bs b_regs b_cells b_links b_log := by
      refine pk_lt b dp (fun z => ?_) (fun z => by rw [if_neg (by omega)] at H; exact H)
      rw [if_pos z] at H
      have e1 : nI dp - 1 - nI b = nI (dp - 1 - b) := by rw [oz_pr (by omega), pk_sub (by omega)]
      have er : b_links (nI dp - 1 - nI b).toNatClampNeg = b_links (dp - 1 - b) := by rw [e1, nI_clamp (by omega)]
      have k2 : wY_faultOf_32 post (nI o) (nI b) y_capacity (nI sl) (nI ol) y_phase y_count y_status y_at (nI dp) (nI ou) b_ops b_as b_bs b_regs b_cells b_links b_log := by
        refine ⟨pk_in (dp - 1 - b) 12 (by omega) e1, ?_⟩
        rw [er]
        by_cases g : b_links (dp - 1 - b) = 0
        · rw [if_pos g] at H
          exact br_t g (oz_y50 ho (by omega) (oz_y70 ho (by omega) (by omega) (oz_y96 ho (by omega) (by omega) H)))
        · rw [if_neg g] at H
          exact br_f g H
      exact pk_eq o 5 (fun _ => k2) (fun _ => pk_eq o 6 (fun _ => k2) (fun _ => by omega))
    exact pk_eq o 5 (fun _ => k) (fun _ => pk_eq o 6 (fun _ => k) (fun _ => by omega))
  · refine oz_y0 ho (by omega) (by omega) ?_
    by_cases c7 : o = 7
    · rw [oz_ft7 c7] at H
      refine pk_eq o 7 (fun _ => pk_lt ou ol (fun z => ?_) (fun z => by rw [if_neg (by omega)] at H; exact H)) (fun z => absurd c7 z)
      rw [if_pos z] at H
      exact oz_y70 ho (by omega) (by omega) (oz_y96 ho (by omega) (by omega) H)
    · refine oz_y50 ho c7 ?_
      by_cases c8 : o = 8 ∨ o = 13
      · rw [oz_ft8 c8] at H
        have k : wY_faultOf_82 post (nI o) y_capacity (nI sl) (nI ol) y_phase y_count y_status y_at (nI dp) (nI ou) b_ops b_as b_bs b_regs b_cells b_links b_log := by
          refine pk_lt dp sl (fun z => ?_) (fun z => by rw [if_neg (by omega)] at H; exact H)
          rw [if_pos z] at H
          exact oz_y96 ho (by omega) (by omega) H
        exact pk_eq o 8 (fun _ => k) (fun _ => pk_eq o 13 (fun _ => k) (fun _ => by omega))
      · refine oz_y70 ho (by omega) (by omega) ?_
        by_cases c9 : o = 9
        · rw [oz_ft9 c9] at H
          refine pk_eq o 9 (fun _ => pk_eq dp 0 (fun z => by rw [if_pos z] at H; exact H) (fun z => ?_)) (fun z => absurd c9 z)
          rw [if_neg z] at H
          have e1 := oz_pr (show 0 < dp by omega)
          have er : b_links (nI dp - 1).toNatClampNeg = b_links (dp - 1) := by rw [e1, nI_clamp (by omega)]
          refine pk_eq o 9 (fun _ => ⟨pk_in (dp - 1) 12 (by omega) e1, ?_⟩) (fun y => absurd c9 y)
          rw [er]
          by_cases g : b_links (dp - 1) = 0
          · rw [if_pos g] at H
            exact br_t g (oz_y139 ho (by omega) H)
          · rw [if_neg g] at H
            exact br_f g H
        · by_cases c10 : o = 10
          · rw [oz_ft10 c10] at H
            refine pk_eq o 9 (fun z => absurd z c9) (fun _ => pk_eq o 10 (fun _ => pk_eq dp 0 (fun z => by rw [if_pos z] at H; exact H) (fun z => ?_)) (fun z => absurd c10 z))
            rw [if_neg z] at H
            have e1 := oz_pr (show 0 < dp by omega)
            have er : b_links (nI dp - 1).toNatClampNeg = b_links (dp - 1) := by rw [e1, nI_clamp (by omega)]
            refine pk_eq o 9 (fun y => absurd y c9) (fun _ => pk_eq o 10 (fun _ => ⟨pk_in (dp - 1) 12 (by omega) e1, ?_⟩) (fun y => absurd c10 y))
            rw [er]
            by_cases g : b_links (dp - 1) = 0
            · rw [if_pos g] at H
              exact br_t g H
            · rw [if_neg g] at H
              exact br_f g H
          · rw [oz_ftn (by omega)] at H
            exact oz_y96 ho c9 c10 H
end
section
variable {f_opLds f_opSts f_opPop f_opRet f_opJmp f_opJnz f_opCall f_hiddenCall f_hiddenReturn f_hiddenJump f_capacity f_stackLimit f_outLimit f_phase f_count f_held f_mainSize f_sp f_hidden f_outs f_at f_pc f_status f_bestSaving f_bestFrom f_bestLen f_bestCount : Int32} {a_code a_origin a_regs a_cells a_linked a_log a_target a_plainLen a_tailLen a_order a_rank a_shared a_site a_inner a_next a_moved a_trail : Nat → Int32}
variable {o b bx dp ou sl ol hd : Nat} {lk : Nat → Int32}
theorem oz_Xft {post : Int32 → Prop} (ho : o < 100) (hb : b < 100) (hd12 : dp ≤ 12) (hh8 : hd ≤ 8) (hsl : sl ≤ 12) (hou : ou ≤ 16) (hol : ol ≤ 16) (hlk : ∀ i, i < dp → a_linked i = lk i) (h56 : (o = 5 ∨ o = 6) → bx = b + hd) (h8 : 8 ≤ o → hd = 0) (h9 : o = 9 → bx = 0) (hbx : bx < 100) (H : post (oz_ft o b dp ou sl ol lk)) : wpX_faultOf post (f_opLds, f_opSts, f_opPop, f_opRet, f_opJmp, f_opJnz, f_opCall, f_hiddenCall, f_hiddenReturn, f_hiddenJump, f_capacity, nI sl, nI ol, f_phase, f_count, f_held, f_mainSize, nI (dp + hd), nI hd, nI ou, f_at, f_pc, f_status, f_bestSaving, f_bestFrom, f_bestLen, f_bestCount, a_code, a_origin, a_regs, a_cells, a_linked, a_log, a_target, a_plainLen, a_tailLen, a_order, a_rank, a_shared, a_site, a_inner, a_next, a_moved, a_trail) (nI o) (nI bx) := by
  have f17 : ∀ j, j + bx + 1 = dp + hd → j < dp → (a_linked j = 0 → post 0) → (¬ a_linked j = 0 → post 4) → wX_faultOf_17 post (nI bx) f_opLds f_opSts f_opPop f_opRet f_opJmp f_opJnz f_opCall f_hiddenCall f_hiddenReturn f_hiddenJump f_capacity (nI sl) (nI ol) f_phase f_count f_held f_mainSize (nI (dp + hd)) (nI hd) (nI ou) f_at f_pc f_status f_bestSaving f_bestFrom f_bestLen f_bestCount a_code a_origin a_regs a_cells a_linked a_log a_target a_plainLen a_tailLen a_order a_rank a_shared a_site a_inner a_next a_moved a_trail := by
    intro j hj hjd k0 k4
    have e1 : nI (dp + hd) - 1 - nI bx = nI j := by rw [oz_pr (by omega), pk_sub (by omega)]; exact congrArg nI (by omega)
    have er : a_linked (nI (dp + hd) - 1 - nI bx).toNatClampNeg = a_linked j := by rw [e1, nI_clamp (by omega)]
    refine pk_lt bx (dp + hd) (fun _ => ⟨pk_in j 32 (by omega) e1, ?_⟩) (fun z => absurd z (by omega))
    rw [er]
    exact br_c k0 k4
  have f100 : o = 10 ∨ post 0 → wX_faultOf_100 post (nI o) f_opLds f_opSts f_opPop f_opRet f_opJmp f_opJnz f_opCall f_hiddenCall f_hiddenReturn f_hiddenJump f_capacity (nI sl) (nI ol) f_phase f_count f_held f_mainSize (nI (dp + hd)) (nI hd) (nI ou) f_at f_pc f_status f_bestSaving f_bestFrom f_bestLen f_bestCount a_code a_origin a_regs a_cells a_linked a_log a_target a_plainLen a_tailLen a_order a_rank a_shared a_site a_inner a_next a_moved a_trail := by
    intro k
    refine pk_eq o 10 (fun c10 => ?_) (fun c10 => k.resolve_left c10)
    have h0 := h8 (by omega)
    subst h0
    rw [oz_ft10 c10] at H
    refine pk_eq (dp + 0) 0 (fun z => by rw [if_pos (show dp = 0 from z)] at H; exact H) (fun z => ?_)
    have z' : ¬ dp = 0 := z
    rw [if_neg z'] at H
    have e1 := oz_pr (show 0 < dp by omega)
    have er : a_linked (nI (dp + 0) - 1).toNatClampNeg = lk (dp - 1) := by rw [Nat.add_zero, e1, nI_clamp (by omega), hlk _ (by omega)]
    refine ⟨pk_in (dp - 1) 32 (by omega) e1, ?_⟩
    rw [er]
    by_cases g : lk (dp - 1) = 0
    · rw [if_pos g] at H; exact br_t g H
    · rw [if_neg g] at H; exact br_f g H
  have f69 : wX_faultOf_69 post (nI o) f_opLds f_opSts f_opPop f_opRet f_opJmp f_opJnz f_opCall f_hiddenCall f_hiddenReturn f_hiddenJump f_capacity (nI sl) (nI ol) f_phase f_count f_held f_mainSize (nI (dp + hd)) (nI hd) (nI ou) f_at f_pc f_status f_bestSaving f_bestFrom f_bestLen f_bestCount a_code a_origin a_regs a_cells a_linked a_log a_target a_plainLen a_tailLen a_order a_rank a_shared a_site a_inner a_next a_moved a_trail ∨ (o = 7 ∧ ¬ ou < ol) ∨ o = 5 ∨ o = 6 ∨ o = 9 := by
    by_cases c8 : o = 8 ∨ o = 13
    · refine Or.inl ?_
      rw [oz_ft8 c8] at H
      have k : wX_faultOf_81 post (nI o) f_opLds f_opSts f_opPop f_opRet f_opJmp f_opJnz f_opCall f_hiddenCall f_hiddenReturn f_hiddenJump f_capacity (nI sl) (nI ol) f_phase f_count f_held f_mainSize (nI (dp + hd)) (nI hd) (nI ou) f_at f_pc f_status f_bestSaving f_bestFrom f_bestLen f_bestCount a_code a_origin a_regs a_cells a_linked a_log a_target a_plainLen a_tailLen a_order a_rank a_shared a_site a_inner a_next a_moved a_trail := by
        have e : nI (dp + hd) - nI hd = nI dp := by rw [pk_sub (by omega)]; exact congrArg nI (by omega)
        refine pk_lt dp sl (fun z => ?_) (fun z => by rw [if_neg (by omega)] at H; exact H) (hx := e)
        rw [if_pos z] at H
        exact f100 (Or.inr H)
      exact pk_eq o 8 (fun _ => k) (fun _ => pk_eq o 13 (fun _ => k) (fun _ => by omega))
    · by_cases c7 : o = 7
      · by_cases z : ou < ol
        · refine Or.inl (pk_eq o 8 (fun z => by omega) (fun _ => pk_eq o 13 (fun z => by omega) (fun _ => f100 (Or.inr ?_))))
          rw [oz_ft7 c7, if_pos z] at H
          exact H
        · exact Or.inr (Or.inl ⟨c7, z⟩)
      · by_cases c5 : o = 5 ∨ o = 6 ∨ o = 9
        · exact Or.inr (Or.inr c5)
        · refine Or.inl (pk_eq o 8 (fun z => by omega) (fun _ => pk_eq o 13 (fun z => by omega) (fun _ => f100 ?_)))
          by_cases c10 : o = 10
          · exact Or.inl c10
          · rw [oz_ftn (by omega)] at H
            exact Or.inr H
  have g17 : (o = 5 ∨ o = 6) ∨ o = 9 → wX_faultOf_17 post (nI bx) f_opLds f_opSts f_opPop f_opRet f_opJmp f_opJnz f_opCall f_hiddenCall f_hiddenReturn f_hiddenJump f_capacity (nI sl) (nI ol) f_phase f_count f_held f_mainSize (nI (dp + hd)) (nI hd) (nI ou) f_at f_pc f_status f_bestSaving f_bestFrom f_bestLen f_bestCount a_code a_origin a_regs a_cells a_linked a_log a_target a_plainLen a_tailLen a_order a_rank a_shared a_site a_inner a_next a_moved a_trail := by
    rintro (c | c)
    · have e := h56 c
      rw [oz_ft56 c] at H
      by_cases z : b < dp
      · rw [if_pos z] at H
        have l := hlk (dp - 1 - b) (by omega)
        refine f17 (dp - 1 - b) (by omega) (by omega) (fun g => ?_) (fun g => ?_)
        · rw [l] at g; rw [if_pos g] at H; exact H
        · rw [l] at g; rw [if_neg g] at H; exact H
      · rw [if_neg z] at H
        exact pk_lt bx (dp + hd) (fun y => absurd y (by omega)) (fun _ => H)
    · have e := h9 c
      have h0 := h8 (by omega)
      rw [oz_ft9 c] at H
      by_cases z : dp = 0
      · rw [if_pos z] at H
        exact pk_lt bx (dp + hd) (fun y => absurd y (by omega)) (fun _ => H)
      · rw [if_neg z] at H
        have l := hlk (dp - 1) (by omega)
        refine f17 (dp - 1) (by omega) (by omega) (fun g => ?_) (fun g => ?_)
        · rw [l] at g; rw [if_pos g] at H; exact H
        · rw [l] at g; rw [if_neg g] at H; exact H
  refine pk_eq o 5 (fun c => g17 (Or.inl (Or.inl c))) (fun c5 => pk_eq o 6 (fun c => g17 (Or.inl (Or.inr c))) (fun c6 => pk_eq o 9 (fun c => g17 (Or.inr c)) (fun c9 => pk_eq o 7 (fun c7 => pk_lt ou ol (fun z => ?_) (fun z => ?_)) (fun c7 => ?_))))
  · rcases f69 with k | k | k
    · exact k
    · omega
    · omega
  · rw [oz_ft7 c7, if_neg (by omega)] at H
    exact H
  · rcases f69 with k | k | k
    · exact k
    · omega
    · omega
theorem oz_Xpush {post : SX → Prop} {n : Nat} {v l : Int32} (hn : n < 32) (H : post (f_opLds, f_opSts, f_opPop, f_opRet, f_opJmp, f_opJnz, f_opCall, f_hiddenCall, f_hiddenReturn, f_hiddenJump, f_capacity, f_stackLimit, f_outLimit, f_phase, f_count, f_held, f_mainSize, nI (n + 1), f_hidden, f_outs, f_at, f_pc, f_status, f_bestSaving, f_bestFrom, f_bestLen, f_bestCount, a_code, a_origin, a_regs, upd a_cells n v, upd a_linked n (vp_nar .boolean l), a_log, a_target, a_plainLen, a_tailLen, a_order, a_rank, a_shared, a_site, a_inner, a_next, a_moved, a_trail)) : wpX_push post (f_opLds, f_opSts, f_opPop, f_opRet, f_opJmp, f_opJnz, f_opCall, f_hiddenCall, f_hiddenReturn, f_hiddenJump, f_capacity, f_stackLimit, f_outLimit, f_phase, f_count, f_held, f_mainSize, nI n, f_hidden, f_outs, f_at, f_pc, f_status, f_bestSaving, f_bestFrom, f_bestLen, f_bestCount, a_code, a_origin, a_regs, a_cells, a_linked, a_log, a_target, a_plainLen, a_tailLen, a_order, a_rank, a_shared, a_site, a_inner, a_next, a_moved, a_trail) v l :=
  pk_lt n 32 (fun _ => ⟨pk_in n 32 hn, nm_r (oz_up (by omega)) ⟨pk_in n 32 hn, nm_r (oz_up (by omega)) (nm_r (nI_1 n) H)⟩⟩) (fun z => absurd z (by omega))
theorem oz_Xgo {post : SX → Prop} {L : Nat} {v : Int32} (hL : L < 40) (e : a_origin L = v) (H : post (f_opLds, f_opSts, f_opPop, f_opRet, f_opJmp, f_opJnz, f_opCall, f_hiddenCall, f_hiddenReturn, f_hiddenJump, f_capacity, f_stackLimit, f_outLimit, f_phase, f_count, f_held, f_mainSize, f_sp, f_hidden, f_outs, v, nI L, f_status, f_bestSaving, f_bestFrom, f_bestLen, f_bestCount, a_code, a_origin, a_regs, a_cells, a_linked, a_log, a_target, a_plainLen, a_tailLen, a_order, a_rank, a_shared, a_site, a_inner, a_next, a_moved, a_trail)) : wpX_go post (f_opLds, f_opSts, f_opPop, f_opRet, f_opJmp, f_opJnz, f_opCall, f_hiddenCall, f_hiddenReturn, f_hiddenJump, f_capacity, f_stackLimit, f_outLimit, f_phase, f_count, f_held, f_mainSize, f_sp, f_hidden, f_outs, f_at, f_pc, f_status, f_bestSaving, f_bestFrom, f_bestLen, f_bestCount, a_code, a_origin, a_regs, a_cells, a_linked, a_log, a_target, a_plainLen, a_tailLen, a_order, a_rank, a_shared, a_site, a_inner, a_next, a_moved, a_trail) (nI L) :=
  ⟨pk_in L 40 hL, nm_r (oz_rd (by omega) e) H⟩
theorem oz_HsU {dp k : Nat} {c : Nat → Int32} {v : Int32} : ∀ {S : List Nat}, (dp + S.length ≤ k ∨ k < dp) → oz_Hs dp c S → oz_Hs dp (upd c k v) S := by
  intro S
  induction S with
  | nil => intro _ _; exact True.intro
  | cons q S ih =>
    intro hk hT
    rw [List.length_cons] at hk
    exact ⟨by rw [pk_un (by omega)]; exact hT.1, ih (by omega) hT.2⟩
end
end
section
/-! X: follow; Y: perform's skips -/
section
variable {f_opLds f_opSts f_opPop f_opRet f_opJmp f_opJnz f_opCall f_hiddenCall f_hiddenReturn f_hiddenJump f_capacity f_stackLimit f_outLimit f_phase f_count f_held f_mainSize f_sp f_hidden f_outs f_at f_pc f_status f_bestSaving f_bestFrom f_bestLen f_bestCount : Int32} {a_code a_origin a_regs a_cells a_linked a_log a_target a_plainLen a_tailLen a_order a_rank a_shared a_site a_inner a_next a_moved a_trail : Nat → Int32}
variable {cap sl ol cnt dp ou ax ph h ms r x : Nat} {E w og : Nat → Nat} {R : Nat → List Nat → Nat → Nat → Prop} {st : Int32} {post : SX → Prop}
theorem oz_fo2 (hd : dp ≤ 12) (hr : r ≤ 8) (hc : oz_Cd a_code h w) (hSt : oz_St w h ms og cnt r) (hDy : oz_Dy R w h ms og E cnt r) (hax : ax < cnt) :
    ∀ m hop pc S x cells linked, hop + m ≤ 30 → R pc S ax x → oz_M w m pc S → oz_Hs dp cells S →
      ∃ pc2 S2 x2 cells2 linked2, R pc2 S2 ax x2 ∧ w pc2 / 256 ≤ 14 ∧ oz_Hs dp cells2 S2 ∧ (∀ i, i < dp → cells2 i = cells i ∧ linked2 i = linked i) ∧
        ∀ post : SX → Prop, post (f_opLds, f_opSts, f_opPop, f_opRet, f_opJmp, f_opJnz, f_opCall, f_hiddenCall, f_hiddenReturn, f_hiddenJump, nI cap, nI sl, nI ol, nI ph, nI cnt, nI h, nI ms, nI (dp + S2.length), nI S2.length, nI ou, nI ax, nI pc2, st, f_bestSaving, f_bestFrom, f_bestLen, f_bestCount, a_code, a_origin, a_regs, cells2, linked2, a_log, a_target, a_plainLen, a_tailLen, a_order, a_rank, a_shared, a_site, a_inner, a_next, a_moved, a_trail) → wX_follow_2 post m (nI hop) f_opLds f_opSts f_opPop f_opRet f_opJmp f_opJnz f_opCall f_hiddenCall f_hiddenReturn f_hiddenJump (nI cap) (nI sl) (nI ol) (nI ph) (nI cnt) (nI h) (nI ms) (nI (dp + S.length)) (nI S.length) (nI ou) (nI ax) (nI pc) st f_bestSaving f_bestFrom f_bestLen f_bestCount a_code a_origin a_regs cells linked a_log a_target a_plainLen a_tailLen a_order a_rank a_shared a_site a_inner a_next a_moved a_trail := by
  have hle := hSt.1
  intro m
  induction m with
  | zero => intro hop pc S x cells linked h1 h2 h3 h4; exact (oz_M0 h3).elim
  | succ m ih =>
    intro hop pc S x cells linked h1 hR hM hs
    obtain ⟨hp, q15, q16, q17, q14⟩ := hDy.2.2 pc S ax x hR hax
    obtain ⟨hb1, hb2, hb3, hb4⟩ := hDy.2.1 pc S ax x hR
    have wp := hSt.2.1 pc hp
    have ci := hc pc hp
    by_cases k15 : w pc / 256 = 15
    · obtain ⟨pc2, S2, x2, cells2, linked2, r1, r2, r3, r4, r5⟩ := ih (hop + 1) _ ((pc + 1) :: S) x (upd cells (dp + S.length) (nI pc + 1)) (upd linked (dp + S.length) (vp_nar .boolean 1)) (by omega) (q15 k15) (oz_M1 hSt hp (Or.inl k15) hM _) ⟨by rw [pk_us, nI_1], oz_HsU (Or.inl (Nat.le_refl _)) hs⟩
      refine ⟨pc2, S2, x2, cells2, linked2, r1, r2, r3, fun i hi => ?_, fun post H => ?_⟩
      · have := r4 i hi
        rw [pk_un (by omega), pk_un (by omega)] at this
        exact this
      · refine pk_le 64 hop (fun z => absurd z (by omega)) (fun _ => ⟨pk_in pc 40 (by omega), nm_r (oz_rop (by omega) (by omega) ci) ⟨pk_in pc 40 (by omega), nm_r (oz_rb (by omega) (by omega) ci) (pk_eq (w pc / 256) 15 (fun k => ?_) (fun k => absurd k15 k))⟩⟩)
        exact oz_Xpush (n := dp + S.length) (by omega) (nm_r (nI_1 _) (nm_r (nI_1 hop) (r5 post H)))
    · by_cases k16 : w pc / 256 = 16
      · obtain ⟨q, S', rfl, hR2⟩ := q16 k16
        have hq := (hDy.2.2 q S' ax x hR2 hax).1
        rw [List.length_cons] at hb3
        obtain ⟨pc2, S2, x2, cells2, linked2, r1, r2, r3, r4, r5⟩ := ih (hop + 1) q S' x cells linked (by omega) hR2 (oz_M2 hSt hr hq k16 hM) hs.2
        refine ⟨pc2, S2, x2, cells2, linked2, r1, r2, r3, r4, fun post H => ?_⟩
        refine pk_le 64 hop (fun z => absurd z (by omega)) (fun _ => ⟨pk_in pc 40 (by omega), nm_r (oz_rop (by omega) (by omega) ci) ⟨pk_in pc 40 (by omega), nm_r (oz_rb (by omega) (by omega) ci) (pk_eq (w pc / 256) 15 (fun k => absurd k k15) (fun _ => pk_eq (w pc / 256) 16 (fun _ => ?_) (fun k => absurd k16 k)))⟩⟩)
        exact pk_le (S'.length + 1) 0 (fun y => absurd y (by omega)) (fun _ => nm_r (e' := nI (dp + S'.length)) (nI_pred _) (nm_r (e' := nI S'.length) (nI_pred _) ⟨pk_in (dp + S'.length) 32 (by omega), nm_r (e' := nI q) (oz_rd (by omega) hs.1) (nm_r (nI_1 hop) (r5 post H))⟩))
      · by_cases k17 : w pc / 256 = 17
        · have hR2 : ∃ x2, R (w pc % 32) S ax x2 := by
            by_cases c : pc < ms
            · exact ⟨_, (q17 k17).1 c⟩
            · exact ⟨_, (q17 k17).2 (by omega)⟩
          obtain ⟨y2, hR2⟩ := hR2
          obtain ⟨pc2, S2, x2, cells2, linked2, r1, r2, r3, r4, r5⟩ := ih (hop + 1) _ S y2 cells linked (by omega) hR2 (oz_M1 hSt hp (Or.inr k17) hM S) hs
          refine ⟨pc2, S2, x2, cells2, linked2, r1, r2, r3, r4, fun post H => ?_⟩
          exact pk_le 64 hop (fun z => absurd z (by omega)) (fun _ => ⟨pk_in pc 40 (by omega), nm_r (oz_rop (by omega) (by omega) ci) ⟨pk_in pc 40 (by omega), nm_r (oz_rb (by omega) (by omega) ci) (pk_eq (w pc / 256) 15 (fun k => absurd k k15) (fun _ => pk_eq (w pc / 256) 16 (fun k => absurd k k16) (fun _ => pk_eq (w pc / 256) 17 (fun _ => nm_r (nI_1 hop) (r5 post H)) (fun k => absurd k17 k))))⟩⟩)
        · refine ⟨pc, S, x, cells, linked, hR, by omega, hs, fun i hi => ⟨rfl, rfl⟩, fun post H => ?_⟩
          exact pk_le 64 hop (fun z => absurd z (by omega)) (fun _ => ⟨pk_in pc 40 (by omega), nm_r (oz_rop (by omega) (by omega) ci) ⟨pk_in pc 40 (by omega), nm_r (oz_rb (by omega) (by omega) ci) (pk_eq (w pc / 256) 15 (fun k => absurd k k15) (fun _ => pk_eq (w pc / 256) 16 (fun k => absurd k k16) (fun _ => pk_eq (w pc / 256) 17 (fun k => absurd k k17) (fun _ => H))))⟩⟩)
end
section
variable {y_capacity y_stackLimit y_outLimit y_phase y_count y_status y_at y_depth y_outs : Int32} {b_ops b_as b_bs b_regs b_cells b_links b_log : Nat → Int32}
variable {post : SY → Prop} {o ax : Nat} {x2 x3 x4 : Int32}
theorem oz_r353 (ho : o < 100) (h : ¬ o = 14) (H : post (y_capacity, y_stackLimit, y_outLimit, y_phase, y_count, y_status, x4, y_depth, y_outs, b_ops, b_as, b_bs, b_regs, b_cells, b_links, b_log)) : wY_perform_353 post (nI o) x4 y_capacity y_stackLimit y_outLimit y_phase y_count y_status y_at y_depth y_outs b_ops b_as b_bs b_regs b_cells b_links b_log := pk_eq o 14 (fun z => absurd z h) (fun _ => H)
theorem oz_r335 (ho : o < 100) (h2 : ¬ o = 12) (H : wY_perform_353 post (nI o) x4 y_capacity y_stackLimit y_outLimit y_phase y_count y_status y_at y_depth y_outs b_ops b_as b_bs b_regs b_cells b_links b_log) : wY_perform_335 post (nI o) x2 x3 x4 y_capacity y_stackLimit y_outLimit y_phase y_count y_status y_at y_depth y_outs b_ops b_as b_bs b_regs b_cells b_links b_log := pk_eq o 12 (fun z => absurd z h2) (fun _ => H)
theorem oz_r320 (ho : o < 100) (h1 : ¬ o = 11) (h3 : ¬ o = 13) (H : wY_perform_335 post (nI o) x2 x3 x4 y_capacity y_stackLimit y_outLimit y_phase y_count y_status y_at y_depth y_outs b_ops b_as b_bs b_regs b_cells b_links b_log) : wY_perform_320 post (nI o) x2 x3 x4 y_capacity y_stackLimit y_outLimit y_phase y_count y_status y_at y_depth y_outs b_ops b_as b_bs b_regs b_cells b_links b_log := pk_eq o 11 (fun z => absurd z h1) (fun _ => pk_eq o 13 (fun z => absurd z h3) (fun _ => H))
theorem oz_r303 (ho : o < 100) (h1 : ¬ o = 10) (H : wY_perform_320 post (nI o) x2 x3 x4 y_capacity y_stackLimit y_outLimit y_phase y_count y_status y_at y_depth y_outs b_ops b_as b_bs b_regs b_cells b_links b_log) : wY_perform_303 post (nI o) x2 x3 x4 y_capacity y_stackLimit y_outLimit y_phase y_count y_status y_at y_depth y_outs b_ops b_as b_bs b_regs b_cells b_links b_log := pk_eq o 10 (fun z => absurd z h1) (fun _ => H)
theorem oz_r282 (ho : o < 100) (h1 : ¬ o = 9) (H : wY_perform_303 post (nI o) x2 x3 x4 y_capacity y_stackLimit y_outLimit y_phase y_count y_status y_at y_depth y_outs b_ops b_as b_bs b_regs b_cells b_links b_log) : wY_perform_282 post (nI o) x2 x3 x4 y_capacity y_stackLimit y_outLimit y_phase y_count y_status y_at y_depth y_outs b_ops b_as b_bs b_regs b_cells b_links b_log := pk_eq o 9 (fun z => absurd z h1) (fun _ => H)
theorem oz_r260 (ho : o < 100) (h1 : ¬ o = 9) (h2 : ¬ o = 10) (H : wY_perform_282 post (nI o) x2 x3 x4 y_capacity y_stackLimit y_outLimit y_phase y_count y_status y_at y_depth y_outs b_ops b_as b_bs b_regs b_cells b_links b_log) : wY_perform_260 post (nI o) x2 x3 x4 y_capacity y_stackLimit y_outLimit y_phase y_count y_status y_at y_depth y_outs b_ops b_as b_bs b_regs b_cells b_links b_log := pk_eq o 9 (fun z => absurd z h1) (fun _ => pk_eq o 10 (fun z => absurd z h2) (fun _ => H))
theorem oz_r188 (ho : o < 100) (h1 : ¬ o = 8) (h2 : ¬ o = 13) (H : wY_perform_260 post (nI o) x2 x3 x4 y_capacity y_stackLimit y_outLimit y_phase y_count y_status y_at y_depth y_outs b_ops b_as b_bs b_regs b_cells b_links b_log) : wY_perform_188 post (nI o) x2 x3 x4 y_capacity y_stackLimit y_outLimit y_phase y_count y_status y_at y_depth y_outs b_ops b_as b_bs b_regs b_cells b_links b_log := pk_eq o 8 (fun z => absurd z h1) (fun _ => pk_eq o 13 (fun z => absurd z h2) (fun _ => H))
theorem oz_r157 (ho : o < 100) (h1 : ¬ o = 7) (H : wY_perform_188 post (nI o) x2 x3 x4 y_capacity y_stackLimit y_outLimit y_phase y_count y_status y_at y_depth y_outs b_ops b_as b_bs b_regs b_cells b_links b_log) : wY_perform_157 post (nI o) x2 x3 x4 y_capacity y_stackLimit y_outLimit y_phase y_count y_status y_at y_depth y_outs b_ops b_as b_bs b_regs b_cells b_links b_log := pk_eq o 7 (fun z => absurd z h1) (fun _ => H)
theorem oz_r132 (ho : o < 100) (h1 : ¬ o = 6) (H : wY_perform_157 post (nI o) x2 x3 x4 y_capacity y_stackLimit y_outLimit y_phase y_count y_status y_at y_depth y_outs b_ops b_as b_bs b_regs b_cells b_links b_log) : wY_perform_132 post (nI o) x2 x3 x4 y_capacity y_stackLimit y_outLimit y_phase y_count y_status y_at y_depth y_outs b_ops b_as b_bs b_regs b_cells b_links b_log := pk_eq o 6 (fun z => absurd z h1) (fun _ => H)
theorem oz_r108 (ho : o < 100) (h1 : ¬ o = 5) (H : wY_perform_132 post (nI o) x2 x3 x4 y_capacity y_stackLimit y_outLimit y_phase y_count y_status y_at y_depth y_outs b_ops b_as b_bs b_regs b_cells b_links b_log) : wY_perform_108 post (nI o) x2 x3 x4 y_capacity y_stackLimit y_outLimit y_phase y_count y_status y_at y_depth y_outs b_ops b_as b_bs b_regs b_cells b_links b_log := pk_eq o 5 (fun z => absurd z h1) (fun _ => H)
theorem oz_r84 (ho : o < 100) (h1 : ¬ o = 4) (H : wY_perform_108 post (nI o) x2 x3 x4 y_capacity y_stackLimit y_outLimit y_phase y_count y_status y_at y_depth y_outs b_ops b_as b_bs b_regs b_cells b_links b_log) : wY_perform_84 post (nI o) x2 x3 x4 y_capacity y_stackLimit y_outLimit y_phase y_count y_status y_at y_depth y_outs b_ops b_as b_bs b_regs b_cells b_links b_log := pk_eq o 4 (fun z => absurd z h1) (fun _ => H)
theorem oz_r60 (ho : o < 100) (h1 : ¬ o = 3) (H : wY_perform_84 post (nI o) x2 x3 x4 y_capacity y_stackLimit y_outLimit y_phase y_count y_status y_at y_depth y_outs b_ops b_as b_bs b_regs b_cells b_links b_log) : wY_perform_60 post (nI o) x2 x3 x4 y_capacity y_stackLimit y_outLimit y_phase y_count y_status y_at y_depth y_outs b_ops b_as b_bs b_regs b_cells b_links b_log := pk_eq o 3 (fun z => absurd z h1) (fun _ => H)
theorem oz_r36 (ho : o < 100) (h1 : ¬ o = 2) (H : wY_perform_60 post (nI o) x2 x3 x4 y_capacity y_stackLimit y_outLimit y_phase y_count y_status y_at y_depth y_outs b_ops b_as b_bs b_regs b_cells b_links b_log) : wY_perform_36 post (nI o) x2 x3 x4 y_capacity y_stackLimit y_outLimit y_phase y_count y_status y_at y_depth y_outs b_ops b_as b_bs b_regs b_cells b_links b_log := pk_eq o 2 (fun z => absurd z h1) (fun _ => H)
theorem oz_r19 (ho : o < 100) (h1 : ¬ o = 1) (H : wY_perform_36 post (nI o) x2 x3 x4 y_capacity y_stackLimit y_outLimit y_phase y_count y_status y_at y_depth y_outs b_ops b_as b_bs b_regs b_cells b_links b_log) : wY_perform_19 post (nI o) x2 x3 x4 y_capacity y_stackLimit y_outLimit y_phase y_count y_status y_at y_depth y_outs b_ops b_as b_bs b_regs b_cells b_links b_log := pk_eq o 1 (fun z => absurd z h1) (fun _ => H)
theorem oz_r0 (ho : o < 100) (h1 : ¬ o = 0) (H : wY_perform_19 post (nI o) x2 x3 (nI (ax + 1)) y_capacity y_stackLimit y_outLimit y_phase y_count y_status (nI ax) y_depth y_outs b_ops b_as b_bs b_regs b_cells b_links b_log) : wpY_perform post (y_capacity, y_stackLimit, y_outLimit, y_phase, y_count, y_status, nI ax, y_depth, y_outs, b_ops, b_as, b_bs, b_regs, b_cells, b_links, b_log) (nI o) x2 x3 := nm_r (nI_1 ax) (pk_eq o 0 (fun z => absurd z h1) (fun _ => H))
-- the way out, behind the instruction's own place
theorem oz_o260 (ho : o < 9) (H : post (y_capacity, y_stackLimit, y_outLimit, y_phase, y_count, y_status, x4, y_depth, y_outs, b_ops, b_as, b_bs, b_regs, b_cells, b_links, b_log)) : wY_perform_260 post (nI o) x2 x3 x4 y_capacity y_stackLimit y_outLimit y_phase y_count y_status y_at y_depth y_outs b_ops b_as b_bs b_regs b_cells b_links b_log :=
  oz_r260 (by omega) (by omega) (by omega) (oz_r282 (by omega) (by omega) (oz_r303 (by omega) (by omega) (oz_r320 (by omega) (by omega) (by omega) (oz_r335 (by omega) (by omega) (oz_r353 (by omega) (by omega) H)))))
theorem oz_o188 (ho : o < 8) (H : post (y_capacity, y_stackLimit, y_outLimit, y_phase, y_count, y_status, x4, y_depth, y_outs, b_ops, b_as, b_bs, b_regs, b_cells, b_links, b_log)) : wY_perform_188 post (nI o) x2 x3 x4 y_capacity y_stackLimit y_outLimit y_phase y_count y_status y_at y_depth y_outs b_ops b_as b_bs b_regs b_cells b_links b_log := oz_r188 (by omega) (by omega) (by omega) (oz_o260 (by omega) H)
theorem oz_o157 (ho : o < 7) (H : post (y_capacity, y_stackLimit, y_outLimit, y_phase, y_count, y_status, x4, y_depth, y_outs, b_ops, b_as, b_bs, b_regs, b_cells, b_links, b_log)) : wY_perform_157 post (nI o) x2 x3 x4 y_capacity y_stackLimit y_outLimit y_phase y_count y_status y_at y_depth y_outs b_ops b_as b_bs b_regs b_cells b_links b_log := oz_r157 (by omega) (by omega) (oz_o188 (by omega) H)
theorem oz_o132 (ho : o < 6) (H : post (y_capacity, y_stackLimit, y_outLimit, y_phase, y_count, y_status, x4, y_depth, y_outs, b_ops, b_as, b_bs, b_regs, b_cells, b_links, b_log)) : wY_perform_132 post (nI o) x2 x3 x4 y_capacity y_stackLimit y_outLimit y_phase y_count y_status y_at y_depth y_outs b_ops b_as b_bs b_regs b_cells b_links b_log := oz_r132 (by omega) (by omega) (oz_o157 (by omega) H)
theorem oz_o108 (ho : o < 5) (H : post (y_capacity, y_stackLimit, y_outLimit, y_phase, y_count, y_status, x4, y_depth, y_outs, b_ops, b_as, b_bs, b_regs, b_cells, b_links, b_log)) : wY_perform_108 post (nI o) x2 x3 x4 y_capacity y_stackLimit y_outLimit y_phase y_count y_status y_at y_depth y_outs b_ops b_as b_bs b_regs b_cells b_links b_log := oz_r108 (by omega) (by omega) (oz_o132 (by omega) H)
theorem oz_o84 (ho : o < 4) (H : post (y_capacity, y_stackLimit, y_outLimit, y_phase, y_count, y_status, x4, y_depth, y_outs, b_ops, b_as, b_bs, b_regs, b_cells, b_links, b_log)) : wY_perform_84 post (nI o) x2 x3 x4 y_capacity y_stackLimit y_outLimit y_phase y_count y_status y_at y_depth y_outs b_ops b_as b_bs b_regs b_cells b_links b_log := oz_r84 (by omega) (by omega) (oz_o108 (by omega) H)
theorem oz_o60 (ho : o < 3) (H : post (y_capacity, y_stackLimit, y_outLimit, y_phase, y_count, y_status, x4, y_depth, y_outs, b_ops, b_as, b_bs, b_regs, b_cells, b_links, b_log)) : wY_perform_60 post (nI o) x2 x3 x4 y_capacity y_stackLimit y_outLimit y_phase y_count y_status y_at y_depth y_outs b_ops b_as b_bs b_regs b_cells b_links b_log := oz_r60 (by omega) (by omega) (oz_o84 (by omega) H)
theorem oz_o36 (ho : o < 2) (H : post (y_capacity, y_stackLimit, y_outLimit, y_phase, y_count, y_status, x4, y_depth, y_outs, b_ops, b_as, b_bs, b_regs, b_cells, b_links, b_log)) : wY_perform_36 post (nI o) x2 x3 x4 y_capacity y_stackLimit y_outLimit y_phase y_count y_status y_at y_depth y_outs b_ops b_as b_bs b_regs b_cells b_links b_log := oz_r36 (by omega) (by omega) (oz_o60 (by omega) H)
theorem oz_o19 (ho : o < 1) (H : post (y_capacity, y_stackLimit, y_outLimit, y_phase, y_count, y_status, x4, y_depth, y_outs, b_ops, b_as, b_bs, b_regs, b_cells, b_links, b_log)) : wY_perform_19 post (nI o) x2 x3 x4 y_capacity y_stackLimit y_outLimit y_phase y_count y_status y_at y_depth y_outs b_ops b_as b_bs b_regs b_cells b_links b_log := oz_r19 (by omega) (by omega) (oz_o36 (by omega) H)
-- the way in
theorem oz_i36 (ho : o < 100) (h : 2 ≤ o) (H : wY_perform_36 post (nI o) x2 x3 (nI (ax + 1)) y_capacity y_stackLimit y_outLimit y_phase y_count y_status (nI ax) y_depth y_outs b_ops b_as b_bs b_regs b_cells b_links b_log) : wpY_perform post (y_capacity, y_stackLimit, y_outLimit, y_phase, y_count, y_status, nI ax, y_depth, y_outs, b_ops, b_as, b_bs, b_regs, b_cells, b_links, b_log) (nI o) x2 x3 := oz_r0 ho (by omega) (oz_r19 ho (by omega) H)
theorem oz_i60 (ho : o < 100) (h : 3 ≤ o) (H : wY_perform_60 post (nI o) x2 x3 (nI (ax + 1)) y_capacity y_stackLimit y_outLimit y_phase y_count y_status (nI ax) y_depth y_outs b_ops b_as b_bs b_regs b_cells b_links b_log) : wpY_perform post (y_capacity, y_stackLimit, y_outLimit, y_phase, y_count, y_status, nI ax, y_depth, y_outs, b_ops, b_as, b_bs, b_regs, b_cells, b_links, b_log) (nI o) x2 x3 := oz_i36 ho (by omega) (oz_r36 ho (by omega) H)
theorem oz_i84 (ho : o < 100) (h : 4 ≤ o) (H : wY_perform_84 post (nI o) x2 x3 (nI (ax + 1)) y_capacity y_stackLimit y_outLimit y_phase y_count y_status (nI ax) y_depth y_outs b_ops b_as b_bs b_regs b_cells b_links b_log) : wpY_perform post (y_capacity, y_stackLimit, y_outLimit, y_phase, y_count, y_status, nI ax, y_depth, y_outs, b_ops, b_as, b_bs, b_regs, b_cells, b_links, b_log) (nI o) x2 x3 := oz_i60 ho (by omega) (oz_r60 ho (by omega) H)
theorem oz_i108 (ho : o < 100) (h : 5 ≤ o) (H : wY_perform_108 post (nI o) x2 x3 (nI (ax + 1)) y_capacity y_stackLimit y_outLimit y_phase y_count y_status (nI ax) y_depth y_outs b_ops b_as b_bs b_regs b_cells b_links b_log) : wpY_perform post (y_capacity, y_stackLimit, y_outLimit, y_phase, y_count, y_status, nI ax, y_depth, y_outs, b_ops, b_as, b_bs, b_regs, b_cells, b_links, b_log) (nI o) x2 x3 := oz_i84 ho (by omega) (oz_r84 ho (by omega) H)
theorem oz_i132 (ho : o < 100) (h : 6 ≤ o) (H : wY_perform_132 post (nI o) x2 x3 (nI (ax + 1)) y_capacity y_stackLimit y_outLimit y_phase y_count y_status (nI ax) y_depth y_outs b_ops b_as b_bs b_regs b_cells b_links b_log) : wpY_perform post (y_capacity, y_stackLimit, y_outLimit, y_phase, y_count, y_status, nI ax, y_depth, y_outs, b_ops, b_as, b_bs, b_regs, b_cells, b_links, b_log) (nI o) x2 x3 := oz_i108 ho (by omega) (oz_r108 ho (by omega) H)
theorem oz_i157 (ho : o < 100) (h : 7 ≤ o) (H : wY_perform_157 post (nI o) x2 x3 (nI (ax + 1)) y_capacity y_stackLimit y_outLimit y_phase y_count y_status (nI ax) y_depth y_outs b_ops b_as b_bs b_regs b_cells b_links b_log) : wpY_perform post (y_capacity, y_stackLimit, y_outLimit, y_phase, y_count, y_status, nI ax, y_depth, y_outs, b_ops, b_as, b_bs, b_regs, b_cells, b_links, b_log) (nI o) x2 x3 := oz_i132 ho (by omega) (oz_r132 ho (by omega) H)
theorem oz_i188 (ho : o < 100) (h : 8 ≤ o) (H : wY_perform_188 post (nI o) x2 x3 (nI (ax + 1)) y_capacity y_stackLimit y_outLimit y_phase y_count y_status (nI ax) y_depth y_outs b_ops b_as b_bs b_regs b_cells b_links b_log) : wpY_perform post (y_capacity, y_stackLimit, y_outLimit, y_phase, y_count, y_status, nI ax, y_depth, y_outs, b_ops, b_as, b_bs, b_regs, b_cells, b_links, b_log) (nI o) x2 x3 := oz_i157 ho (by omega) (oz_r157 ho (by omega) H)
theorem oz_i260 (ho : o < 100) (h : 9 ≤ o) (h3 : ¬ o = 13) (H : wY_perform_260 post (nI o) x2 x3 (nI (ax + 1)) y_capacity y_stackLimit y_outLimit y_phase y_count y_status (nI ax) y_depth y_outs b_ops b_as b_bs b_regs b_cells b_links b_log) : wpY_perform post (y_capacity, y_stackLimit, y_outLimit, y_phase, y_count, y_status, nI ax, y_depth, y_outs, b_ops, b_as, b_bs, b_regs, b_cells, b_links, b_log) (nI o) x2 x3 := oz_i188 ho (by omega) (oz_r188 ho (by omega) h3 H)
end
end
section
/-! the visible instructions, one by one, on both sides -/
/-- related, and sealed -/
def oz_ph (u : SX) : Int32 := match u with
  | (f_opLds, f_opSts, f_opPop, f_opRet, f_opJmp, f_opJnz, f_opCall, f_hiddenCall, f_hiddenReturn, f_hiddenJump, f_capacity, f_stackLimit, f_outLimit, f_phase, f_count, f_held, f_mainSize, f_sp, f_hidden, f_outs, f_at, f_pc, f_status, f_bestSaving, f_bestFrom, f_bestLen, f_bestCount, a_code, a_origin, a_regs, a_cells, a_linked, a_log, a_target, a_plainLen, a_tailLen, a_order, a_rank, a_shared, a_site, a_inner, a_next, a_moved, a_trail) => f_phase
def oz_RJ (u : SX) (v : SY) : Prop := i_Rel 0 u v ∧ ¬ oz_ph u = 0
section
variable {f_opLds f_opSts f_opPop f_opRet f_opJmp f_opJnz f_opCall f_hiddenCall f_hiddenReturn f_hiddenJump f_capacity f_stackLimit f_outLimit f_phase f_count f_held f_mainSize f_sp f_hidden f_outs f_at f_pc f_status f_bestSaving f_bestFrom f_bestLen f_bestCount : Int32} {a_code a_origin a_regs a_cells a_linked a_log a_target a_plainLen a_tailLen a_order a_rank a_shared a_site a_inner a_next a_moved a_trail : Nat → Int32} {y_capacity y_stackLimit y_outLimit y_phase y_count y_status y_at y_depth y_outs : Int32} {b_ops b_as b_bs b_regs b_cells b_links b_log : Nat → Int32}
variable {cap sl ol cnt dp ou ax ph h ms pc r : Nat} {E w og : Nat → Nat} {S : List Nat} {R : Nat → List Nat → Nat → Nat → Prop} {st : Int32}
theorem oz_inJ (hB : oz_Bs cap sl ol cnt dp ou) (hE : oz_Em cnt E b_ops b_as b_bs) (hP : oz_Hp ph cnt h ms r E w og R a_code a_origin) (hD : oz_Ds ax dp ms pc S og R a_cells a_linked b_cells b_links) : oz_RJ (f_opLds, f_opSts, f_opPop, f_opRet, f_opJmp, f_opJnz, f_opCall, f_hiddenCall, f_hiddenReturn, f_hiddenJump, nI cap, nI sl, nI ol, nI ph, nI cnt, nI h, nI ms, nI (dp + S.length), nI S.length, nI ou, nI ax, nI pc, st, f_bestSaving, f_bestFrom, f_bestLen, f_bestCount, a_code, a_origin, a_regs, a_cells, a_linked, a_log, a_target, a_plainLen, a_tailLen, a_order, a_rank, a_shared, a_site, a_inner, a_next, a_moved, a_trail) (nI cap, nI sl, nI ol, nI ph, nI cnt, st, nI ax, nI dp, nI ou, b_ops, b_as, b_bs, a_regs, b_cells, b_links, a_log) := by
  refine ⟨oz_in1 hB hE hP hD, ?_⟩
  show ¬ nI ph = 0
  have := hP.1
  exact nI_ne0 (by omega) (by omega)
end
theorem oz_elJ {P : SX → SY → Prop}
    (h1 : ∀ (cap sl ol cnt dp ou ax ph h ms pc r : Nat) (E w og : Nat → Nat) (S : List Nat) (R : Nat → List Nat → Nat → Nat → Prop) (st : Int32) (f_opLds f_opSts f_opPop f_opRet f_opJmp f_opJnz f_opCall f_hiddenCall f_hiddenReturn f_hiddenJump f_capacity f_stackLimit f_outLimit f_phase f_count f_held f_mainSize f_sp f_hidden f_outs f_at f_pc f_status f_bestSaving f_bestFrom f_bestLen f_bestCount : Int32) (a_code a_origin a_regs a_cells a_linked a_log a_target a_plainLen a_tailLen a_order a_rank a_shared a_site a_inner a_next a_moved a_trail : Nat → Int32) (b_ops b_as b_bs b_cells b_links : Nat → Int32), oz_Bs cap sl ol cnt dp ou → oz_Em cnt E b_ops b_as b_bs → oz_Hp ph cnt h ms r E w og R a_code a_origin → oz_Ds ax dp ms pc S og R a_cells a_linked b_cells b_links → P (f_opLds, f_opSts, f_opPop, f_opRet, f_opJmp, f_opJnz, f_opCall, f_hiddenCall, f_hiddenReturn, f_hiddenJump, nI cap, nI sl, nI ol, nI ph, nI cnt, nI h, nI ms, nI (dp + S.length), nI S.length, nI ou, nI ax, nI pc, st, f_bestSaving, f_bestFrom, f_bestLen, f_bestCount, a_code, a_origin, a_regs, a_cells, a_linked, a_log, a_target, a_plainLen, a_tailLen, a_order, a_rank, a_shared, a_site, a_inner, a_next, a_moved, a_trail) (nI cap, nI sl, nI ol, nI ph, nI cnt, st, nI ax, nI dp, nI ou, b_ops, b_as, b_bs, a_regs, b_cells, b_links, a_log))
    {u : SX} {v : SY} (I : oz_RJ u v) : P u v := by
  obtain ⟨I, hn⟩ := I
  refine oz_el (P := fun u v => ¬ oz_ph u = 0 → P u v) ?_ ?_ I hn
  · intro cap sl ol cnt ou ax E st f_opLds f_opSts f_opPop f_opRet f_opJmp f_opJnz f_opCall f_hiddenCall f_hiddenReturn f_hiddenJump f_capacity f_stackLimit f_outLimit f_phase f_count f_held f_mainSize f_sp f_hidden f_outs f_at f_pc f_status f_bestSaving f_bestFrom f_bestLen f_bestCount a_code a_origin a_regs a_cells a_linked a_log a_target a_plainLen a_tailLen a_order a_rank a_shared a_site a_inner a_next a_moved a_trail y_capacity b_ops b_as b_bs b_cells b_links hB hE hc hn
    exact absurd rfl hn
  · intro cap sl ol cnt dp ou ax ph h ms pc r E w og S R st f_opLds f_opSts f_opPop f_opRet f_opJmp f_opJnz f_opCall f_hiddenCall f_hiddenReturn f_hiddenJump f_capacity f_stackLimit f_outLimit f_phase f_count f_held f_mainSize f_sp f_hidden f_outs f_at f_pc f_status f_bestSaving f_bestFrom f_bestLen f_bestCount a_code a_origin a_regs a_cells a_linked a_log a_target a_plainLen a_tailLen a_order a_rank a_shared a_site a_inner a_next a_moved a_trail b_ops b_as b_bs b_cells b_links hB hE hP hD _
    exact h1 cap sl ol cnt dp ou ax ph h ms pc r E w og S R st f_opLds f_opSts f_opPop f_opRet f_opJmp f_opJnz f_opCall f_hiddenCall f_hiddenReturn f_hiddenJump f_capacity f_stackLimit f_outLimit f_phase f_count f_held f_mainSize f_sp f_hidden f_outs f_at f_pc f_status f_bestSaving f_bestFrom f_bestLen f_bestCount a_code a_origin a_regs a_cells a_linked a_log a_target a_plainLen a_tailLen a_order a_rank a_shared a_site a_inner a_next a_moved a_trail b_ops b_as b_bs b_cells b_links hB hE hP hD
def oz_R2 (WX : (SX → Prop) → Prop) (WY : (SY → Prop) → Prop) : Prop := ∃ u v, oz_RJ u v ∧ (∀ post, post u → WX post) ∧ (∀ post, post v → WY post)
theorem oz_ab {a b : Nat} {A : Prop} (h : a < b) (z : b ≤ a) : A := absurd z (Nat.not_le.mpr h)
section
variable {f_opLds f_opSts f_opPop f_opRet f_opJmp f_opJnz f_opCall f_hiddenCall f_hiddenReturn f_hiddenJump f_capacity f_stackLimit f_outLimit f_phase f_count f_held f_mainSize f_sp f_hidden f_outs f_at f_pc f_status f_bestSaving f_bestFrom f_bestLen f_bestCount : Int32} {a_code a_origin a_regs a_cells a_linked a_log a_target a_plainLen a_tailLen a_order a_rank a_shared a_site a_inner a_next a_moved a_trail : Nat → Int32} {y_capacity y_stackLimit y_outLimit y_phase y_count y_status y_at y_depth y_outs : Int32} {b_ops b_as b_bs b_regs b_cells b_links b_log : Nat → Int32}
variable {cap sl ol cnt dp ou ax ph h ms pc r a b : Nat} {E w og : Nat → Nat} {S : List Nat} {R : Nat → List Nat → Nat → Nat → Prop}
theorem oz_w262 {post : SX → Prop} (H : post (f_opLds, f_opSts, f_opPop, f_opRet, f_opJmp, f_opJnz, f_opCall, f_hiddenCall, f_hiddenReturn, f_hiddenJump, f_capacity, f_stackLimit, f_outLimit, f_phase, f_count, f_held, f_mainSize, f_sp, f_hidden, f_outs, nI (ax + 1), nI (pc + 1), f_status, f_bestSaving, f_bestFrom, f_bestLen, f_bestCount, a_code, a_origin, a_regs, a_cells, a_linked, a_log, a_target, a_plainLen, a_tailLen, a_order, a_rank, a_shared, a_site, a_inner, a_next, a_moved, a_trail)) : wX_work_262 post f_opLds f_opSts f_opPop f_opRet f_opJmp f_opJnz f_opCall f_hiddenCall f_hiddenReturn f_hiddenJump f_capacity f_stackLimit f_outLimit f_phase f_count f_held f_mainSize f_sp f_hidden f_outs (nI ax) (nI pc) f_status f_bestSaving f_bestFrom f_bestLen f_bestCount a_code a_origin a_regs a_cells a_linked a_log a_target a_plainLen a_tailLen a_order a_rank a_shared a_site a_inner a_next a_moved a_trail := nm_r (nI_1 pc) (nm_r (nI_1 ax) H)
theorem oz_rg {a : Nat} (ha : a < 4) : (nI a).toNatClampNeg = a := nI_clamp (by omega)
theorem oz_op0 (hB : oz_Bs cap sl ol cnt dp ou) (hE : oz_Em cnt E b_ops b_as b_bs) (hP : oz_Hp ph cnt h ms r E w og R a_code a_origin) (hC : oz_Cl dp ms og a_cells a_linked b_cells b_links) (hN : ∃ x, R (pc + 1) S (ax + 1) x) (hH : oz_Hs dp a_cells S) (ha : a < 4) (hb : b < 32) : oz_R2 (fun post => wpX_work post (f_opLds, f_opSts, f_opPop, f_opRet, f_opJmp, f_opJnz, f_opCall, f_hiddenCall, f_hiddenReturn, f_hiddenJump, nI cap, nI sl, nI ol, nI ph, nI cnt, nI h, nI ms, nI (dp + S.length), nI S.length, nI ou, nI ax, nI pc, 0, f_bestSaving, f_bestFrom, f_bestLen, f_bestCount, a_code, a_origin, a_regs, a_cells, a_linked, a_log, a_target, a_plainLen, a_tailLen, a_order, a_rank, a_shared, a_site, a_inner, a_next, a_moved, a_trail) (nI 0) (nI a) (nI b)) (fun post => wpY_perform post (nI cap, nI sl, nI ol, nI ph, nI cnt, 0, nI ax, nI dp, nI ou, b_ops, b_as, b_bs, a_regs, b_cells, b_links, a_log) (nI 0) (nI a) (nI b)) := by
  refine ⟨(f_opLds, f_opSts, f_opPop, f_opRet, f_opJmp, f_opJnz, f_opCall, f_hiddenCall, f_hiddenReturn, f_hiddenJump, nI cap, nI sl, nI ol, nI ph, nI cnt, nI h, nI ms, nI (dp + S.length), nI S.length, nI ou, nI (ax + 1), nI (pc + 1), 0, f_bestSaving, f_bestFrom, f_bestLen, f_bestCount, a_code, a_origin, upd a_regs a (nI b), a_cells, a_linked, a_log, a_target, a_plainLen, a_tailLen, a_order, a_rank, a_shared, a_site, a_inner, a_next, a_moved, a_trail), (nI cap, nI sl, nI ol, nI ph, nI cnt, 0, nI (ax + 1), nI dp, nI ou, b_ops, b_as, b_bs, upd a_regs a (nI b), b_cells, b_links, a_log), oz_inJ hB hE hP ⟨hN, hC, hH⟩, fun post H => ?_, fun post H => ?_⟩
  · exact nm_e (pk_lt 0 0 (fun z => absurd z (by omega)) (fun _ => pk_lt 8 0 (fun z => absurd z (by omega)) (fun _ => pk_eq 0 0 (fun _ => ⟨pk_in a 4 ha, nm_r (oz_up (by omega)) (oz_w262 H)⟩) (fun z => absurd rfl z))))
  · exact nm_r (nI_1 ax) (pk_eq 0 0 (fun _ => ⟨pk_in a 4 ha, nm_r (oz_up (by omega)) (oz_o19 (by omega) H)⟩) (fun z => absurd rfl z))
theorem oz_b4 {b : Nat} (hb : b < 4) : nI b &&& 3 = nI b := by rw [oz_b3 (by omega), Nat.mod_eq_of_lt hb]
theorem oz_op1 (hB : oz_Bs cap sl ol cnt dp ou) (hE : oz_Em cnt E b_ops b_as b_bs) (hP : oz_Hp ph cnt h ms r E w og R a_code a_origin) (hC : oz_Cl dp ms og a_cells a_linked b_cells b_links) (hN : ∃ x, R (pc + 1) S (ax + 1) x) (hH : oz_Hs dp a_cells S) (ha : a < 4) (hb : b < 4) : oz_R2 (fun post => wpX_work post (f_opLds, f_opSts, f_opPop, f_opRet, f_opJmp, f_opJnz, f_opCall, f_hiddenCall, f_hiddenReturn, f_hiddenJump, nI cap, nI sl, nI ol, nI ph, nI cnt, nI h, nI ms, nI (dp + S.length), nI S.length, nI ou, nI ax, nI pc, 0, f_bestSaving, f_bestFrom, f_bestLen, f_bestCount, a_code, a_origin, a_regs, a_cells, a_linked, a_log, a_target, a_plainLen, a_tailLen, a_order, a_rank, a_shared, a_site, a_inner, a_next, a_moved, a_trail) (nI 1) (nI a) (nI b)) (fun post => wpY_perform post (nI cap, nI sl, nI ol, nI ph, nI cnt, 0, nI ax, nI dp, nI ou, b_ops, b_as, b_bs, a_regs, b_cells, b_links, a_log) (nI 1) (nI a) (nI b)) := by
  refine ⟨(f_opLds, f_opSts, f_opPop, f_opRet, f_opJmp, f_opJnz, f_opCall, f_hiddenCall, f_hiddenReturn, f_hiddenJump, nI cap, nI sl, nI ol, nI ph, nI cnt, nI h, nI ms, nI (dp + S.length), nI S.length, nI ou, nI (ax + 1), nI (pc + 1), 0, f_bestSaving, f_bestFrom, f_bestLen, f_bestCount, a_code, a_origin, upd a_regs a (a_regs b), a_cells, a_linked, a_log, a_target, a_plainLen, a_tailLen, a_order, a_rank, a_shared, a_site, a_inner, a_next, a_moved, a_trail), (nI cap, nI sl, nI ol, nI ph, nI cnt, 0, nI (ax + 1), nI dp, nI ou, b_ops, b_as, b_bs, upd a_regs a (a_regs b), b_cells, b_links, a_log), oz_inJ hB hE hP ⟨hN, hC, hH⟩, fun post H => ?_, fun post H => ?_⟩
  · exact nm_r (oz_b4 hb) (pk_lt 1 0 (fun z => absurd z (by omega)) (fun _ => pk_lt 8 1 (fun z => absurd z (by omega)) (fun _ => pk_eq 1 0 (fun z => absurd z (by omega)) (fun _ => pk_eq 1 1 (fun _ => ⟨pk_in b 4 hb, pk_in a 4 ha, nm_r (by rw [oz_rg hb, oz_rg ha]) (oz_w262 H)⟩) (fun z => absurd rfl z)))))
  · refine oz_r0 (by omega) (by omega) (pk_eq 1 1 (fun _ => ⟨pk_in b 4 hb, pk_in a 4 ha, nm_r (by rw [oz_rg hb, oz_rg ha]) (oz_o36 (by omega) H)⟩) (fun z => absurd rfl z))
theorem oz_op2 (hB : oz_Bs cap sl ol cnt dp ou) (hE : oz_Em cnt E b_ops b_as b_bs) (hP : oz_Hp ph cnt h ms r E w og R a_code a_origin) (hC : oz_Cl dp ms og a_cells a_linked b_cells b_links) (hN : ∃ x, R (pc + 1) S (ax + 1) x) (hH : oz_Hs dp a_cells S) (ha : a < 4) (hb : b < 4) : oz_R2 (fun post => wpX_work post (f_opLds, f_opSts, f_opPop, f_opRet, f_opJmp, f_opJnz, f_opCall, f_hiddenCall, f_hiddenReturn, f_hiddenJump, nI cap, nI sl, nI ol, nI ph, nI cnt, nI h, nI ms, nI (dp + S.length), nI S.length, nI ou, nI ax, nI pc, 0, f_bestSaving, f_bestFrom, f_bestLen, f_bestCount, a_code, a_origin, a_regs, a_cells, a_linked, a_log, a_target, a_plainLen, a_tailLen, a_order, a_rank, a_shared, a_site, a_inner, a_next, a_moved, a_trail) (nI 2) (nI a) (nI b)) (fun post => wpY_perform post (nI cap, nI sl, nI ol, nI ph, nI cnt, 0, nI ax, nI dp, nI ou, b_ops, b_as, b_bs, a_regs, b_cells, b_links, a_log) (nI 2) (nI a) (nI b)) := by
  refine ⟨(f_opLds, f_opSts, f_opPop, f_opRet, f_opJmp, f_opJnz, f_opCall, f_hiddenCall, f_hiddenReturn, f_hiddenJump, nI cap, nI sl, nI ol, nI ph, nI cnt, nI h, nI ms, nI (dp + S.length), nI S.length, nI ou, nI (ax + 1), nI (pc + 1), 0, f_bestSaving, f_bestFrom, f_bestLen, f_bestCount, a_code, a_origin, upd a_regs a (a_regs a + a_regs b), a_cells, a_linked, a_log, a_target, a_plainLen, a_tailLen, a_order, a_rank, a_shared, a_site, a_inner, a_next, a_moved, a_trail), (nI cap, nI sl, nI ol, nI ph, nI cnt, 0, nI (ax + 1), nI dp, nI ou, b_ops, b_as, b_bs, upd a_regs a (a_regs a + a_regs b), b_cells, b_links, a_log), oz_inJ hB hE hP ⟨hN, hC, hH⟩, fun post H => ?_, fun post H => ?_⟩
  · exact nm_r (oz_b4 hb) (pk_lt 2 0 (fun z => absurd z (by omega)) (fun _ => pk_lt 8 2 (fun z => absurd z (by omega)) (fun _ => pk_eq 2 0 (fun z => absurd z (by omega)) (fun _ => pk_eq 2 1 (fun z => absurd z (by omega)) (fun _ => pk_eq 2 2 (fun _ => ⟨pk_in a 4 ha, pk_in b 4 hb, pk_in a 4 ha, nm_r (by rw [oz_rg ha, oz_rg hb]) (oz_w262 H)⟩) (fun z => absurd rfl z))))))
  · refine oz_i36 (by omega) (by omega) (pk_eq 2 2 (fun _ => ⟨pk_in a 4 ha, pk_in b 4 hb, pk_in a 4 ha, nm_r (by rw [oz_rg ha, oz_rg hb]) (oz_o60 (by omega) H)⟩) (fun z => absurd rfl z))
theorem oz_op3 (hB : oz_Bs cap sl ol cnt dp ou) (hE : oz_Em cnt E b_ops b_as b_bs) (hP : oz_Hp ph cnt h ms r E w og R a_code a_origin) (hC : oz_Cl dp ms og a_cells a_linked b_cells b_links) (hN : ∃ x, R (pc + 1) S (ax + 1) x) (hH : oz_Hs dp a_cells S) (ha : a < 4) (hb : b < 4) : oz_R2 (fun post => wpX_work post (f_opLds, f_opSts, f_opPop, f_opRet, f_opJmp, f_opJnz, f_opCall, f_hiddenCall, f_hiddenReturn, f_hiddenJump, nI cap, nI sl, nI ol, nI ph, nI cnt, nI h, nI ms, nI (dp + S.length), nI S.length, nI ou, nI ax, nI pc, 0, f_bestSaving, f_bestFrom, f_bestLen, f_bestCount, a_code, a_origin, a_regs, a_cells, a_linked, a_log, a_target, a_plainLen, a_tailLen, a_order, a_rank, a_shared, a_site, a_inner, a_next, a_moved, a_trail) (nI 3) (nI a) (nI b)) (fun post => wpY_perform post (nI cap, nI sl, nI ol, nI ph, nI cnt, 0, nI ax, nI dp, nI ou, b_ops, b_as, b_bs, a_regs, b_cells, b_links, a_log) (nI 3) (nI a) (nI b)) := by
  refine ⟨(f_opLds, f_opSts, f_opPop, f_opRet, f_opJmp, f_opJnz, f_opCall, f_hiddenCall, f_hiddenReturn, f_hiddenJump, nI cap, nI sl, nI ol, nI ph, nI cnt, nI h, nI ms, nI (dp + S.length), nI S.length, nI ou, nI (ax + 1), nI (pc + 1), 0, f_bestSaving, f_bestFrom, f_bestLen, f_bestCount, a_code, a_origin, upd a_regs a (a_regs a - a_regs b), a_cells, a_linked, a_log, a_target, a_plainLen, a_tailLen, a_order, a_rank, a_shared, a_site, a_inner, a_next, a_moved, a_trail), (nI cap, nI sl, nI ol, nI ph, nI cnt, 0, nI (ax + 1), nI dp, nI ou, b_ops, b_as, b_bs, upd a_regs a (a_regs a - a_regs b), b_cells, b_links, a_log), oz_inJ hB hE hP ⟨hN, hC, hH⟩, fun post H => ?_, fun post H => ?_⟩
  · exact nm_r (oz_b4 hb) (pk_lt 3 0 (fun z => absurd z (by omega)) (fun _ => pk_lt 8 3 (fun z => absurd z (by omega)) (fun _ => pk_eq 3 0 (fun z => absurd z (by omega)) (fun _ => pk_eq 3 1 (fun z => absurd z (by omega)) (fun _ => pk_eq 3 2 (fun z => absurd z (by omega)) (fun _ => pk_eq 3 3 (fun _ => ⟨pk_in a 4 ha, pk_in b 4 hb, pk_in a 4 ha, nm_r (by rw [oz_rg ha, oz_rg hb]) (oz_w262 H)⟩) (fun z => absurd rfl z)))))))
  · refine oz_i60 (by omega) (by omega) (pk_eq 3 3 (fun _ => ⟨pk_in a 4 ha, pk_in b 4 hb, pk_in a 4 ha, nm_r (by rw [oz_rg ha, oz_rg hb]) (oz_o84 (by omega) H)⟩) (fun z => absurd rfl z))
theorem oz_op4 (hB : oz_Bs cap sl ol cnt dp ou) (hE : oz_Em cnt E b_ops b_as b_bs) (hP : oz_Hp ph cnt h ms r E w og R a_code a_origin) (hC : oz_Cl dp ms og a_cells a_linked b_cells b_links) (hN : ∃ x, R (pc + 1) S (ax + 1) x) (hH : oz_Hs dp a_cells S) (ha : a < 4) (hb : b < 4) : oz_R2 (fun post => wpX_work post (f_opLds, f_opSts, f_opPop, f_opRet, f_opJmp, f_opJnz, f_opCall, f_hiddenCall, f_hiddenReturn, f_hiddenJump, nI cap, nI sl, nI ol, nI ph, nI cnt, nI h, nI ms, nI (dp + S.length), nI S.length, nI ou, nI ax, nI pc, 0, f_bestSaving, f_bestFrom, f_bestLen, f_bestCount, a_code, a_origin, a_regs, a_cells, a_linked, a_log, a_target, a_plainLen, a_tailLen, a_order, a_rank, a_shared, a_site, a_inner, a_next, a_moved, a_trail) (nI 4) (nI a) (nI b)) (fun post => wpY_perform post (nI cap, nI sl, nI ol, nI ph, nI cnt, 0, nI ax, nI dp, nI ou, b_ops, b_as, b_bs, a_regs, b_cells, b_links, a_log) (nI 4) (nI a) (nI b)) := by
  refine ⟨(f_opLds, f_opSts, f_opPop, f_opRet, f_opJmp, f_opJnz, f_opCall, f_hiddenCall, f_hiddenReturn, f_hiddenJump, nI cap, nI sl, nI ol, nI ph, nI cnt, nI h, nI ms, nI (dp + S.length), nI S.length, nI ou, nI (ax + 1), nI (pc + 1), 0, f_bestSaving, f_bestFrom, f_bestLen, f_bestCount, a_code, a_origin, upd a_regs a (a_regs a * a_regs b), a_cells, a_linked, a_log, a_target, a_plainLen, a_tailLen, a_order, a_rank, a_shared, a_site, a_inner, a_next, a_moved, a_trail), (nI cap, nI sl, nI ol, nI ph, nI cnt, 0, nI (ax + 1), nI dp, nI ou, b_ops, b_as, b_bs, upd a_regs a (a_regs a * a_regs b), b_cells, b_links, a_log), oz_inJ hB hE hP ⟨hN, hC, hH⟩, fun post H => ?_, fun post H => ?_⟩
  · exact nm_r (oz_b4 hb) (pk_lt 4 0 (fun z => absurd z (by omega)) (fun _ => pk_lt 8 4 (fun z => absurd z (by omega)) (fun _ => pk_eq 4 0 (fun z => absurd z (by omega)) (fun _ => pk_eq 4 1 (fun z => absurd z (by omega)) (fun _ => pk_eq 4 2 (fun z => absurd z (by omega)) (fun _ => pk_eq 4 3 (fun z => absurd z (by omega)) (fun _ => pk_eq 4 4 (fun _ => ⟨pk_in a 4 ha, pk_in b 4 hb, pk_in a 4 ha, nm_r (by rw [oz_rg ha, oz_rg hb]) (oz_w262 H)⟩) (fun z => absurd rfl z))))))))
  · refine oz_i84 (by omega) (by omega) (pk_eq 4 4 (fun _ => ⟨pk_in a 4 ha, pk_in b 4 hb, pk_in a 4 ha, nm_r (by rw [oz_rg ha, oz_rg hb]) (oz_o108 (by omega) H)⟩) (fun z => absurd rfl z))
theorem oz_f56 {o : Nat} (h5 : o = 5 ∨ o = 6) {lk : Nat → Int32} (hf : oz_ft o b dp ou sl ol lk = 0) : b < dp ∧ lk (dp - 1 - b) = 0 := by
  rw [oz_ft56 h5] at hf
  by_cases c : b < dp
  · rw [if_pos c] at hf
    by_cases d : lk (dp - 1 - b) = 0
    · exact ⟨c, d⟩
    · rw [if_neg d] at hf
      exact absurd hf (by decide)
  · rw [if_neg c] at hf
    exact absurd hf (by decide)
theorem oz_Cl0 (hC : oz_Cl dp ms og a_cells a_linked b_cells b_links) {j : Nat} (hj : j < dp) (h0 : b_links j = 0) : a_linked j = 0 ∧ a_cells j = b_cells j := by
  rcases hC j hj with ⟨_, c, d⟩ | ⟨c, _⟩
  · exact ⟨c, d⟩
  · rw [h0] at c
    exact absurd c (by decide)
theorem oz_Cl1 (hC : oz_Cl dp ms og a_cells a_linked b_cells b_links) {j : Nat} (hj : j < dp) (h0 : ¬ b_links j = 0) : ∃ L, L ≤ ms ∧ a_cells j = nI L ∧ b_cells j = nI (og L) := by
  rcases hC j hj with ⟨c, _⟩ | ⟨_, _, d⟩
  · exact absurd c h0
  · exact d
theorem oz_op5 (hB : oz_Bs cap sl ol cnt dp ou) (hE : oz_Em cnt E b_ops b_as b_bs) (hP : oz_Hp ph cnt h ms r E w og R a_code a_origin) (hC : oz_Cl dp ms og a_cells a_linked b_cells b_links) (hN : ∃ x, R (pc + 1) S (ax + 1) x) (hH : oz_Hs dp a_cells S) (hs8 : S.length ≤ 8) (ha : a < 4) (hb : b < dp) (hl : b_links (dp - 1 - b) = 0) : oz_R2 (fun post => wpX_work post (f_opLds, f_opSts, f_opPop, f_opRet, f_opJmp, f_opJnz, f_opCall, f_hiddenCall, f_hiddenReturn, f_hiddenJump, nI cap, nI sl, nI ol, nI ph, nI cnt, nI h, nI ms, nI (dp + S.length), nI S.length, nI ou, nI ax, nI pc, 0, f_bestSaving, f_bestFrom, f_bestLen, f_bestCount, a_code, a_origin, a_regs, a_cells, a_linked, a_log, a_target, a_plainLen, a_tailLen, a_order, a_rank, a_shared, a_site, a_inner, a_next, a_moved, a_trail) (nI 5) (nI a) (nI (b + S.length))) (fun post => wpY_perform post (nI cap, nI sl, nI ol, nI ph, nI cnt, 0, nI ax, nI dp, nI ou, b_ops, b_as, b_bs, a_regs, b_cells, b_links, a_log) (nI 5) (nI a) (nI b)) := by
  have hd : dp ≤ 12 := by have := hB.2.2.2.1; have := hB.2.2.2.2.2.2.2.1; omega
  have cj := oz_Cl0 hC (j := dp - 1 - b) (by omega) hl
  have e1 : nI (dp + S.length) - 1 - nI (b + S.length) = nI (dp - 1 - b) := by rw [oz_pr (by omega), pk_sub (by omega)]; exact congrArg nI (by omega)
  have e2 : nI dp - 1 - nI b = nI (dp - 1 - b) := by rw [oz_pr (by omega), pk_sub (by omega)]
  refine ⟨(f_opLds, f_opSts, f_opPop, f_opRet, f_opJmp, f_opJnz, f_opCall, f_hiddenCall, f_hiddenReturn, f_hiddenJump, nI cap, nI sl, nI ol, nI ph, nI cnt, nI h, nI ms, nI (dp + S.length), nI S.length, nI ou, nI (ax + 1), nI (pc + 1), 0, f_bestSaving, f_bestFrom, f_bestLen, f_bestCount, a_code, a_origin, upd a_regs a (b_cells (dp - 1 - b)), a_cells, a_linked, a_log, a_target, a_plainLen, a_tailLen, a_order, a_rank, a_shared, a_site, a_inner, a_next, a_moved, a_trail), (nI cap, nI sl, nI ol, nI ph, nI cnt, 0, nI (ax + 1), nI dp, nI ou, b_ops, b_as, b_bs, upd a_regs a (b_cells (dp - 1 - b)), b_cells, b_links, a_log), oz_inJ hB hE hP ⟨hN, hC, hH⟩, fun post H => ?_, fun post H => ?_⟩
  · exact nm_e (pk_lt 5 0 (fun z => absurd z (by omega)) (fun _ => pk_lt 8 5 (fun z => absurd z (by omega)) (fun _ => pk_eq 5 0 (fun z => absurd z (by omega)) (fun _ => pk_eq 5 1 (fun z => absurd z (by omega)) (fun _ => pk_eq 5 2 (fun z => absurd z (by omega)) (fun _ => pk_eq 5 3 (fun z => absurd z (by omega)) (fun _ => pk_eq 5 4 (fun z => absurd z (by omega)) (fun _ => pk_eq 5 5 (fun _ => ⟨pk_in (dp - 1 - b) 32 (by omega) e1, pk_in a 4 ha, nm_r (by rw [e1, nI_clamp (show dp - 1 - b < 2 ^ 31 by omega), oz_up (by omega), cj.2]) (oz_w262 H)⟩) (fun z => absurd rfl z)))))))))
  · refine oz_i108 (by omega) (by omega) (pk_eq 5 5 (fun _ => ⟨pk_in (dp - 1 - b) 12 (by omega) e2, pk_in a 4 ha, nm_r (by rw [e2, nI_clamp (show dp - 1 - b < 2 ^ 31 by omega), oz_up (by omega)]) (oz_o132 (by omega) H)⟩) (fun z => absurd rfl z))
theorem oz_op6 (hB : oz_Bs cap sl ol cnt dp ou) (hE : oz_Em cnt E b_ops b_as b_bs) (hP : oz_Hp ph cnt h ms r E w og R a_code a_origin) (hC : oz_Cl dp ms og a_cells a_linked b_cells b_links) (hN : ∃ x, R (pc + 1) S (ax + 1) x) (hH : oz_Hs dp a_cells S) (hs8 : S.length ≤ 8) (ha : a < 4) (hb : b < dp) (hl : b_links (dp - 1 - b) = 0) : oz_R2 (fun post => wpX_work post (f_opLds, f_opSts, f_opPop, f_opRet, f_opJmp, f_opJnz, f_opCall, f_hiddenCall, f_hiddenReturn, f_hiddenJump, nI cap, nI sl, nI ol, nI ph, nI cnt, nI h, nI ms, nI (dp + S.length), nI S.length, nI ou, nI ax, nI pc, 0, f_bestSaving, f_bestFrom, f_bestLen, f_bestCount, a_code, a_origin, a_regs, a_cells, a_linked, a_log, a_target, a_plainLen, a_tailLen, a_order, a_rank, a_shared, a_site, a_inner, a_next, a_moved, a_trail) (nI 6) (nI a) (nI (b + S.length))) (fun post => wpY_perform post (nI cap, nI sl, nI ol, nI ph, nI cnt, 0, nI ax, nI dp, nI ou, b_ops, b_as, b_bs, a_regs, b_cells, b_links, a_log) (nI 6) (nI a) (nI b)) := by
  have hd : dp ≤ 12 := by have := hB.2.2.2.1; have := hB.2.2.2.2.2.2.2.1; omega
  have cj := oz_Cl0 hC (j := dp - 1 - b) (by omega) hl
  have e1 : nI (dp + S.length) - 1 - nI (b + S.length) = nI (dp - 1 - b) := by rw [oz_pr (by omega), pk_sub (by omega)]; exact congrArg nI (by omega)
  have e2 : nI dp - 1 - nI b = nI (dp - 1 - b) := by rw [oz_pr (by omega), pk_sub (by omega)]
  refine ⟨(f_opLds, f_opSts, f_opPop, f_opRet, f_opJmp, f_opJnz, f_opCall, f_hiddenCall, f_hiddenReturn, f_hiddenJump, nI cap, nI sl, nI ol, nI ph, nI cnt, nI h, nI ms, nI (dp + S.length), nI S.length, nI ou, nI (ax + 1), nI (pc + 1), 0, f_bestSaving, f_bestFrom, f_bestLen, f_bestCount, a_code, a_origin, a_regs, upd a_cells (dp - 1 - b) (a_regs a), a_linked, a_log, a_target, a_plainLen, a_tailLen, a_order, a_rank, a_shared, a_site, a_inner, a_next, a_moved, a_trail), (nI cap, nI sl, nI ol, nI ph, nI cnt, 0, nI (ax + 1), nI dp, nI ou, b_ops, b_as, b_bs, a_regs, upd b_cells (dp - 1 - b) (a_regs a), b_links, a_log), oz_inJ hB hE hP ⟨hN, fun i hi => ?_, oz_HsU (Or.inr (by omega)) hH⟩, fun post H => ?_, fun post H => ?_⟩
  · by_cases e : i = dp - 1 - b
    · rw [e, pk_us, pk_us]; exact Or.inl ⟨hl, cj.1, rfl⟩
    · rw [pk_un e, pk_un e]; exact hC i hi
  · exact nm_e (pk_lt 6 0 (fun z => absurd z (by omega)) (fun _ => pk_lt 8 6 (fun z => absurd z (by omega)) (fun _ => pk_eq 6 0 (fun z => absurd z (by omega)) (fun _ => pk_eq 6 1 (fun z => absurd z (by omega)) (fun _ => pk_eq 6 2 (fun z => absurd z (by omega)) (fun _ => pk_eq 6 3 (fun z => absurd z (by omega)) (fun _ => pk_eq 6 4 (fun z => absurd z (by omega)) (fun _ => pk_eq 6 5 (fun z => absurd z (by omega)) (fun _ => pk_eq 6 6 (fun _ => ⟨pk_in a 4 ha, pk_in (dp - 1 - b) 32 (by omega) e1, nm_r (by rw [e1, nI_clamp (show dp - 1 - b < 2 ^ 31 by omega), oz_rg ha]) (oz_w262 H)⟩) (fun z => absurd rfl z))))))))))
  · refine oz_i132 (by omega) (by omega) (pk_eq 6 6 (fun _ => ⟨pk_in a 4 ha, pk_in (dp - 1 - b) 12 (by omega) e2, nm_r (by rw [e2, nI_clamp (show dp - 1 - b < 2 ^ 31 by omega), oz_rg ha]) (oz_o157 (by omega) H)⟩) (fun z => absurd rfl z))
theorem oz_op7 (hB : oz_Bs cap sl ol cnt dp ou) (hE : oz_Em cnt E b_ops b_as b_bs) (hP : oz_Hp ph cnt h ms r E w og R a_code a_origin) (hC : oz_Cl dp ms og a_cells a_linked b_cells b_links) (hN : ∃ x, R (pc + 1) S (ax + 1) x) (hH : oz_Hs dp a_cells S) (ha : a < 4) (ho : ou < ol) : oz_R2 (fun post => wpX_work post (f_opLds, f_opSts, f_opPop, f_opRet, f_opJmp, f_opJnz, f_opCall, f_hiddenCall, f_hiddenReturn, f_hiddenJump, nI cap, nI sl, nI ol, nI ph, nI cnt, nI h, nI ms, nI (dp + S.length), nI S.length, nI ou, nI ax, nI pc, 0, f_bestSaving, f_bestFrom, f_bestLen, f_bestCount, a_code, a_origin, a_regs, a_cells, a_linked, a_log, a_target, a_plainLen, a_tailLen, a_order, a_rank, a_shared, a_site, a_inner, a_next, a_moved, a_trail) (nI 7) (nI a) (nI b)) (fun post => wpY_perform post (nI cap, nI sl, nI ol, nI ph, nI cnt, 0, nI ax, nI dp, nI ou, b_ops, b_as, b_bs, a_regs, b_cells, b_links, a_log) (nI 7) (nI a) (nI b)) := by
  have hol : ol ≤ 16 := hB.2.2.2.2.2.1
  have hB' : oz_Bs cap sl ol cnt dp (ou + 1) := ⟨hB.1, hB.2.1, hB.2.2.1, hB.2.2.2.1, hB.2.2.2.2.1, hB.2.2.2.2.2.1, hB.2.2.2.2.2.2.1, hB.2.2.2.2.2.2.2.1, ho⟩
  refine ⟨(f_opLds, f_opSts, f_opPop, f_opRet, f_opJmp, f_opJnz, f_opCall, f_hiddenCall, f_hiddenReturn, f_hiddenJump, nI cap, nI sl, nI ol, nI ph, nI cnt, nI h, nI ms, nI (dp + S.length), nI S.length, nI (ou + 1), nI (ax + 1), nI (pc + 1), 0, f_bestSaving, f_bestFrom, f_bestLen, f_bestCount, a_code, a_origin, a_regs, a_cells, a_linked, upd a_log ou (a_regs a), a_target, a_plainLen, a_tailLen, a_order, a_rank, a_shared, a_site, a_inner, a_next, a_moved, a_trail), (nI cap, nI sl, nI ol, nI ph, nI cnt, 0, nI (ax + 1), nI dp, nI (ou + 1), b_ops, b_as, b_bs, a_regs, b_cells, b_links, upd a_log ou (a_regs a)), oz_inJ hB' hE hP ⟨hN, hC, hH⟩, fun post H => ?_, fun post H => ?_⟩
  · exact nm_e (pk_lt 7 0 (fun z => absurd z (by omega)) (fun _ => pk_lt 8 7 (fun z => absurd z (by omega)) (fun _ => pk_eq 7 0 (fun z => absurd z (by omega)) (fun _ => pk_eq 7 1 (fun z => absurd z (by omega)) (fun _ => pk_eq 7 2 (fun z => absurd z (by omega)) (fun _ => pk_eq 7 3 (fun z => absurd z (by omega)) (fun _ => pk_eq 7 4 (fun z => absurd z (by omega)) (fun _ => pk_eq 7 5 (fun z => absurd z (by omega)) (fun _ => pk_eq 7 6 (fun z => absurd z (by omega)) (fun _ => pk_eq 7 7 (fun _ => ⟨pk_in a 4 ha, pk_in ou 16 (by omega), nm_r (by rw [nI_clamp (show ou < 2 ^ 31 by omega), oz_rg ha]) (nm_r (nI_1 ou) (oz_w262 H))⟩) (fun z => absurd rfl z)))))))))))
  · refine oz_i157 (by omega) (by omega) (pk_eq 7 7 (fun _ => ⟨pk_in a 4 ha, pk_in ou 16 (by omega), nm_r (by rw [nI_clamp (show ou < 2 ^ 31 by omega), oz_rg ha]) (nm_r (nI_1 ou) (oz_o188 (by omega) H))⟩) (fun z => absurd rfl z))
end
end
section
/-! the instructions from 8 on: no hidden link is on the stack -/
section
variable {f_opLds f_opSts f_opPop f_opRet f_opJmp f_opJnz f_opCall f_hiddenCall f_hiddenReturn f_hiddenJump f_capacity f_stackLimit f_outLimit f_phase f_count f_held f_mainSize f_sp f_hidden f_outs f_at f_pc f_status f_bestSaving f_bestFrom f_bestLen f_bestCount : Int32} {a_code a_origin a_regs a_cells a_linked a_log a_target a_plainLen a_tailLen a_order a_rank a_shared a_site a_inner a_next a_moved a_trail : Nat → Int32} {y_capacity y_stackLimit y_outLimit y_phase y_count y_status y_at y_depth y_outs : Int32} {b_ops b_as b_bs b_regs b_cells b_links b_log : Nat → Int32}
variable {cap sl ol cnt dp ou ax ph h ms pc r a b : Nat} {E w og : Nat → Nat} {S : List Nat} {R : Nat → List Nat → Nat → Nat → Prop}
theorem oz_Xpush' {post : SX → Prop} {n : Nat} {v l l' : Int32} (hl : vp_nar .boolean l = l') (hn : n < 32) (H : post (f_opLds, f_opSts, f_opPop, f_opRet, f_opJmp, f_opJnz, f_opCall, f_hiddenCall, f_hiddenReturn, f_hiddenJump, f_capacity, f_stackLimit, f_outLimit, f_phase, f_count, f_held, f_mainSize, nI (n + 1), f_hidden, f_outs, f_at, f_pc, f_status, f_bestSaving, f_bestFrom, f_bestLen, f_bestCount, a_code, a_origin, a_regs, upd a_cells n v, upd a_linked n l', a_log, a_target, a_plainLen, a_tailLen, a_order, a_rank, a_shared, a_site, a_inner, a_next, a_moved, a_trail)) : wpX_push post (f_opLds, f_opSts, f_opPop, f_opRet, f_opJmp, f_opJnz, f_opCall, f_hiddenCall, f_hiddenReturn, f_hiddenJump, f_capacity, f_stackLimit, f_outLimit, f_phase, f_count, f_held, f_mainSize, nI n, f_hidden, f_outs, f_at, f_pc, f_status, f_bestSaving, f_bestFrom, f_bestLen, f_bestCount, a_code, a_origin, a_regs, a_cells, a_linked, a_log, a_target, a_plainLen, a_tailLen, a_order, a_rank, a_shared, a_site, a_inner, a_next, a_moved, a_trail) v l := by
  subst hl
  exact oz_Xpush hn H
theorem oz_BsS (hB : oz_Bs cap sl ol cnt dp ou) (h : dp < sl) : oz_Bs cap sl ol cnt (dp + 1) ou := ⟨hB.1, hB.2.1, hB.2.2.1, hB.2.2.2.1, hB.2.2.2.2.1, hB.2.2.2.2.2.1, hB.2.2.2.2.2.2.1, h, hB.2.2.2.2.2.2.2.2⟩
theorem oz_BsP (hB : oz_Bs cap sl ol cnt (dp + 1) ou) : oz_Bs cap sl ol cnt dp ou := ⟨hB.1, hB.2.1, hB.2.2.1, hB.2.2.2.1, hB.2.2.2.2.1, hB.2.2.2.2.2.1, hB.2.2.2.2.2.2.1, Nat.le_of_succ_le hB.2.2.2.2.2.2.2.1, hB.2.2.2.2.2.2.2.2⟩
theorem oz_Bsd (hB : oz_Bs cap sl ol cnt dp ou) : dp ≤ 12 := by have := hB.2.2.2.1; have := hB.2.2.2.2.2.2.2.1; omega
theorem oz_op8 (hB : oz_Bs cap sl ol cnt dp ou) (hE : oz_Em cnt E b_ops b_as b_bs) (hP : oz_Hp ph cnt h ms r E w og R a_code a_origin) (hC : oz_Cl dp ms og a_cells a_linked b_cells b_links) (hN : ∃ x, R (pc + 1) [] (ax + 1) x) (ha : a < 4) (hd : dp < sl) : oz_R2 (fun post => wpX_work post (f_opLds, f_opSts, f_opPop, f_opRet, f_opJmp, f_opJnz, f_opCall, f_hiddenCall, f_hiddenReturn, f_hiddenJump, nI cap, nI sl, nI ol, nI ph, nI cnt, nI h, nI ms, nI dp, nI 0, nI ou, nI ax, nI pc, 0, f_bestSaving, f_bestFrom, f_bestLen, f_bestCount, a_code, a_origin, a_regs, a_cells, a_linked, a_log, a_target, a_plainLen, a_tailLen, a_order, a_rank, a_shared, a_site, a_inner, a_next, a_moved, a_trail) (nI 8) (nI a) (nI b)) (fun post => wpY_perform post (nI cap, nI sl, nI ol, nI ph, nI cnt, 0, nI ax, nI dp, nI ou, b_ops, b_as, b_bs, a_regs, b_cells, b_links, a_log) (nI 8) (nI a) (nI b)) := by
  have hd12 : dp < 12 := by have := hB.2.2.2.1; omega
  refine ⟨(f_opLds, f_opSts, f_opPop, f_opRet, f_opJmp, f_opJnz, f_opCall, f_hiddenCall, f_hiddenReturn, f_hiddenJump, nI cap, nI sl, nI ol, nI ph, nI cnt, nI h, nI ms, nI (dp + 1), nI 0, nI ou, nI (ax + 1), nI (pc + 1), 0, f_bestSaving, f_bestFrom, f_bestLen, f_bestCount, a_code, a_origin, a_regs, upd a_cells dp (a_regs a), upd a_linked dp 0, a_log, a_target, a_plainLen, a_tailLen, a_order, a_rank, a_shared, a_site, a_inner, a_next, a_moved, a_trail), (nI cap, nI sl, nI ol, nI ph, nI cnt, 0, nI (ax + 1), nI (dp + 1), nI ou, b_ops, b_as, b_bs, a_regs, upd b_cells dp (a_regs a), upd b_links dp 0, a_log), oz_inJ (S := []) (dp := dp + 1) (oz_BsS hB hd) hE hP ⟨hN, fun i hi => ?_, True.intro⟩, fun post H => ?_, fun post H => ?_⟩
  · by_cases e : i = dp
    · rw [e, pk_us, pk_us, pk_us, pk_us]; exact Or.inl ⟨rfl, rfl, rfl⟩
    · rw [pk_un e, pk_un e, pk_un e, pk_un e]; exact hC i (by omega)
  · refine nm_e (pk_lt 8 0 (fun z => absurd z (by omega)) (fun _ => pk_lt 8 8 (fun z => absurd z (by omega)) (fun _ => pk_eq 8 0 (fun z => absurd z (by omega)) (fun _ => pk_eq 8 1 (fun z => absurd z (by omega)) (fun _ => pk_eq 8 2 (fun z => absurd z (by omega)) (fun _ => pk_eq 8 3 (fun z => absurd z (by omega)) (fun _ => pk_eq 8 4 (fun z => absurd z (by omega)) (fun _ => pk_eq 8 5 (fun z => absurd z (by omega)) (fun _ => pk_eq 8 6 (fun z => absurd z (by omega)) (fun _ => pk_eq 8 7 (fun z => absurd z (by omega)) (fun _ => pk_eq 8 8 (fun _ => ⟨pk_in a 4 ha, ?_⟩) (fun z => absurd rfl z))))))))))))
    rw [oz_rg ha]
    exact oz_Xpush' oz_n0 (by omega) (oz_w262 H)
  · refine oz_i188 (by omega) (by omega) (pk_eq 8 8 (fun _ => pk_eq 8 8 (fun _ => ⟨pk_in a 4 ha, ?_⟩) (fun z => absurd rfl z)) (fun z => absurd rfl z))
    rw [oz_rg ha]
    exact ⟨pk_in dp 12 (by omega), nm_r (oz_up (by omega)) (pk_eq 8 13 (fun z => absurd z (by omega)) (fun _ => ⟨pk_in dp 12 (by omega), nm_r (e' := upd b_links dp 0) (by rw [oz_up (by omega), oz_n0]) (nm_r (nI_1 dp) (oz_o260 (by omega) H))⟩))⟩
theorem oz_op9 (hB : oz_Bs cap sl ol cnt (dp + 1) ou) (hE : oz_Em cnt E b_ops b_as b_bs) (hP : oz_Hp ph cnt h ms r E w og R a_code a_origin) (hC : oz_Cl (dp + 1) ms og a_cells a_linked b_cells b_links) (hN : ∃ x, R (pc + 1) [] (ax + 1) x) (ha : a < 4) (hl : b_links dp = 0) : oz_R2 (fun post => wpX_work post (f_opLds, f_opSts, f_opPop, f_opRet, f_opJmp, f_opJnz, f_opCall, f_hiddenCall, f_hiddenReturn, f_hiddenJump, nI cap, nI sl, nI ol, nI ph, nI cnt, nI h, nI ms, nI (dp + 1), nI 0, nI ou, nI ax, nI pc, 0, f_bestSaving, f_bestFrom, f_bestLen, f_bestCount, a_code, a_origin, a_regs, a_cells, a_linked, a_log, a_target, a_plainLen, a_tailLen, a_order, a_rank, a_shared, a_site, a_inner, a_next, a_moved, a_trail) (nI 9) (nI a) (nI b)) (fun post => wpY_perform post (nI cap, nI sl, nI ol, nI ph, nI cnt, 0, nI ax, nI (dp + 1), nI ou, b_ops, b_as, b_bs, a_regs, b_cells, b_links, a_log) (nI 9) (nI a) (nI b)) := by
  have hd12 := oz_Bsd hB
  have cj := oz_Cl0 hC (j := dp) (by omega) hl
  refine ⟨(f_opLds, f_opSts, f_opPop, f_opRet, f_opJmp, f_opJnz, f_opCall, f_hiddenCall, f_hiddenReturn, f_hiddenJump, nI cap, nI sl, nI ol, nI ph, nI cnt, nI h, nI ms, nI dp, nI 0, nI ou, nI (ax + 1), nI (pc + 1), 0, f_bestSaving, f_bestFrom, f_bestLen, f_bestCount, a_code, a_origin, upd a_regs a (b_cells dp), a_cells, a_linked, a_log, a_target, a_plainLen, a_tailLen, a_order, a_rank, a_shared, a_site, a_inner, a_next, a_moved, a_trail), (nI cap, nI sl, nI ol, nI ph, nI cnt, 0, nI (ax + 1), nI dp, nI ou, b_ops, b_as, b_bs, upd a_regs a (b_cells dp), b_cells, b_links, a_log), oz_inJ (S := []) (oz_BsP hB) hE hP ⟨hN, fun i hi => hC i (by omega), True.intro⟩, fun post H => ?_, fun post H => ?_⟩
  · exact nm_e (pk_lt 9 0 (fun z => absurd z (by omega)) (fun _ => pk_lt 8 9 (fun _ => nm_r (nI_pred dp) ⟨pk_in dp 32 (by omega), pk_in a 4 ha, nm_r (by rw [nI_clamp (show dp < 2 ^ 31 by omega), oz_rg ha, cj.2]) (oz_w262 H)⟩) (fun z => absurd z (by omega))))
  · refine oz_i260 (by omega) (by omega) (by omega) (pk_eq 9 9 (fun _ => nm_r (nI_pred dp) (pk_eq 9 9 (fun _ => ⟨pk_in dp 12 (by omega), pk_in a 4 ha, nm_r (by rw [nI_clamp (show dp < 2 ^ 31 by omega), oz_rg ha]) ?_⟩) (fun z => absurd rfl z))) (fun z => absurd rfl z))
    exact oz_r303 (by omega) (by omega) (oz_r320 (by omega) (by omega) (by omega) (oz_r335 (by omega) (by omega) (oz_r353 (by omega) (by omega) H)))
theorem oz_op10 (hB : oz_Bs cap sl ol cnt (dp + 1) ou) (hE : oz_Em cnt E b_ops b_as b_bs) (hP : oz_Hp ph cnt h ms r E w og R a_code a_origin) (hC : oz_Cl (dp + 1) ms og a_cells a_linked b_cells b_links) (hl : ¬ b_links dp = 0) : oz_R2 (fun post => wpX_control post (f_opLds, f_opSts, f_opPop, f_opRet, f_opJmp, f_opJnz, f_opCall, f_hiddenCall, f_hiddenReturn, f_hiddenJump, nI cap, nI sl, nI ol, nI ph, nI cnt, nI h, nI ms, nI (dp + 1), nI 0, nI ou, nI ax, nI pc, 0, f_bestSaving, f_bestFrom, f_bestLen, f_bestCount, a_code, a_origin, a_regs, a_cells, a_linked, a_log, a_target, a_plainLen, a_tailLen, a_order, a_rank, a_shared, a_site, a_inner, a_next, a_moved, a_trail) (nI 10) (nI a) (nI b)) (fun post => wpY_perform post (nI cap, nI sl, nI ol, nI ph, nI cnt, 0, nI ax, nI (dp + 1), nI ou, b_ops, b_as, b_bs, a_regs, b_cells, b_links, a_log) (nI 10) (nI a) (nI b)) := by
  have hd12 := oz_Bsd hB
  obtain ⟨L, hL, e1, e2⟩ := oz_Cl1 hC (j := dp) (by omega) hl
  have hSt := hP.2.2.2.2.1.1
  refine ⟨(f_opLds, f_opSts, f_opPop, f_opRet, f_opJmp, f_opJnz, f_opCall, f_hiddenCall, f_hiddenReturn, f_hiddenJump, nI cap, nI sl, nI ol, nI ph, nI cnt, nI h, nI ms, nI dp, nI 0, nI ou, nI (og L), nI L, 0, f_bestSaving, f_bestFrom, f_bestLen, f_bestCount, a_code, a_origin, a_regs, a_cells, a_linked, a_log, a_target, a_plainLen, a_tailLen, a_order, a_rank, a_shared, a_site, a_inner, a_next, a_moved, a_trail), (nI cap, nI sl, nI ol, nI ph, nI cnt, 0, nI (og L), nI dp, nI ou, b_ops, b_as, b_bs, a_regs, b_cells, b_links, a_log), oz_inJ (S := []) (oz_BsP hB) hE hP ⟨⟨0, hP.2.2.2.2.2.1.1 L 0 hL⟩, fun i hi => hC i (by omega), True.intro⟩, fun post H => ?_, fun post H => ?_⟩
  · refine pk_eq 10 10 (fun _ => nm_r (nI_pred dp) ⟨pk_in dp 32 (by omega), ?_⟩) (fun z => absurd rfl z)
    rw [nI_clamp (show dp < 2 ^ 31 by omega), e1]
    exact oz_Xgo (by omega) (hP.2.2.2.1 L hL) H
  · refine oz_i260 (by omega) (by omega) (by omega) (pk_eq 10 9 (fun z => absurd z (by omega)) (fun _ => pk_eq 10 10 (fun _ => nm_r (nI_pred dp) (oz_r282 (by omega) (by omega) (pk_eq 10 10 (fun _ => ⟨pk_in dp 12 (by omega), nm_r (e' := nI (og L)) (by rw [nI_clamp (show dp < 2 ^ 31 by omega), e2]) ?_⟩) (fun z => absurd rfl z)))) (fun z => absurd rfl z)))
    exact oz_r320 (by omega) (by omega) (by omega) (oz_r335 (by omega) (by omega) (oz_r353 (by omega) (by omega) H))
theorem oz_op11 (hB : oz_Bs cap sl ol cnt dp ou) (hE : oz_Em cnt E b_ops b_as b_bs) (hP : oz_Hp ph cnt h ms r E w og R a_code a_origin) (hC : oz_Cl dp ms og a_cells a_linked b_cells b_links) {t : Nat} (ht : t < ms) : oz_R2 (fun post => wpX_control post (f_opLds, f_opSts, f_opPop, f_opRet, f_opJmp, f_opJnz, f_opCall, f_hiddenCall, f_hiddenReturn, f_hiddenJump, nI cap, nI sl, nI ol, nI ph, nI cnt, nI h, nI ms, nI dp, nI 0, nI ou, nI ax, nI pc, 0, f_bestSaving, f_bestFrom, f_bestLen, f_bestCount, a_code, a_origin, a_regs, a_cells, a_linked, a_log, a_target, a_plainLen, a_tailLen, a_order, a_rank, a_shared, a_site, a_inner, a_next, a_moved, a_trail) (nI 11) (nI a) (nI t)) (fun post => wpY_perform post (nI cap, nI sl, nI ol, nI ph, nI cnt, 0, nI ax, nI dp, nI ou, b_ops, b_as, b_bs, a_regs, b_cells, b_links, a_log) (nI 11) (nI a) (nI (og t))) := by
  have hSt := hP.2.2.2.2.1.1
  refine ⟨(f_opLds, f_opSts, f_opPop, f_opRet, f_opJmp, f_opJnz, f_opCall, f_hiddenCall, f_hiddenReturn, f_hiddenJump, nI cap, nI sl, nI ol, nI ph, nI cnt, nI h, nI ms, nI dp, nI 0, nI ou, nI (og t), nI t, 0, f_bestSaving, f_bestFrom, f_bestLen, f_bestCount, a_code, a_origin, a_regs, a_cells, a_linked, a_log, a_target, a_plainLen, a_tailLen, a_order, a_rank, a_shared, a_site, a_inner, a_next, a_moved, a_trail), (nI cap, nI sl, nI ol, nI ph, nI cnt, 0, nI (og t), nI dp, nI ou, b_ops, b_as, b_bs, a_regs, b_cells, b_links, a_log), oz_inJ (S := []) hB hE hP ⟨⟨0, hP.2.2.2.2.2.1.1 t 0 (by omega)⟩, hC, True.intro⟩, fun post H => ?_, fun post H => ?_⟩
  · exact pk_eq 11 10 (fun z => absurd z (by omega)) (fun _ => pk_eq 11 11 (fun _ => oz_Xgo (by omega) (hP.2.2.2.1 t (by omega)) H) (fun z => absurd rfl z))
  · refine oz_i260 (by omega) (by omega) (by omega) (oz_r260 (by omega) (by omega) (by omega) (oz_r282 (by omega) (by omega) (oz_r303 (by omega) (by omega) (pk_eq 11 11 (fun _ => ?_) (fun z => absurd rfl z)))))
    exact oz_r335 (by omega) (by omega) (oz_r353 (by omega) (by omega) H)
theorem oz_op12 (hB : oz_Bs cap sl ol cnt dp ou) (hE : oz_Em cnt E b_ops b_as b_bs) (hP : oz_Hp ph cnt h ms r E w og R a_code a_origin) (hC : oz_Cl dp ms og a_cells a_linked b_cells b_links) (hN : ∃ x, R (pc + 1) [] (ax + 1) x) (ha : a < 4) {t : Nat} (ht : t < ms) : oz_R2 (fun post => wpX_control post (f_opLds, f_opSts, f_opPop, f_opRet, f_opJmp, f_opJnz, f_opCall, f_hiddenCall, f_hiddenReturn, f_hiddenJump, nI cap, nI sl, nI ol, nI ph, nI cnt, nI h, nI ms, nI dp, nI 0, nI ou, nI ax, nI pc, 0, f_bestSaving, f_bestFrom, f_bestLen, f_bestCount, a_code, a_origin, a_regs, a_cells, a_linked, a_log, a_target, a_plainLen, a_tailLen, a_order, a_rank, a_shared, a_site, a_inner, a_next, a_moved, a_trail) (nI 12) (nI a) (nI t)) (fun post => wpY_perform post (nI cap, nI sl, nI ol, nI ph, nI cnt, 0, nI ax, nI dp, nI ou, b_ops, b_as, b_bs, a_regs, b_cells, b_links, a_log) (nI 12) (nI a) (nI (og t))) := by
  have hSt := hP.2.2.2.2.1.1
  have er : a_regs (nI a).toNatClampNeg = a_regs a := by rw [oz_rg ha]
  by_cases c : a_regs a = 0
  · refine ⟨(f_opLds, f_opSts, f_opPop, f_opRet, f_opJmp, f_opJnz, f_opCall, f_hiddenCall, f_hiddenReturn, f_hiddenJump, nI cap, nI sl, nI ol, nI ph, nI cnt, nI h, nI ms, nI dp, nI 0, nI ou, nI (ax + 1), nI (pc + 1), 0, f_bestSaving, f_bestFrom, f_bestLen, f_bestCount, a_code, a_origin, a_regs, a_cells, a_linked, a_log, a_target, a_plainLen, a_tailLen, a_order, a_rank, a_shared, a_site, a_inner, a_next, a_moved, a_trail), (nI cap, nI sl, nI ol, nI ph, nI cnt, 0, nI (ax + 1), nI dp, nI ou, b_ops, b_as, b_bs, a_regs, b_cells, b_links, a_log), oz_inJ (S := []) hB hE hP ⟨hN, hC, True.intro⟩, fun post H => ?_, fun post H => ?_⟩
    · exact pk_eq 12 10 (fun z => absurd z (by omega)) (fun _ => pk_eq 12 11 (fun z => absurd z (by omega)) (fun _ => pk_eq 12 12 (fun _ => ⟨pk_in a 4 ha, br_t (er.trans c) (pk_eq 12 12 (fun _ => nm_r (nI_1 pc) (nm_r (nI_1 ax) H)) (fun z => absurd rfl z))⟩) (fun z => absurd rfl z)))
    · refine oz_i260 (by omega) (by omega) (by omega) (oz_r260 (by omega) (by omega) (by omega) (oz_r282 (by omega) (by omega) (oz_r303 (by omega) (by omega) (oz_r320 (by omega) (by omega) (by omega) (pk_eq 12 12 (fun _ => ⟨pk_in a 4 ha, br_t (er.trans c) (oz_r353 (by omega) (by omega) H)⟩) (fun z => absurd rfl z))))))
  · have c' : ¬ a_regs (nI a).toNatClampNeg = 0 := by rw [er]; exact c
    refine ⟨(f_opLds, f_opSts, f_opPop, f_opRet, f_opJmp, f_opJnz, f_opCall, f_hiddenCall, f_hiddenReturn, f_hiddenJump, nI cap, nI sl, nI ol, nI ph, nI cnt, nI h, nI ms, nI dp, nI 0, nI ou, nI (og t), nI t, 0, f_bestSaving, f_bestFrom, f_bestLen, f_bestCount, a_code, a_origin, a_regs, a_cells, a_linked, a_log, a_target, a_plainLen, a_tailLen, a_order, a_rank, a_shared, a_site, a_inner, a_next, a_moved, a_trail), (nI cap, nI sl, nI ol, nI ph, nI cnt, 0, nI (og t), nI dp, nI ou, b_ops, b_as, b_bs, a_regs, b_cells, b_links, a_log), oz_inJ (S := []) hB hE hP ⟨⟨0, hP.2.2.2.2.2.1.1 t 0 (by omega)⟩, hC, True.intro⟩, fun post H => ?_, fun post H => ?_⟩
    · exact pk_eq 12 10 (fun z => absurd z (by omega)) (fun _ => pk_eq 12 11 (fun z => absurd z (by omega)) (fun _ => pk_eq 12 12 (fun _ => ⟨pk_in a 4 ha, br_f c' (oz_Xgo (by omega) (hP.2.2.2.1 t (by omega)) H)⟩) (fun z => absurd rfl z)))
    · refine oz_i260 (by omega) (by omega) (by omega) (oz_r260 (by omega) (by omega) (by omega) (oz_r282 (by omega) (by omega) (oz_r303 (by omega) (by omega) (oz_r320 (by omega) (by omega) (by omega) (pk_eq 12 12 (fun _ => ⟨pk_in a 4 ha, br_f c' (oz_r353 (by omega) (by omega) H)⟩) (fun z => absurd rfl z))))))
theorem oz_op13 (hB : oz_Bs cap sl ol cnt dp ou) (hE : oz_Em cnt E b_ops b_as b_bs) (hP : oz_Hp ph cnt h ms r E w og R a_code a_origin) (hC : oz_Cl dp ms og a_cells a_linked b_cells b_links) (hd : dp < sl) (hpc : pc < ms) (hog : og (pc + 1) = ax + 1) {t : Nat} (ht : t < ms) : oz_R2 (fun post => wpX_control post (f_opLds, f_opSts, f_opPop, f_opRet, f_opJmp, f_opJnz, f_opCall, f_hiddenCall, f_hiddenReturn, f_hiddenJump, nI cap, nI sl, nI ol, nI ph, nI cnt, nI h, nI ms, nI dp, nI 0, nI ou, nI ax, nI pc, 0, f_bestSaving, f_bestFrom, f_bestLen, f_bestCount, a_code, a_origin, a_regs, a_cells, a_linked, a_log, a_target, a_plainLen, a_tailLen, a_order, a_rank, a_shared, a_site, a_inner, a_next, a_moved, a_trail) (nI 13) (nI a) (nI t)) (fun post => wpY_perform post (nI cap, nI sl, nI ol, nI ph, nI cnt, 0, nI ax, nI dp, nI ou, b_ops, b_as, b_bs, a_regs, b_cells, b_links, a_log) (nI 13) (nI a) (nI (og t))) := by
  have hd12 : dp < 12 := by have := hB.2.2.2.1; omega
  have hSt := hP.2.2.2.2.1.1
  refine ⟨(f_opLds, f_opSts, f_opPop, f_opRet, f_opJmp, f_opJnz, f_opCall, f_hiddenCall, f_hiddenReturn, f_hiddenJump, nI cap, nI sl, nI ol, nI ph, nI cnt, nI h, nI ms, nI (dp + 1), nI 0, nI ou, nI (og t), nI t, 0, f_bestSaving, f_bestFrom, f_bestLen, f_bestCount, a_code, a_origin, a_regs, upd a_cells dp (nI (pc + 1)), upd a_linked dp 1, a_log, a_target, a_plainLen, a_tailLen, a_order, a_rank, a_shared, a_site, a_inner, a_next, a_moved, a_trail), (nI cap, nI sl, nI ol, nI ph, nI cnt, 0, nI (og t), nI (dp + 1), nI ou, b_ops, b_as, b_bs, a_regs, upd b_cells dp (nI (ax + 1)), upd b_links dp 1, a_log), oz_inJ (S := []) (dp := dp + 1) (oz_BsS hB hd) hE hP ⟨⟨0, hP.2.2.2.2.2.1.1 t 0 (by omega)⟩, fun i hi => ?_, True.intro⟩, fun post H => ?_, fun post H => ?_⟩
  · by_cases e : i = dp
    · rw [e, pk_us, pk_us, pk_us, pk_us]; exact Or.inr ⟨rfl, rfl, pc + 1, by omega, rfl, by rw [hog]⟩
    · rw [pk_un e, pk_un e, pk_un e, pk_un e]; exact hC i (by omega)
  · refine pk_eq 13 10 (fun z => absurd z (by omega)) (fun _ => pk_eq 13 11 (fun z => absurd z (by omega)) (fun _ => pk_eq 13 12 (fun z => absurd z (by omega)) (fun _ => pk_eq 13 12 (fun z => absurd z (by omega)) (fun _ => pk_eq 13 13 (fun _ => ?_) (fun z => absurd rfl z)))))
    rw [nI_1 pc]
    exact oz_Xpush' oz_n1 (by omega) (oz_Xgo (by omega) (hP.2.2.2.1 t (by omega)) H)
  · refine oz_i188 (by omega) (by omega) (pk_eq 13 8 (fun z => absurd z (by omega)) (fun _ => pk_eq 13 13 (fun _ => pk_eq 13 8 (fun z => absurd z (by omega)) (fun _ => ?_)) (fun z => absurd rfl z)))
    rw [nI_1 ax]
    refine ⟨pk_in dp 12 (by omega), nm_r (oz_up (by omega)) (pk_eq 13 13 (fun _ => ⟨pk_in dp 12 (by omega), nm_r (e' := upd b_links dp 1) (by rw [oz_up (by omega), oz_n1]) (nm_r (nI_1 dp) ?_)⟩) (fun z => absurd rfl z))⟩
    refine oz_r260 (by omega) (by omega) (by omega) (oz_r282 (by omega) (by omega) (oz_r303 (by omega) (by omega) (pk_eq 13 11 (fun z => absurd z (by omega)) (fun _ => pk_eq 13 13 (fun _ => ?_) (fun z => absurd rfl z)))))
    exact oz_r335 (by omega) (by omega) (oz_r353 (by omega) (by omega) H)
theorem oz_op14 (hB : oz_Bs cap sl ol cnt dp ou) (hE : oz_Em cnt E b_ops b_as b_bs) (hP : oz_Hp ph cnt h ms r E w og R a_code a_origin) (hC : oz_Cl dp ms og a_cells a_linked b_cells b_links) (hN : ∃ x, R pc [] ax x) : oz_R2 (fun post => wpX_control post (f_opLds, f_opSts, f_opPop, f_opRet, f_opJmp, f_opJnz, f_opCall, f_hiddenCall, f_hiddenReturn, f_hiddenJump, nI cap, nI sl, nI ol, nI ph, nI cnt, nI h, nI ms, nI dp, nI 0, nI ou, nI ax, nI pc, 0, f_bestSaving, f_bestFrom, f_bestLen, f_bestCount, a_code, a_origin, a_regs, a_cells, a_linked, a_log, a_target, a_plainLen, a_tailLen, a_order, a_rank, a_shared, a_site, a_inner, a_next, a_moved, a_trail) (nI 14) (nI a) (nI b)) (fun post => wpY_perform post (nI cap, nI sl, nI ol, nI ph, nI cnt, 0, nI ax, nI dp, nI ou, b_ops, b_as, b_bs, a_regs, b_cells, b_links, a_log) (nI 14) (nI a) (nI b)) := by
  refine ⟨(f_opLds, f_opSts, f_opPop, f_opRet, f_opJmp, f_opJnz, f_opCall, f_hiddenCall, f_hiddenReturn, f_hiddenJump, nI cap, nI sl, nI ol, nI ph, nI cnt, nI h, nI ms, nI dp, nI 0, nI ou, nI ax, nI pc, 1, f_bestSaving, f_bestFrom, f_bestLen, f_bestCount, a_code, a_origin, a_regs, a_cells, a_linked, a_log, a_target, a_plainLen, a_tailLen, a_order, a_rank, a_shared, a_site, a_inner, a_next, a_moved, a_trail), (nI cap, nI sl, nI ol, nI ph, nI cnt, 1, nI ax, nI dp, nI ou, b_ops, b_as, b_bs, a_regs, b_cells, b_links, a_log), oz_inJ (S := []) hB hE hP ⟨hN, hC, True.intro⟩, fun post H => ?_, fun post H => ?_⟩
  · exact pk_eq 14 10 (fun z => absurd z (by omega)) (fun _ => pk_eq 14 11 (fun z => absurd z (by omega)) (fun _ => pk_eq 14 12 (fun z => absurd z (by omega)) (fun _ => pk_eq 14 12 (fun z => absurd z (by omega)) (fun _ => pk_eq 14 13 (fun z => absurd z (by omega)) (fun _ => H)))))
  · exact oz_i260 (by omega) (by omega) (by omega) (oz_r260 (by omega) (by omega) (by omega) (oz_r282 (by omega) (by omega) (oz_r303 (by omega) (by omega) (oz_r320 (by omega) (by omega) (by omega) (oz_r335 (by omega) (by omega) (pk_eq 14 14 (fun _ => H) (fun z => absurd rfl z)))))))
end
end
section
/-! one turn of run, and the loop -/
def oz_st (u : SX) : Int32 := match u with
  | (f_opLds, f_opSts, f_opPop, f_opRet, f_opJmp, f_opJnz, f_opCall, f_hiddenCall, f_hiddenReturn, f_hiddenJump, f_capacity, f_stackLimit, f_outLimit, f_phase, f_count, f_held, f_mainSize, f_sp, f_hidden, f_outs, f_at, f_pc, f_status, f_bestSaving, f_bestFrom, f_bestLen, f_bestCount, a_code, a_origin, a_regs, a_cells, a_linked, a_log, a_target, a_plainLen, a_tailLen, a_order, a_rank, a_shared, a_site, a_inner, a_next, a_moved, a_trail) => f_status
def oz_xr (post : Int32 → SX → Prop) (x2 : Int32) (n : Nat) (x3 x4 : Int32) (u : SX) : Prop := match u with
  | (f_opLds, f_opSts, f_opPop, f_opRet, f_opJmp, f_opJnz, f_opCall, f_hiddenCall, f_hiddenReturn, f_hiddenJump, f_capacity, f_stackLimit, f_outLimit, f_phase, f_count, f_held, f_mainSize, f_sp, f_hidden, f_outs, f_at, f_pc, f_status, f_bestSaving, f_bestFrom, f_bestLen, f_bestCount, a_code, a_origin, a_regs, a_cells, a_linked, a_log, a_target, a_plainLen, a_tailLen, a_order, a_rank, a_shared, a_site, a_inner, a_next, a_moved, a_trail) => wX_run_24 post x2 n x3 x4 f_opLds f_opSts f_opPop f_opRet f_opJmp f_opJnz f_opCall f_hiddenCall f_hiddenReturn f_hiddenJump f_capacity f_stackLimit f_outLimit f_phase f_count f_held f_mainSize f_sp f_hidden f_outs f_at f_pc f_status f_bestSaving f_bestFrom f_bestLen f_bestCount a_code a_origin a_regs a_cells a_linked a_log a_target a_plainLen a_tailLen a_order a_rank a_shared a_site a_inner a_next a_moved a_trail
def oz_yr (post : Int32 → SY → Prop) (x2 : Int32) (n : Nat) (x3 : Int32) (v : SY) : Prop := match v with
  | (y_capacity, y_stackLimit, y_outLimit, y_phase, y_count, y_status, y_at, y_depth, y_outs, b_ops, b_as, b_bs, b_regs, b_cells, b_links, b_log) => wY_run_34 post x2 n x3 y_capacity y_stackLimit y_outLimit y_phase y_count y_status y_at y_depth y_outs b_ops b_as b_bs b_regs b_cells b_links b_log
section
variable {f_opLds f_opSts f_opPop f_opRet f_opJmp f_opJnz f_opCall f_hiddenCall f_hiddenReturn f_hiddenJump f_capacity f_stackLimit f_outLimit f_phase f_count f_held f_mainSize f_sp f_hidden f_outs f_at f_pc f_status f_bestSaving f_bestFrom f_bestLen f_bestCount : Int32} {a_code a_origin a_regs a_cells a_linked a_log a_target a_plainLen a_tailLen a_order a_rank a_shared a_site a_inner a_next a_moved a_trail : Nat → Int32} {y_capacity y_stackLimit y_outLimit y_phase y_count y_status y_at y_depth y_outs : Int32} {b_ops b_as b_bs b_regs b_cells b_links b_log : Nat → Int32}
variable {cap sl ol cnt dp ou ax ph h ms pc r : Nat} {E w og : Nat → Nat} {S : List Nat} {R : Nat → List Nat → Nat → Nat → Prop} {st : Int32}
theorem oz_f9 {b : Nat} {lk : Nat → Int32} (hf : oz_ft 9 b dp ou sl ol lk = 0) : ∃ d, dp = d + 1 ∧ lk d = 0 := by
  rw [oz_ft9 rfl] at hf
  by_cases c : dp = 0
  · rw [if_pos c] at hf
    exact absurd hf (by decide)
  · rw [if_neg c] at hf
    by_cases d : lk (dp - 1) = 0
    · exact ⟨dp - 1, by omega, d⟩
    · rw [if_neg d] at hf
      exact absurd hf (by decide)
theorem oz_f10 {b : Nat} {lk : Nat → Int32} (hf : oz_ft 10 b dp ou sl ol lk = 0) : ∃ d, dp = d + 1 ∧ ¬ lk d = 0 := by
  rw [oz_ft10 rfl] at hf
  by_cases c : dp = 0
  · rw [if_pos c] at hf
    exact absurd hf (by decide)
  · rw [if_neg c] at hf
    by_cases d : lk (dp - 1) = 0
    · rw [if_pos d] at hf
      exact absurd hf (by decide)
    · exact ⟨dp - 1, by omega, d⟩
theorem oz_f8 {o b : Nat} (h8 : o = 8 ∨ o = 13) {lk : Nat → Int32} (hf : oz_ft o b dp ou sl ol lk = 0) : dp < sl := by
  rw [oz_ft8 h8] at hf
  by_cases c : dp < sl
  · exact c
  · rw [if_neg c] at hf
    exact absurd hf (by decide)
theorem oz_f7 {b : Nat} {lk : Nat → Int32} (hf : oz_ft 7 b dp ou sl ol lk = 0) : ou < ol := by
  rw [oz_ft7 rfl] at hf
  by_cases c : ou < ol
  · exact c
  · rw [if_neg c] at hf
    exact absurd hf (by decide)
set_option maxHeartbeats 4000000 in
theorem oz_instr (hB : oz_Bs cap sl ol cnt dp ou) (hE : oz_Em cnt E b_ops b_as b_bs) (hP : oz_Hp ph cnt h ms r E w og R a_code a_origin) (hD : oz_Ds ax dp ms pc S og R a_cells a_linked b_cells b_links) (hax : ax < cnt) (hv : w pc / 256 ≤ 14) (hf : oz_ft (E ax / 256) (E ax % 32) dp ou sl ol b_links = 0) :
    (¬ 10 ≤ E ax / 256 → oz_R2 (fun post => wpX_work post (f_opLds, f_opSts, f_opPop, f_opRet, f_opJmp, f_opJnz, f_opCall, f_hiddenCall, f_hiddenReturn, f_hiddenJump, nI cap, nI sl, nI ol, nI ph, nI cnt, nI h, nI ms, nI (dp + S.length), nI S.length, nI ou, nI ax, nI pc, 0, f_bestSaving, f_bestFrom, f_bestLen, f_bestCount, a_code, a_origin, a_regs, a_cells, a_linked, a_log, a_target, a_plainLen, a_tailLen, a_order, a_rank, a_shared, a_site, a_inner, a_next, a_moved, a_trail) (nI (E ax / 256)) (nI (w pc / 32 % 4)) (nI (w pc % 32))) (fun post => wpY_perform post (nI cap, nI sl, nI ol, nI ph, nI cnt, 0, nI ax, nI dp, nI ou, b_ops, b_as, b_bs, a_regs, b_cells, b_links, a_log) (nI (E ax / 256)) (nI (E ax / 32 % 8)) (nI (E ax % 32)))) ∧
    (10 ≤ E ax / 256 → oz_R2 (fun post => wpX_control post (f_opLds, f_opSts, f_opPop, f_opRet, f_opJmp, f_opJnz, f_opCall, f_hiddenCall, f_hiddenReturn, f_hiddenJump, nI cap, nI sl, nI ol, nI ph, nI cnt, nI h, nI ms, nI (dp + S.length), nI S.length, nI ou, nI ax, nI pc, 0, f_bestSaving, f_bestFrom, f_bestLen, f_bestCount, a_code, a_origin, a_regs, a_cells, a_linked, a_log, a_target, a_plainLen, a_tailLen, a_order, a_rank, a_shared, a_site, a_inner, a_next, a_moved, a_trail) (nI (E ax / 256)) (nI (w pc / 32 % 4)) (nI (w pc % 32))) (fun post => wpY_perform post (nI cap, nI sl, nI ol, nI ph, nI cnt, 0, nI ax, nI dp, nI ou, b_ops, b_as, b_bs, a_regs, b_cells, b_links, a_log) (nI (E ax / 256)) (nI (E ax / 32 % 8)) (nI (E ax % 32)))) := by
  obtain ⟨⟨x, hR⟩, hC, hH⟩ := hD
  have hP0 := hP
  obtain ⟨p1, hr, hc, ho, hSt, hDy, p7, p8⟩ := hP
  obtain ⟨⟨c32, hcn, hms, og0, ogm⟩, sOp, sT, sNR, sDe, sMain, sTm, sOg, sB, sLs⟩ := hSt
  obtain ⟨hp, q15, q16, q17, q14⟩ := hDy.2.2 pc S ax x hR hax
  obtain ⟨hb1, hb2, hb3, hb4⟩ := hDy.2.1 pc S ax x hR
  obtain ⟨⟨m1, m2, m3, m4⟩, g2, g3, g4⟩ := q14 hv
  obtain ⟨⟨f1, f2, f3, f4, f5⟩, _⟩ := hE ax hax
  have e8 : w pc / 256 = E ax / 256 := by rw [oz_d8, oz_d8 (E ax), m1]
  have e4 : w pc / 32 % 4 = E ax / 32 % 8 := by rw [← m1]; omega
  rw [e8] at m2 m3 m4 g2 g3 g4
  rw [e4]
  have ha : E ax / 32 % 8 < 4 := by omega
  have hs8 : S.length ≤ 8 := by omega
  have hcase : E ax / 256 = 0 ∨ E ax / 256 = 1 ∨ E ax / 256 = 2 ∨ E ax / 256 = 3 ∨ E ax / 256 = 4 ∨ E ax / 256 = 5 ∨ E ax / 256 = 6 ∨ E ax / 256 = 7 ∨ E ax / 256 = 8 ∨ E ax / 256 = 9 ∨ E ax / 256 = 10 ∨ E ax / 256 = 11 ∨ E ax / 256 = 12 ∨ E ax / 256 = 13 ∨ E ax / 256 = 14 := by omega
  generalize hoE : E ax / 256 = o at *
  generalize E ax / 32 % 8 = a at *
  rcases hcase with c | c | c | c | c | c | c | c | c | c | c | c | c | c | c <;> subst c
  · refine ⟨fun _ => ?_, fun z => absurd z (by omega)⟩
    rw [m4 (by omega) (by omega)]
    exact oz_op0 hB hE hP0 hC ⟨x, g3 (by omega)⟩ hH ha (by omega)
  · refine ⟨fun _ => ?_, fun z => absurd z (by omega)⟩
    have := f3 (by omega) (by omega)
    rw [m4 (by omega) (by omega)]
    exact oz_op1 hB hE hP0 hC ⟨x, g3 (by omega)⟩ hH ha (by omega)
  · refine ⟨fun _ => ?_, fun z => absurd z (by omega)⟩
    have := f3 (by omega) (by omega)
    rw [m4 (by omega) (by omega)]
    exact oz_op2 hB hE hP0 hC ⟨x, g3 (by omega)⟩ hH ha (by omega)
  · refine ⟨fun _ => ?_, fun z => absurd z (by omega)⟩
    have := f3 (by omega) (by omega)
    rw [m4 (by omega) (by omega)]
    exact oz_op3 hB hE hP0 hC ⟨x, g3 (by omega)⟩ hH ha (by omega)
  · refine ⟨fun _ => ?_, fun z => absurd z (by omega)⟩
    have := f3 (by omega) (by omega)
    rw [m4 (by omega) (by omega)]
    exact oz_op4 hB hE hP0 hC ⟨x, g3 (by omega)⟩ hH ha (by omega)
  · refine ⟨fun _ => ?_, fun z => absurd z (by omega)⟩
    obtain ⟨k1, k2⟩ := oz_f56 (Or.inl rfl) hf
    rw [m3 (Or.inl rfl)]
    exact oz_op5 hB hE hP0 hC ⟨x, g3 (by omega)⟩ hH hs8 ha k1 k2
  · refine ⟨fun _ => ?_, fun z => absurd z (by omega)⟩
    obtain ⟨k1, k2⟩ := oz_f56 (Or.inr rfl) hf
    rw [m3 (Or.inr rfl)]
    exact oz_op6 hB hE hP0 hC ⟨x, g3 (by omega)⟩ hH hs8 ha k1 k2
  · refine ⟨fun _ => ?_, fun z => absurd z (by omega)⟩
    rw [m4 (by omega) (by omega)]
    exact oz_op7 hB hE hP0 hC ⟨x, g3 (by omega)⟩ hH ha (oz_f7 hf)
  · refine ⟨fun _ => ?_, fun z => absurd z (by omega)⟩
    have hS := g2 (by omega)
    subst hS
    rw [m4 (by omega) (by omega)]
    exact oz_op8 hB hE hP0 hC ⟨x, g3 (by omega)⟩ ha (oz_f8 (Or.inl rfl) hf)
  · refine ⟨fun _ => ?_, fun z => absurd z (by omega)⟩
    have hS := g2 (by omega)
    subst hS
    obtain ⟨d, rfl, k2⟩ := oz_f9 hf
    rw [m4 (by omega) (by omega)]
    exact oz_op9 hB hE hP0 hC ⟨x, g3 (by omega)⟩ ha k2
  · refine ⟨fun z => absurd (by omega) z, fun _ => ?_⟩
    have hS := g2 (by omega)
    subst hS
    obtain ⟨d, rfl, k2⟩ := oz_f10 hf
    rw [m4 (by omega) (by omega)]
    exact oz_op10 hB hE hP0 hC k2
  · refine ⟨fun z => absurd (by omega) z, fun _ => ?_⟩
    have hS := g2 (by omega)
    subst hS
    rw [m2 (by omega) (by omega)]
    exact oz_op11 hB hE hP0 hC (sTm pc hp (by omega) (by omega))
  · refine ⟨fun z => absurd (by omega) z, fun _ => ?_⟩
    have hS := g2 (by omega)
    subst hS
    rw [m2 (by omega) (by omega)]
    exact oz_op12 hB hE hP0 hC ⟨x, g3 (by omega)⟩ ha (sTm pc hp (by omega) (by omega))
  · refine ⟨fun z => absurd (by omega) z, fun _ => ?_⟩
    have hS := g2 (by omega)
    subst hS
    have hpm := sMain pc hp (by omega) (by omega)
    have ho2 := sOg pc hpm (by omega)
    rw [← (hb4 hpm).2] at ho2
    rw [m2 (by omega) (by omega)]
    exact oz_op13 hB hE hP0 hC (oz_f8 (Or.inr rfl) hf) hpm ho2 (sTm pc hp (by omega) (by omega))
  · refine ⟨fun z => absurd (by omega) z, fun _ => ?_⟩
    have hS := g2 (by omega)
    subst hS
    rw [m4 (by omega) (by omega)]
    exact oz_op14 hB hE hP0 hC ⟨x, hR⟩
end
end
section
/-! the turn and the loop of run -/
/-- what one turn gives: a fault (or the end), or one instruction done -/
def oz_Tn (u : SX) (v : SY) : Prop := ∃ u' v', oz_RJ u' v' ∧
  ((¬ oz_st u' = 0 ∧ (∀ post : Int32 → SX → Prop, post 0 u' → wpX_step post u) ∧ (∀ (post : Int32 → SY → Prop) x2 x3 n, ¬ x2 ≤ x3 → post x3 v' → oz_yr post x2 (n + 1) x3 v)) ∨
   ((∀ post : Int32 → SX → Prop, post 1 u' → wpX_step post u) ∧ (∀ (post : Int32 → SY → Prop) x2 x3 n, ¬ x2 ≤ x3 → oz_yr post x2 n (x3 + 1) v' → oz_yr post x2 (n + 1) x3 v)))
section
variable {f_opLds f_opSts f_opPop f_opRet f_opJmp f_opJnz f_opCall f_hiddenCall f_hiddenReturn f_hiddenJump f_capacity f_stackLimit f_outLimit f_phase f_count f_held f_mainSize f_sp f_hidden f_outs f_at f_pc f_status f_bestSaving f_bestFrom f_bestLen f_bestCount : Int32} {a_code a_origin a_regs a_cells a_linked a_log a_target a_plainLen a_tailLen a_order a_rank a_shared a_site a_inner a_next a_moved a_trail : Nat → Int32} {y_capacity y_stackLimit y_outLimit y_phase y_count y_status y_at y_depth y_outs : Int32} {b_ops b_as b_bs b_regs b_cells b_links b_log : Nat → Int32}
variable {cap sl ol cnt dp ou ax ph h ms pc r : Nat} {E w og : Nat → Nat} {S : List Nat} {R : Nat → List Nat → Nat → Nat → Prop} {st : Int32}
theorem oz_20 : ¬ (2 : Int32) = 0 := by decide
theorem oz_turn (hB : oz_Bs cap sl ol cnt dp ou) (hE : oz_Em cnt E b_ops b_as b_bs) (hP : oz_Hp ph cnt h ms r E w og R a_code a_origin) (hD : oz_Ds ax dp ms pc S og R a_cells a_linked b_cells b_links) : oz_Tn (f_opLds, f_opSts, f_opPop, f_opRet, f_opJmp, f_opJnz, f_opCall, f_hiddenCall, f_hiddenReturn, f_hiddenJump, nI cap, nI sl, nI ol, nI ph, nI cnt, nI h, nI ms, nI (dp + S.length), nI S.length, nI ou, nI ax, nI pc, 0, f_bestSaving, f_bestFrom, f_bestLen, f_bestCount, a_code, a_origin, a_regs, a_cells, a_linked, a_log, a_target, a_plainLen, a_tailLen, a_order, a_rank, a_shared, a_site, a_inner, a_next, a_moved, a_trail) (nI cap, nI sl, nI ol, nI ph, nI cnt, 0, nI ax, nI dp, nI ou, b_ops, b_as, b_bs, a_regs, b_cells, b_links, a_log) := by
  have hP0 := hP
  have hD0 := hD
  obtain ⟨⟨x, hR⟩, hC, hH⟩ := hD
  obtain ⟨p1, hr, hc, ho, hSt, hDy, p7, p8⟩ := hP
  have hSt0 := hSt
  obtain ⟨⟨c32, hcn, hms, og0, ogm⟩, sOp, sT, sNR, sDe, sMain, sTm, sOg, sB, sLs⟩ := hSt
  obtain ⟨hb1, hb2, hb3, hb4⟩ := hDy.2.1 pc S ax x hR
  have hd12 := oz_Bsd hB
  by_cases hax : ax = cnt
  · refine ⟨(f_opLds, f_opSts, f_opPop, f_opRet, f_opJmp, f_opJnz, f_opCall, f_hiddenCall, f_hiddenReturn, f_hiddenJump, nI cap, nI sl, nI ol, nI ph, nI cnt, nI h, nI ms, nI (dp + S.length), nI S.length, nI ou, nI ax, nI pc, 2, f_bestSaving, f_bestFrom, f_bestLen, f_bestCount, a_code, a_origin, a_regs, a_cells, a_linked, a_log, a_target, a_plainLen, a_tailLen, a_order, a_rank, a_shared, a_site, a_inner, a_next, a_moved, a_trail), (nI cap, nI sl, nI ol, nI ph, nI cnt, 2, nI ax, nI dp, nI ou, b_ops, b_as, b_bs, a_regs, b_cells, b_links, a_log), oz_inJ hB hE hP0 hD0, Or.inl ⟨oz_20, fun post H => ?_, fun post x2 x3 n hx H => ?_⟩⟩
    · exact pk_eq ax cnt (fun _ => H) (fun z => absurd hax z)
    · exact br_f hx (br_t rfl (pk_lt ax cnt (fun z => absurd z (by omega)) (fun _ => br_f oz_20 H)))
  · have hax' : ax < cnt := by omega
    have hpc := (hDy.2.2 pc S ax x hR hax').1
    obtain ⟨pc2, S2, x2, cells2, linked2, r1, r2, r3, r4, r5⟩ := oz_fo2 (cap := cap) (sl := sl) (ol := ol) (ou := ou) (ph := ph) (st := 0) (a_origin := a_origin) (a_regs := a_regs) (a_log := a_log) (a_target := a_target) (a_plainLen := a_plainLen) (a_tailLen := a_tailLen) (a_order := a_order) (a_rank := a_rank) (a_shared := a_shared) (a_site := a_site) (a_inner := a_inner) (a_next := a_next) (a_moved := a_moved) (a_trail := a_trail) (f_opLds := f_opLds) (f_opSts := f_opSts) (f_opPop := f_opPop) (f_opRet := f_opRet) (f_opJmp := f_opJmp) (f_opJnz := f_opJnz) (f_opCall := f_opCall) (f_hiddenCall := f_hiddenCall) (f_hiddenReturn := f_hiddenReturn) (f_hiddenJump := f_hiddenJump) (f_bestSaving := f_bestSaving) (f_bestFrom := f_bestFrom) (f_bestLen := f_bestLen) (f_bestCount := f_bestCount) hd12 hr hc hSt0 hDy hax' 18 0 pc S x a_cells a_linked (by omega) hR (oz_M18 hSt0 hr hpc hb3) hH
    have hD2 : oz_Ds ax dp ms pc2 S2 og R cells2 linked2 b_cells b_links := by
      refine ⟨⟨x2, r1⟩, fun i hi => ?_, r3⟩
      rw [(r4 i hi).1, (r4 i hi).2]
      exact hC i hi
    have hlk : ∀ i, i < dp → linked2 i = b_links i := by
      intro i hi
      rcases hD2.2.1 i hi with ⟨k1, k2, _⟩ | ⟨k1, k2, _⟩
      · rw [k1, k2]
      · rw [k1, k2]
    have hp2 := (hDy.2.2 pc2 S2 ax x2 r1 hax').1
    obtain ⟨_, _, hb3', _⟩ := hDy.2.1 pc2 S2 ax x2 r1
    obtain ⟨_, q15, q16, q17, q14⟩ := hDy.2.2 pc2 S2 ax x2 r1 hax'
    obtain ⟨⟨m1, m2, m3, m4⟩, g2, g3, g4⟩ := q14 r2
    have e8 : w pc2 / 256 = E ax / 256 := by rw [oz_d8, oz_d8 (E ax), m1]
    obtain ⟨wf, eo, ea, eb⟩ := hE ax hax'
    have f5 := wf.2.2.2.2
    have wl := sOp pc2 hp2
    have w14 := wf.1
    have ci := hc pc2 hp2
    have hsl : sl ≤ 12 := hB.2.2.2.1
    have hol : ol ≤ 16 := hB.2.2.2.2.2.1
    have hou : ou ≤ ol := hB.2.2.2.2.2.2.2.2
    -- X up to the fault
    have hX : ∀ post : Int32 → SX → Prop,
        ((oz_ft (E ax / 256) (E ax % 32) dp ou sl ol b_links = 0 → (10 ≤ E ax / 256 → wpX_control (fun u => match u with | (f_opLds, f_opSts, f_opPop, f_opRet, f_opJmp, f_opJnz, f_opCall, f_hiddenCall, f_hiddenReturn, f_hiddenJump, f_capacity, f_stackLimit, f_outLimit, f_phase, f_count, f_held, f_mainSize, f_sp, f_hidden, f_outs, f_at, f_pc, f_status, f_bestSaving, f_bestFrom, f_bestLen, f_bestCount, a_code, a_origin, a_regs, a_cells, a_linked, a_log, a_target, a_plainLen, a_tailLen, a_order, a_rank, a_shared, a_site, a_inner, a_next, a_moved, a_trail) => post 1 (f_opLds, f_opSts, f_opPop, f_opRet, f_opJmp, f_opJnz, f_opCall, f_hiddenCall, f_hiddenReturn, f_hiddenJump, f_capacity, f_stackLimit, f_outLimit, f_phase, f_count, f_held, f_mainSize, f_sp, f_hidden, f_outs, f_at, f_pc, f_status, f_bestSaving, f_bestFrom, f_bestLen, f_bestCount, a_code, a_origin, a_regs, a_cells, a_linked, a_log, a_target, a_plainLen, a_tailLen, a_order, a_rank, a_shared, a_site, a_inner, a_next, a_moved, a_trail)) (f_opLds, f_opSts, f_opPop, f_opRet, f_opJmp, f_opJnz, f_opCall, f_hiddenCall, f_hiddenReturn, f_hiddenJump, nI cap, nI sl, nI ol, nI ph, nI cnt, nI h, nI ms, nI (dp + S2.length), nI S2.length, nI ou, nI ax, nI pc2, 0, f_bestSaving, f_bestFrom, f_bestLen, f_bestCount, a_code, a_origin, a_regs, cells2, linked2, a_log, a_target, a_plainLen, a_tailLen, a_order, a_rank, a_shared, a_site, a_inner, a_next, a_moved, a_trail) (nI (E ax / 256)) (nI (w pc2 / 32 % 4)) (nI (w pc2 % 32))) ∧ (¬ 10 ≤ E ax / 256 → wpX_work (fun u => match u with | (f_opLds, f_opSts, f_opPop, f_opRet, f_opJmp, f_opJnz, f_opCall, f_hiddenCall, f_hiddenReturn, f_hiddenJump, f_capacity, f_stackLimit, f_outLimit, f_phase, f_count, f_held, f_mainSize, f_sp, f_hidden, f_outs, f_at, f_pc, f_status, f_bestSaving, f_bestFrom, f_bestLen, f_bestCount, a_code, a_origin, a_regs, a_cells, a_linked, a_log, a_target, a_plainLen, a_tailLen, a_order, a_rank, a_shared, a_site, a_inner, a_next, a_moved, a_trail) => post 1 (f_opLds, f_opSts, f_opPop, f_opRet, f_opJmp, f_opJnz, f_opCall, f_hiddenCall, f_hiddenReturn, f_hiddenJump, f_capacity, f_stackLimit, f_outLimit, f_phase, f_count, f_held, f_mainSize, f_sp, f_hidden, f_outs, f_at, f_pc, f_status, f_bestSaving, f_bestFrom, f_bestLen, f_bestCount, a_code, a_origin, a_regs, a_cells, a_linked, a_log, a_target, a_plainLen, a_tailLen, a_order, a_rank, a_shared, a_site, a_inner, a_next, a_moved, a_trail)) (f_opLds, f_opSts, f_opPop, f_opRet, f_opJmp, f_opJnz, f_opCall, f_hiddenCall, f_hiddenReturn, f_hiddenJump, nI cap, nI sl, nI ol, nI ph, nI cnt, nI h, nI ms, nI (dp + S2.length), nI S2.length, nI ou, nI ax, nI pc2, 0, f_bestSaving, f_bestFrom, f_bestLen, f_bestCount, a_code, a_origin, a_regs, cells2, linked2, a_log, a_target, a_plainLen, a_tailLen, a_order, a_rank, a_shared, a_site, a_inner, a_next, a_moved, a_trail) (nI (E ax / 256)) (nI (w pc2 / 32 % 4)) (nI (w pc2 % 32)))) ∧
         (¬ oz_ft (E ax / 256) (E ax % 32) dp ou sl ol b_links = 0 → post 0 (f_opLds, f_opSts, f_opPop, f_opRet, f_opJmp, f_opJnz, f_opCall, f_hiddenCall, f_hiddenReturn, f_hiddenJump, nI cap, nI sl, nI ol, nI ph, nI cnt, nI h, nI ms, nI (dp + S2.length), nI S2.length, nI ou, nI ax, nI pc2, oz_ft (E ax / 256) (E ax % 32) dp ou sl ol b_links, f_bestSaving, f_bestFrom, f_bestLen, f_bestCount, a_code, a_origin, a_regs, cells2, linked2, a_log, a_target, a_plainLen, a_tailLen, a_order, a_rank, a_shared, a_site, a_inner, a_next, a_moved, a_trail))) → wpX_step post (f_opLds, f_opSts, f_opPop, f_opRet, f_opJmp, f_opJnz, f_opCall, f_hiddenCall, f_hiddenReturn, f_hiddenJump, nI cap, nI sl, nI ol, nI ph, nI cnt, nI h, nI ms, nI (dp + S.length), nI S.length, nI ou, nI ax, nI pc, 0, f_bestSaving, f_bestFrom, f_bestLen, f_bestCount, a_code, a_origin, a_regs, a_cells, a_linked, a_log, a_target, a_plainLen, a_tailLen, a_order, a_rank, a_shared, a_site, a_inner, a_next, a_moved, a_trail) := by
      intro post H
      refine pk_eq ax cnt (fun z => absurd z hax) (fun _ => ?_)
      refine ⟨18, r5 _ ?_⟩
      have eop : a_code (nI pc2).toNatClampNeg >>> ((8 : Int32) &&& 31) = nI (E ax / 256) := by rw [oz_rop (by omega) (by omega) ci, e8]
      refine ⟨pk_in pc2 40 (by omega), nm_r eop ⟨pk_in pc2 40 (by omega), nm_r (oz_ra (by omega) (by omega) ci) ⟨pk_in pc2 40 (by omega), nm_r (oz_rb (by omega) (by omega) ci) ?_⟩⟩⟩
      refine oz_Xft (lk := b_links) (b := E ax % 32) (by omega) (by omega) hd12 (by omega) hsl (by omega) hol hlk (fun z => by have := m3 (by rw [e8]; exact z); omega) (fun z => by have := g2 (by rw [e8]; exact z); rw [this]; rfl) (fun z => ?_) (by omega) ?_
      · have k1 := m4 (by omega) (by omega)
        have k2 := f5 (by omega) (by omega)
        omega
      · refine br_c (fun z => ?_) (fun z => H.2 z)
        exact pk_le 10 (E ax / 256) (fun y => (H.1 z).1 y) (fun y => (H.1 z).2 (by omega))
    have hY : ∀ (post : Int32 → SY → Prop) x2 x3 n, ¬ x2 ≤ x3 → wY_run_93 post (wY_run_34 post x2 n) x2 x3 (nI cap) (nI sl) (nI ol) (nI ph) (nI cnt) (oz_ft (E ax / 256) (E ax % 32) dp ou sl ol b_links) (nI ax) (nI dp) (nI ou) b_ops b_as b_bs a_regs b_cells b_links a_log → wY_run_34 post x2 (n + 1) x3 (nI cap) (nI sl) (nI ol) (nI ph) (nI cnt) 0 (nI ax) (nI dp) (nI ou) b_ops b_as b_bs a_regs b_cells b_links a_log := by
      intro post y2 y3 n hy H
      refine br_f hy (br_t rfl (pk_lt ax cnt (fun _ => ⟨pk_in ax 32 (by omega), pk_in ax 32 (by omega), ?_⟩) (fun z => absurd z (by omega))))
      rw [oz_rd (a := b_ops) (by omega) eo, oz_rd (a := b_bs) (by omega) eb]
      exact oz_Yft (by omega) (by omega) hd12 hsl (by omega) hol H
    by_cases hf : oz_ft (E ax / 256) (E ax % 32) dp ou sl ol b_links = 0
    · obtain ⟨i1, i2⟩ := oz_instr (a_regs := a_regs) (a_log := a_log) (a_target := a_target) (a_plainLen := a_plainLen) (a_tailLen := a_tailLen) (a_order := a_order) (a_rank := a_rank) (a_shared := a_shared) (a_site := a_site) (a_inner := a_inner) (a_next := a_next) (a_moved := a_moved) (a_trail := a_trail) (f_opLds := f_opLds) (f_opSts := f_opSts) (f_opPop := f_opPop) (f_opRet := f_opRet) (f_opJmp := f_opJmp) (f_opJnz := f_opJnz) (f_opCall := f_opCall) (f_hiddenCall := f_hiddenCall) (f_hiddenReturn := f_hiddenReturn) (f_hiddenJump := f_hiddenJump) (f_bestSaving := f_bestSaving) (f_bestFrom := f_bestFrom) (f_bestLen := f_bestLen) (f_bestCount := f_bestCount) hB hE hP0 hD2 hax' r2 hf
      have hYp : ∀ v', (∀ post : SY → Prop, post v' → wpY_perform post (nI cap, nI sl, nI ol, nI ph, nI cnt, 0, nI ax, nI dp, nI ou, b_ops, b_as, b_bs, a_regs, b_cells, b_links, a_log) (nI (E ax / 256)) (nI (E ax / 32 % 8)) (nI (E ax % 32))) → ∀ (post : Int32 → SY → Prop) x2 x3 n, ¬ x2 ≤ x3 → oz_yr post x2 n (x3 + 1) v' → oz_yr post x2 (n + 1) x3 (nI cap, nI sl, nI ol, nI ph, nI cnt, 0, nI ax, nI dp, nI ou, b_ops, b_as, b_bs, a_regs, b_cells, b_links, a_log) := by
        intro v' hv post y2 y3 n hy H
        refine hY post y2 y3 n hy ?_
        rw [hf]
        refine br_t rfl ⟨pk_in ax 32 (by omega), pk_in ax 32 (by omega), pk_in ax 32 (by omega), ?_⟩
        rw [oz_rd (a := b_ops) (by omega) eo, oz_rd (a := b_as) (by omega) ea, oz_rd (a := b_bs) (by omega) eb]
        obtain ⟨y_capacity', y_stackLimit', y_outLimit', y_phase', y_count', y_status', y_at', y_depth', y_outs', b_ops', b_as', b_bs', b_regs', b_cells', b_links', b_log'⟩ := v'
        exact hv _ (nm_e H)
      by_cases k10 : 10 ≤ E ax / 256
      · obtain ⟨u', v', hJ, wx, wy⟩ := i2 k10
        refine ⟨u', v', hJ, Or.inr ⟨fun post H => hX post ⟨fun _ => ⟨fun _ => ?_, fun z => absurd k10 z⟩, fun z => absurd hf z⟩, hYp v' wy⟩⟩
        obtain ⟨f_opLds', f_opSts', f_opPop', f_opRet', f_opJmp', f_opJnz', f_opCall', f_hiddenCall', f_hiddenReturn', f_hiddenJump', f_capacity', f_stackLimit', f_outLimit', f_phase', f_count', f_held', f_mainSize', f_sp', f_hidden', f_outs', f_at', f_pc', f_status', f_bestSaving', f_bestFrom', f_bestLen', f_bestCount', a_code', a_origin', a_regs', a_cells', a_linked', a_log', a_target', a_plainLen', a_tailLen', a_order', a_rank', a_shared', a_site', a_inner', a_next', a_moved', a_trail'⟩ := u'
        exact wx _ H
      · obtain ⟨u', v', hJ, wx, wy⟩ := i1 k10
        refine ⟨u', v', hJ, Or.inr ⟨fun post H => hX post ⟨fun _ => ⟨fun z => absurd z k10, fun _ => ?_⟩, fun z => absurd hf z⟩, hYp v' wy⟩⟩
        obtain ⟨f_opLds', f_opSts', f_opPop', f_opRet', f_opJmp', f_opJnz', f_opCall', f_hiddenCall', f_hiddenReturn', f_hiddenJump', f_capacity', f_stackLimit', f_outLimit', f_phase', f_count', f_held', f_mainSize', f_sp', f_hidden', f_outs', f_at', f_pc', f_status', f_bestSaving', f_bestFrom', f_bestLen', f_bestCount', a_code', a_origin', a_regs', a_cells', a_linked', a_log', a_target', a_plainLen', a_tailLen', a_order', a_rank', a_shared', a_site', a_inner', a_next', a_moved', a_trail'⟩ := u'
        exact wx _ H
    · refine ⟨(f_opLds, f_opSts, f_opPop, f_opRet, f_opJmp, f_opJnz, f_opCall, f_hiddenCall, f_hiddenReturn, f_hiddenJump, nI cap, nI sl, nI ol, nI ph, nI cnt, nI h, nI ms, nI (dp + S2.length), nI S2.length, nI ou, nI ax, nI pc2, oz_ft (E ax / 256) (E ax % 32) dp ou sl ol b_links, f_bestSaving, f_bestFrom, f_bestLen, f_bestCount, a_code, a_origin, a_regs, cells2, linked2, a_log, a_target, a_plainLen, a_tailLen, a_order, a_rank, a_shared, a_site, a_inner, a_next, a_moved, a_trail), (nI cap, nI sl, nI ol, nI ph, nI cnt, oz_ft (E ax / 256) (E ax % 32) dp ou sl ol b_links, nI ax, nI dp, nI ou, b_ops, b_as, b_bs, a_regs, b_cells, b_links, a_log), oz_inJ hB hE hP0 hD2, Or.inl ⟨hf, fun post H => hX post ⟨fun z => absurd z hf, fun _ => H⟩, fun post y2 y3 n hy H => hY post y2 y3 n hy (br_f hf H)⟩⟩
end
theorem oz_rl {lim : Nat} (hl : lim ≤ 512) : ∀ d t (u : SX) (v : SY), oz_RJ u v → t + d = lim → ∃ r u' v', oz_RJ u' v' ∧ (∀ post : Int32 → SX → Prop, post r u' → oz_xr post (nI lim) (d + 2) (nI t) (nI t) u) ∧ (∀ post : Int32 → SY → Prop, post r v' → oz_yr post (nI lim) (d + 2) (nI t) v) := by
  intro d
  induction d with
  | zero =>
    intro t u v hJ ht
    have e : t = lim := by omega
    subst e
    refine ⟨nI t, u, v, hJ, fun post H => ?_, fun post H => ?_⟩
    · obtain ⟨f_opLds', f_opSts', f_opPop', f_opRet', f_opJmp', f_opJnz', f_opCall', f_hiddenCall', f_hiddenReturn', f_hiddenJump', f_capacity', f_stackLimit', f_outLimit', f_phase', f_count', f_held', f_mainSize', f_sp', f_hidden', f_outs', f_at', f_pc', f_status', f_bestSaving', f_bestFrom', f_bestLen', f_bestCount', a_code', a_origin', a_regs', a_cells', a_linked', a_log', a_target', a_plainLen', a_tailLen', a_order', a_rank', a_shared', a_site', a_inner', a_next', a_moved', a_trail'⟩ := u
      exact pk_le t t (fun _ => H) (fun z => absurd z (by omega))
    · obtain ⟨y_capacity', y_stackLimit', y_outLimit', y_phase', y_count', y_status', y_at', y_depth', y_outs', b_ops', b_as', b_bs', b_regs', b_cells', b_links', b_log'⟩ := v
      exact pk_le t t (fun _ => H) (fun z => absurd z (by omega))
  | succ d ih =>
    intro t u v hJ ht
    refine oz_elJ (P := fun u v => ∃ r u' v', oz_RJ u' v' ∧ (∀ post : Int32 → SX → Prop, post r u' → oz_xr post (nI lim) (d + 1 + 2) (nI t) (nI t) u) ∧ (∀ post : Int32 → SY → Prop, post r v' → oz_yr post (nI lim) (d + 1 + 2) (nI t) v)) ?_ hJ
    intro cap sl ol cnt dp ou ax ph h ms pc r E w og S R st f_opLds f_opSts f_opPop f_opRet f_opJmp f_opJnz f_opCall f_hiddenCall f_hiddenReturn f_hiddenJump f_capacity f_stackLimit f_outLimit f_phase f_count f_held f_mainSize f_sp f_hidden f_outs f_at f_pc f_status f_bestSaving f_bestFrom f_bestLen f_bestCount a_code a_origin a_regs a_cells a_linked a_log a_target a_plainLen a_tailLen a_order a_rank a_shared a_site a_inner a_next a_moved a_trail b_ops b_as b_bs b_cells b_links hB hE hP hD
    by_cases hst : st = 0
    · subst hst
      have hnl : ¬ nI lim ≤ nI t := nI_ge (by omega) (by omega)
      obtain ⟨u', v', hJ', ⟨hs, hx, hy⟩ | ⟨hx, hy⟩⟩ := oz_turn (a_regs := a_regs) (a_log := a_log) (a_target := a_target) (a_plainLen := a_plainLen) (a_tailLen := a_tailLen) (a_order := a_order) (a_rank := a_rank) (a_shared := a_shared) (a_site := a_site) (a_inner := a_inner) (a_next := a_next) (a_moved := a_moved) (a_trail := a_trail) (f_opLds := f_opLds) (f_opSts := f_opSts) (f_opPop := f_opPop) (f_opRet := f_opRet) (f_opJmp := f_opJmp) (f_opJnz := f_opJnz) (f_opCall := f_opCall) (f_hiddenCall := f_hiddenCall) (f_hiddenReturn := f_hiddenReturn) (f_hiddenJump := f_hiddenJump) (f_bestSaving := f_bestSaving) (f_bestFrom := f_bestFrom) (f_bestLen := f_bestLen) (f_bestCount := f_bestCount) hB hE hP hD
      · refine ⟨nI t, u', v', hJ', fun post H => ?_, fun post H => hy post _ _ _ hnl H⟩
        refine br_f hnl (br_t rfl (hx _ ?_))
        obtain ⟨f_opLds', f_opSts', f_opPop', f_opRet', f_opJmp', f_opJnz', f_opCall', f_hiddenCall', f_hiddenReturn', f_hiddenJump', f_capacity', f_stackLimit', f_outLimit', f_phase', f_count', f_held', f_mainSize', f_sp', f_hidden', f_outs', f_at', f_pc', f_status', f_bestSaving', f_bestFrom', f_bestLen', f_bestCount', a_code', a_origin', a_regs', a_cells', a_linked', a_log', a_target', a_plainLen', a_tailLen', a_order', a_rank', a_shared', a_site', a_inner', a_next', a_moved', a_trail'⟩ := u'
        exact br_t rfl (nm_r (nI_1 t) (pk_le lim (t + 1) (fun _ => H) (fun _ => br_f hs H)))
      · obtain ⟨r2, u2, v2, hJ2, hx2, hy2⟩ := ih (t + 1) u' v' hJ' (by omega)
        refine ⟨r2, u2, v2, hJ2, fun post H => ?_, fun post H => hy post _ _ _ hnl ?_⟩
        · refine br_f hnl (br_t rfl (hx _ ?_))
          have k := hx2 post H
          obtain ⟨f_opLds', f_opSts', f_opPop', f_opRet', f_opJmp', f_opJnz', f_opCall', f_hiddenCall', f_hiddenReturn', f_hiddenJump', f_capacity', f_stackLimit', f_outLimit', f_phase', f_count', f_held', f_mainSize', f_sp', f_hidden', f_outs', f_at', f_pc', f_status', f_bestSaving', f_bestFrom', f_bestLen', f_bestCount', a_code', a_origin', a_regs', a_cells', a_linked', a_log', a_target', a_plainLen', a_tailLen', a_order', a_rank', a_shared', a_site', a_inner', a_next', a_moved', a_trail'⟩ := u'
          exact br_f oz_10 (nm_r (nI_1 t) (nm_r (nI_1 t) k))
        · rw [nI_1]
          exact hy2 post H
    · refine ⟨nI t, (f_opLds, f_opSts, f_opPop, f_opRet, f_opJmp, f_opJnz, f_opCall, f_hiddenCall, f_hiddenReturn, f_hiddenJump, nI cap, nI sl, nI ol, nI ph, nI cnt, nI h, nI ms, nI (dp + S.length), nI S.length, nI ou, nI ax, nI pc, st, f_bestSaving, f_bestFrom, f_bestLen, f_bestCount, a_code, a_origin, a_regs, a_cells, a_linked, a_log, a_target, a_plainLen, a_tailLen, a_order, a_rank, a_shared, a_site, a_inner, a_next, a_moved, a_trail), (nI cap, nI sl, nI ol, nI ph, nI cnt, st, nI ax, nI dp, nI ou, b_ops, b_as, b_bs, a_regs, b_cells, b_links, a_log), oz_inJ hB hE hP hD, fun post H => ?_, fun post H => ?_⟩
      · exact pk_le lim t (fun z => absurd z (by omega)) (fun _ => br_f hst H)
      · exact pk_le lim t (fun z => absurd z (by omega)) (fun _ => br_f hst H)
end
section
/-! owed: the constructors and the plain calls -/
def oz_cl (x lo hi : Int32) : Int32 := if lo ≤ x then (if x ≤ hi then x else hi) else lo
theorem oz_clN {lo hi : Nat} (hl : lo ≤ hi) (hh : hi < 2 ^ 31) (x : Int32) : ∃ n, lo ≤ n ∧ n ≤ hi ∧ oz_cl x (nI lo) (nI hi) = nI n := by
  unfold oz_cl
  by_cases a : nI lo ≤ x
  · rw [if_pos a]
    have hx : ¬ x < 0 := by
      intro z
      have h1 := Int32.le_iff_toInt_le.mp a
      have h2 := Int32.lt_iff_toInt_lt.mp z
      rw [nI_toInt (by omega)] at h1
      rw [show (0 : Int32).toInt = 0 from by decide] at h2
      omega
    obtain ⟨j, hj, rfl⟩ := nI_of hx
    rw [nI_leI (by omega) hj] at a
    by_cases b : nI j ≤ nI hi
    · rw [if_pos b]
      rw [nI_leI hj hh] at b
      exact ⟨j, a, b, rfl⟩
    · rw [if_neg b]
      exact ⟨hi, hl, Nat.le_refl _, rfl⟩
  · rw [if_neg a]
    exact ⟨lo, Nat.le_refl _, hl, rfl⟩
theorem oz_Xcl {post : Int32 → Prop} {u : SX} {x lo hi : Int32} (H : post (oz_cl x lo hi)) : wpX_clamp post u x lo hi := by
  obtain ⟨f_opLds, f_opSts, f_opPop, f_opRet, f_opJmp, f_opJnz, f_opCall, f_hiddenCall, f_hiddenReturn, f_hiddenJump, f_capacity, f_stackLimit, f_outLimit, f_phase, f_count, f_held, f_mainSize, f_sp, f_hidden, f_outs, f_at, f_pc, f_status, f_bestSaving, f_bestFrom, f_bestLen, f_bestCount, a_code, a_origin, a_regs, a_cells, a_linked, a_log, a_target, a_plainLen, a_tailLen, a_order, a_rank, a_shared, a_site, a_inner, a_next, a_moved, a_trail⟩ := u
  unfold oz_cl at H
  refine br_c (fun a => ?_) (fun a => ?_)
  · rw [if_pos a] at H
    refine br_c (fun b => ?_) (fun b => ?_)
    · rw [if_pos b] at H; exact H
    · rw [if_neg b] at H; exact H
  · rw [if_neg a] at H; exact H
theorem oz_Yi108 {y_capacity y_stackLimit y_outLimit y_phase y_count y_status y_at y_depth y_outs : Int32} {b_ops b_as b_bs b_regs b_cells b_links b_log : Nat → Int32} {post : SY → Prop} {x3 z0 : Int32} (H : post (y_capacity, z0, oz_cl x3 4 16, y_phase, y_count, y_status, y_at, y_depth, y_outs, b_ops, b_as, b_bs, b_regs, b_cells, b_links, b_log)) : wY_init_108 post x3 z0 y_capacity y_stackLimit y_outLimit y_phase y_count y_status y_at y_depth y_outs b_ops b_as b_bs b_regs b_cells b_links b_log := by
  unfold oz_cl at H
  refine br_c (fun a => ?_) (fun a => ?_)
  · rw [if_pos a] at H
    refine br_c (fun b => ?_) (fun b => ?_)
    · rw [if_pos b] at H; exact H
    · rw [if_neg b] at H; exact H
  · rw [if_neg a] at H; exact H
theorem oz_Yi83 {y_capacity y_stackLimit y_outLimit y_phase y_count y_status y_at y_depth y_outs : Int32} {b_ops b_as b_bs b_regs b_cells b_links b_log : Nat → Int32} {post : SY → Prop} {x2 x3 z0 : Int32} (H : post (z0, oz_cl x2 2 12, oz_cl x3 4 16, y_phase, y_count, y_status, y_at, y_depth, y_outs, b_ops, b_as, b_bs, b_regs, b_cells, b_links, b_log)) : wY_init_83 post x2 x3 z0 y_capacity y_stackLimit y_outLimit y_phase y_count y_status y_at y_depth y_outs b_ops b_as b_bs b_regs b_cells b_links b_log := by
  unfold oz_cl at H
  refine br_c (fun a => ?_) (fun a => ?_)
  · rw [if_pos a] at H
    refine br_c (fun b => ?_) (fun b => ?_)
    · rw [if_pos b] at H; exact oz_Yi108 H
    · rw [if_neg b] at H; exact oz_Yi108 H
  · rw [if_neg a] at H; exact oz_Yi108 H
theorem oz_Yinit {post : SY → Prop} {k0 k1 k2 : Int32} (H : post (oz_cl k0 8 32, oz_cl k1 2 12, oz_cl k2 4 16, 0, 0, 0, 0, 0, 0, (fun _ => 0), (fun _ => 0), (fun _ => 0), (fun _ => 0), (fun _ => 0), (fun _ => 0), (fun _ => 0))) : wpY_init post k0 k1 k2 := by
  unfold oz_cl at H
  refine br_c (fun a => ?_) (fun a => ?_)
  · rw [if_pos a] at H
    refine br_c (fun b => ?_) (fun b => ?_)
    · rw [if_pos b] at H; exact oz_Yi83 H
    · rw [if_neg b] at H; exact oz_Yi83 H
  · rw [if_neg a] at H; exact oz_Yi83 H
theorem i_vc0 (k0 : Int32) (k1 : Int32) (k2 : Int32) : wpX_init (fun u => wpY_init (fun v => i_Rel 3 u v) k0 k1 k2) k0 k1 k2 := by
  obtain ⟨cap, a1, a2, e1⟩ := oz_clN (lo := 8) (hi := 32) (by omega) (by omega) k0
  obtain ⟨sl, b1, b2, e2⟩ := oz_clN (lo := 2) (hi := 12) (by omega) (by omega) k1
  obtain ⟨ol, c1, c2, e3⟩ := oz_clN (lo := 4) (hi := 16) (by omega) (by omega) k2
  have e1' : oz_cl k0 8 32 = nI cap := e1
  have e2' : oz_cl k1 2 12 = nI sl := e2
  have e3' : oz_cl k2 4 16 = nI ol := e3
  unfold wpX_init
  refine oz_Xcl (oz_Xcl (oz_Xcl (oz_Yinit ?_)))
  rw [e1', e2', e3']
  exact oz_in0 (cnt := 0) (ou := 0) (ax := 0) (E := fun _ => 0) ⟨a1, a2, b1, b2, c1, c2, by omega, by omega, by omega⟩ (fun e he => absurd he (by omega)) (fun e he => absurd he (by omega))
theorem i_vc_drop {k : Nat} {u : SX} {v : SY} (I : i_Rel k u v) (hk : k + 4 ≤ 2051) : wpX_drop (fun r u' => wpY_drop (fun r' v' => r' = r ∧ i_Rel (k + 4) u' v') v) u := by
  refine oz_el (P := fun u v => wpX_drop (fun r u' => wpY_drop (fun r' v' => r' = r ∧ i_Rel (k + 4) u' v') v) u) ?_ ?_ I
  · intro cap sl ol cnt ou ax E st f_opLds f_opSts f_opPop f_opRet f_opJmp f_opJnz f_opCall f_hiddenCall f_hiddenReturn f_hiddenJump f_capacity f_stackLimit f_outLimit f_phase f_count f_held f_mainSize f_sp f_hidden f_outs f_at f_pc f_status f_bestSaving f_bestFrom f_bestLen f_bestCount a_code a_origin a_regs a_cells a_linked a_log a_target a_plainLen a_tailLen a_order a_rank a_shared a_site a_inner a_next a_moved a_trail y_capacity b_ops b_as b_bs b_cells b_links hB hE hc
    have hcap : cnt ≤ 32 := by have := hB.2.1; have := hB.2.2.2.2.2.2.1; omega
    refine pk_eq 0 0 (fun _ => pk_eq cnt 0 (fun z => ?_) (fun z => nm_r (oz_pr (by omega)) ?_)) (fun z => absurd rfl z)
    · exact pk_eq 0 0 (fun _ => pk_eq cnt 0 (fun _ => ⟨rfl, oz_in0 hB hE hc⟩) (fun y => absurd z y)) (fun z => absurd rfl z)
    · refine pk_eq 0 0 (fun _ => pk_eq cnt 0 (fun y => absurd y z) (fun _ => nm_r (oz_pr (by omega)) ⟨rfl, oz_in0 ?_ (fun e he => hE e (by omega)) (fun e he => hc e (by omega))⟩)) (fun z => absurd rfl z)
      exact ⟨hB.1, hB.2.1, hB.2.2.1, hB.2.2.2.1, hB.2.2.2.2.1, hB.2.2.2.2.2.1, by have := hB.2.2.2.2.2.2.1; omega, hB.2.2.2.2.2.2.2.1, hB.2.2.2.2.2.2.2.2⟩
  · intro cap sl ol cnt dp ou ax ph h ms pc r E w og S R st f_opLds f_opSts f_opPop f_opRet f_opJmp f_opJnz f_opCall f_hiddenCall f_hiddenReturn f_hiddenJump f_capacity f_stackLimit f_outLimit f_phase f_count f_held f_mainSize f_sp f_hidden f_outs f_at f_pc f_status f_bestSaving f_bestFrom f_bestLen f_bestCount a_code a_origin a_regs a_cells a_linked a_log a_target a_plainLen a_tailLen a_order a_rank a_shared a_site a_inner a_next a_moved a_trail b_ops b_as b_bs b_cells b_links hB hE hP hD
    have hp := hP.1
    exact pk_eq ph 0 (fun z => absurd z (by omega)) (fun _ => pk_eq ph 0 (fun z => absurd z (by omega)) (fun _ => ⟨rfl, oz_in1 hB hE hP hD⟩))
theorem oz_Yent {y_capacity y_stackLimit y_outLimit y_phase y_count y_status y_at y_depth y_outs : Int32} {b_ops b_as b_bs b_regs b_cells b_links b_log : Nat → Int32} {post : Int32 → SY → Prop} {p : Int32} (H : post 0 (y_capacity, y_stackLimit, y_outLimit, p, y_count, 0, 0, 0, 0, b_ops, b_as, b_bs, oz_z4 b_regs, b_cells, b_links, b_log)) : wpY_enter post (y_capacity, y_stackLimit, y_outLimit, y_phase, y_count, y_status, y_at, y_depth, y_outs, b_ops, b_as, b_bs, b_regs, b_cells, b_links, b_log) p := by
  refine ⟨5, ?_⟩
  refine pk_le 4 0 (fun z => absurd z (by omega)) (fun _ => ⟨pk_in 0 4 (by omega), nm_r (e' := upd b_regs 0 0) rfl (nm_r (e' := nI 1) rfl ?_)⟩)
  refine pk_le 4 1 (fun z => absurd z (by omega)) (fun _ => ⟨pk_in 1 4 (by omega), nm_r (e' := upd (upd b_regs 0 0) 1 0) rfl (nm_r (e' := nI 2) rfl ?_)⟩)
  refine pk_le 4 2 (fun z => absurd z (by omega)) (fun _ => ⟨pk_in 2 4 (by omega), nm_r (e' := upd (upd (upd b_regs 0 0) 1 0) 2 0) rfl (nm_r (e' := nI 3) rfl ?_)⟩)
  refine pk_le 4 3 (fun z => absurd z (by omega)) (fun _ => ⟨pk_in 3 4 (by omega), nm_r (e' := oz_z4 b_regs) rfl (nm_r (e' := nI 4) rfl ?_)⟩)
  exact pk_le 4 4 (fun _ => H) (fun z => absurd z (by omega))
section
variable {f_opLds f_opSts f_opPop f_opRet f_opJmp f_opJnz f_opCall f_hiddenCall f_hiddenReturn f_hiddenJump f_capacity f_stackLimit f_outLimit f_phase f_count f_held f_mainSize f_sp f_hidden f_outs f_at f_pc f_status f_bestSaving f_bestFrom f_bestLen f_bestCount : Int32} {a_code a_origin a_regs a_cells a_linked a_log a_target a_plainLen a_tailLen a_order a_rank a_shared a_site a_inner a_next a_moved a_trail : Nat → Int32} {y_capacity y_stackLimit y_outLimit y_phase y_count y_status y_at y_depth y_outs : Int32} {b_ops b_as b_bs b_regs b_cells b_links b_log : Nat → Int32}
variable {k cap sl ol cnt dp ou ax ph h ms pc r : Nat} {E w og : Nat → Nat} {S : List Nat} {R : Nat → List Nat → Nat → Nat → Prop} {st : Int32}
theorem oz_Bs0 (hB : oz_Bs cap sl ol cnt dp ou) : oz_Bs cap sl ol cnt 0 0 := ⟨hB.1, hB.2.1, hB.2.2.1, hB.2.2.2.1, hB.2.2.2.2.1, hB.2.2.2.2.2.1, hB.2.2.2.2.2.2.1, Nat.zero_le _, Nat.zero_le _⟩
/-- the machine rewound, sealed -/
theorem oz_inR (hB : oz_Bs cap sl ol cnt dp ou) (hE : oz_Em cnt E b_ops b_as b_bs) (hP : oz_Hp ph cnt h ms r E w og R a_code a_origin) : i_Rel k (f_opLds, f_opSts, f_opPop, f_opRet, f_opJmp, f_opJnz, f_opCall, f_hiddenCall, f_hiddenReturn, f_hiddenJump, nI cap, nI sl, nI ol, nI ph, nI cnt, nI h, nI ms, 0, 0, 0, 0, 0, 0, f_bestSaving, f_bestFrom, f_bestLen, f_bestCount, a_code, a_origin, a_regs, a_cells, a_linked, a_log, a_target, a_plainLen, a_tailLen, a_order, a_rank, a_shared, a_site, a_inner, a_next, a_moved, a_trail) (nI cap, nI sl, nI ol, nI ph, nI cnt, 0, 0, 0, 0, b_ops, b_as, b_bs, a_regs, b_cells, b_links, a_log) := by
  have hR := hP.2.2.2.2.2.1.1 0 0 (Nat.zero_le _)
  rw [hP.2.2.2.2.1.1.2.2.2.1] at hR
  exact oz_in1 (S := []) (dp := 0) (ou := 0) (ax := 0) (pc := 0) (oz_Bs0 hB) hE hP ⟨⟨0, hR⟩, fun i hi => absurd hi (by omega), True.intro⟩
theorem oz_inE (hB : oz_Bs cap sl ol cnt dp ou) (hE : oz_Em cnt E b_ops b_as b_bs) (hc : oz_Cd a_code cnt E) : i_Rel k (f_opLds, f_opSts, f_opPop, f_opRet, f_opJmp, f_opJnz, f_opCall, f_hiddenCall, f_hiddenReturn, f_hiddenJump, nI cap, nI sl, nI ol, 0, nI cnt, nI cnt, f_mainSize, 0, 0, 0, 0, 0, 0, f_bestSaving, f_bestFrom, f_bestLen, f_bestCount, a_code, a_origin, a_regs, a_cells, a_linked, a_log, a_target, a_plainLen, a_tailLen, a_order, a_rank, a_shared, a_site, a_inner, a_next, a_moved, a_trail) (nI cap, nI sl, nI ol, 0, nI cnt, 0, 0, 0, 0, b_ops, b_as, b_bs, a_regs, b_cells, b_links, a_log) :=
  oz_in0 (ou := 0) (ax := 0) (oz_Bs0 hB) hE hc
end
theorem i_vc_rewind {k : Nat} {u : SX} {v : SY} (I : i_Rel k u v) (hk : k + 4 ≤ 2051) : wpX_rewind (fun r u' => wpY_rewind (fun r' v' => r' = r ∧ i_Rel (k + 4) u' v') v) u := by
  refine oz_el (P := fun u v => wpX_rewind (fun r u' => wpY_rewind (fun r' v' => r' = r ∧ i_Rel (k + 4) u' v') v) u) ?_ ?_ I
  · intro cap sl ol cnt ou ax E st f_opLds f_opSts f_opPop f_opRet f_opJmp f_opJnz f_opCall f_hiddenCall f_hiddenReturn f_hiddenJump f_capacity f_stackLimit f_outLimit f_phase f_count f_held f_mainSize f_sp f_hidden f_outs f_at f_pc f_status f_bestSaving f_bestFrom f_bestLen f_bestCount a_code a_origin a_regs a_cells a_linked a_log a_target a_plainLen a_tailLen a_order a_rank a_shared a_site a_inner a_next a_moved a_trail y_capacity b_ops b_as b_bs b_cells b_links hB hE hc
    exact pk_eq 0 0 (fun _ => pk_eq 0 0 (fun _ => ⟨rfl, oz_in0 hB hE hc⟩) (fun z => absurd rfl z)) (fun z => absurd rfl z)
  · intro cap sl ol cnt dp ou ax ph h ms pc r E w og S R st f_opLds f_opSts f_opPop f_opRet f_opJmp f_opJnz f_opCall f_hiddenCall f_hiddenReturn f_hiddenJump f_capacity f_stackLimit f_outLimit f_phase f_count f_held f_mainSize f_sp f_hidden f_outs f_at f_pc f_status f_bestSaving f_bestFrom f_bestLen f_bestCount a_code a_origin a_regs a_cells a_linked a_log a_target a_plainLen a_tailLen a_order a_rank a_shared a_site a_inner a_next a_moved a_trail b_ops b_as b_bs b_cells b_links hB hE hP hD
    have hp := hP.1
    refine pk_eq ph 0 (fun z => absurd z (by omega)) (fun _ => ?_)
    refine oz_Xrew ?_
    refine pk_eq ph 0 (fun z => absurd z (by omega)) (fun _ => ?_)
    exact oz_Yent ⟨rfl, oz_inR hB hE hP⟩
theorem i_vc_put {k : Nat} {u : SX} {v : SY} (I : i_Rel k u v) (hk : k + 4 ≤ 2051) (v1 : Int32) (v2 : Int32) : wpX_put (fun r u' => wpY_put (fun r' v' => r' = r ∧ i_Rel (k + 4) u' v') v v1 v2) u v1 v2 := by
  refine oz_el (P := fun u v => wpX_put (fun r u' => wpY_put (fun r' v' => r' = r ∧ i_Rel (k + 4) u' v') v v1 v2) u v1 v2) ?_ ?_ I
  · intro cap sl ol cnt ou ax E st f_opLds f_opSts f_opPop f_opRet f_opJmp f_opJnz f_opCall f_hiddenCall f_hiddenReturn f_hiddenJump f_capacity f_stackLimit f_outLimit f_phase f_count f_held f_mainSize f_sp f_hidden f_outs f_at f_pc f_status f_bestSaving f_bestFrom f_bestLen f_bestCount a_code a_origin a_regs a_cells a_linked a_log a_target a_plainLen a_tailLen a_order a_rank a_shared a_site a_inner a_next a_moved a_trail y_capacity b_ops b_as b_bs b_cells b_links hB hE hc
    exact pk_eq 0 0 (fun _ => pk_eq 0 0 (fun _ => ⟨rfl, oz_in0 hB hE hc⟩) (fun z => absurd rfl z)) (fun z => absurd rfl z)
  · intro cap sl ol cnt dp ou ax ph h ms pc r E w og S R st f_opLds f_opSts f_opPop f_opRet f_opJmp f_opJnz f_opCall f_hiddenCall f_hiddenReturn f_hiddenJump f_capacity f_stackLimit f_outLimit f_phase f_count f_held f_mainSize f_sp f_hidden f_outs f_at f_pc f_status f_bestSaving f_bestFrom f_bestLen f_bestCount a_code a_origin a_regs a_cells a_linked a_log a_target a_plainLen a_tailLen a_order a_rank a_shared a_site a_inner a_next a_moved a_trail b_ops b_as b_bs b_cells b_links hB hE hP hD
    have hp := hP.1
    refine pk_eq ph 0 (fun z => absurd z (by omega)) (fun _ => br_c (fun a => ?_) (fun a => br_c (fun b => ?_) (fun b => ?_)))
    · exact pk_eq ph 0 (fun z => absurd z (by omega)) (fun _ => br_t a ⟨rfl, oz_in1 hB hE hP hD⟩)
    · obtain ⟨j, hj, rfl⟩ := nI_of2 (n := 3) (by decide) a b
      refine ⟨pk_in j 4 (by omega), nm_e ?_⟩
      exact pk_eq ph 0 (fun z => absurd z (by omega)) (fun _ => br_f a (br_t b ⟨pk_in j 4 (by omega), nm_e ⟨rfl, oz_in1 hB hE hP hD⟩⟩))
    · exact pk_eq ph 0 (fun z => absurd z (by omega)) (fun _ => br_f a (br_f b ⟨rfl, oz_in1 hB hE hP hD⟩))
theorem i_vc_reg {k : Nat} {u : SX} {v : SY} (I : i_Rel k u v) (hk : k + 4 ≤ 2051) (v1 : Int32) : wpX_reg (fun r => wpY_reg (fun r' => r' = r ∧ i_Rel (k + 4) u v) v v1) u v1 := by
  have I' : i_Rel (k + 4) u v := I
  refine oz_el (P := fun u v => ∀ J : Prop, J → wpX_reg (fun r => wpY_reg (fun r' => r' = r ∧ J) v v1) u v1) ?_ ?_ I _ I'
  · intro cap sl ol cnt ou ax E st f_opLds f_opSts f_opPop f_opRet f_opJmp f_opJnz f_opCall f_hiddenCall f_hiddenReturn f_hiddenJump f_capacity f_stackLimit f_outLimit f_phase f_count f_held f_mainSize f_sp f_hidden f_outs f_at f_pc f_status f_bestSaving f_bestFrom f_bestLen f_bestCount a_code a_origin a_regs a_cells a_linked a_log a_target a_plainLen a_tailLen a_order a_rank a_shared a_site a_inner a_next a_moved a_trail y_capacity b_ops b_as b_bs b_cells b_links hB hE hc J hJ
    refine br_c (fun a => br_t a ⟨rfl, hJ⟩) (fun a => br_c (fun b => ?_) (fun b => br_f a (br_f b ⟨rfl, hJ⟩)))
    obtain ⟨j, hj, rfl⟩ := nI_of2 (n := 3) (by decide) a b
    exact ⟨pk_in j 4 (by omega), br_f a (br_t b ⟨pk_in j 4 (by omega), rfl, hJ⟩)⟩
  · intro cap sl ol cnt dp ou ax ph h ms pc r E w og S R st f_opLds f_opSts f_opPop f_opRet f_opJmp f_opJnz f_opCall f_hiddenCall f_hiddenReturn f_hiddenJump f_capacity f_stackLimit f_outLimit f_phase f_count f_held f_mainSize f_sp f_hidden f_outs f_at f_pc f_status f_bestSaving f_bestFrom f_bestLen f_bestCount a_code a_origin a_regs a_cells a_linked a_log a_target a_plainLen a_tailLen a_order a_rank a_shared a_site a_inner a_next a_moved a_trail b_ops b_as b_bs b_cells b_links hB hE hP hD J hJ
    refine br_c (fun a => br_t a ⟨rfl, hJ⟩) (fun a => br_c (fun b => ?_) (fun b => br_f a (br_f b ⟨rfl, hJ⟩)))
    obtain ⟨j, hj, rfl⟩ := nI_of2 (n := 3) (by decide) a b
    exact ⟨pk_in j 4 (by omega), br_f a (br_t b ⟨pk_in j 4 (by omega), rfl, hJ⟩)⟩
theorem i_vc_out {k : Nat} {u : SX} {v : SY} (I : i_Rel k u v) (hk : k + 4 ≤ 2051) (v1 : Int32) : wpX_out (fun r => wpY_out (fun r' => r' = r ∧ i_Rel (k + 4) u v) v v1) u v1 := by
  have I' : i_Rel (k + 4) u v := I
  refine oz_el (P := fun u v => ∀ J : Prop, J → wpX_out (fun r => wpY_out (fun r' => r' = r ∧ J) v v1) u v1) ?_ ?_ I _ I'
  · intro cap sl ol cnt ou ax E st f_opLds f_opSts f_opPop f_opRet f_opJmp f_opJnz f_opCall f_hiddenCall f_hiddenReturn f_hiddenJump f_capacity f_stackLimit f_outLimit f_phase f_count f_held f_mainSize f_sp f_hidden f_outs f_at f_pc f_status f_bestSaving f_bestFrom f_bestLen f_bestCount a_code a_origin a_regs a_cells a_linked a_log a_target a_plainLen a_tailLen a_order a_rank a_shared a_site a_inner a_next a_moved a_trail y_capacity b_ops b_as b_bs b_cells b_links hB hE hc J hJ
    have ho : ou ≤ 16 := by have := hB.2.2.2.2.2.1; have := hB.2.2.2.2.2.2.2.2; omega
    refine br_c (fun a => br_t a ⟨rfl, hJ⟩) (fun a => br_c (fun b => ?_) (fun b => br_f a (br_f b ⟨rfl, hJ⟩)))
    obtain ⟨j, hj, rfl⟩ := nI_of a
    have b' := (nI_ltI hj (by omega)).mp b
    exact ⟨pk_in j 16 (by omega), br_f a (br_t b ⟨pk_in j 16 (by omega), rfl, hJ⟩)⟩
  · intro cap sl ol cnt dp ou ax ph h ms pc r E w og S R st f_opLds f_opSts f_opPop f_opRet f_opJmp f_opJnz f_opCall f_hiddenCall f_hiddenReturn f_hiddenJump f_capacity f_stackLimit f_outLimit f_phase f_count f_held f_mainSize f_sp f_hidden f_outs f_at f_pc f_status f_bestSaving f_bestFrom f_bestLen f_bestCount a_code a_origin a_regs a_cells a_linked a_log a_target a_plainLen a_tailLen a_order a_rank a_shared a_site a_inner a_next a_moved a_trail b_ops b_as b_bs b_cells b_links hB hE hP hD J hJ
    have ho : ou ≤ 16 := by have := hB.2.2.2.2.2.1; have := hB.2.2.2.2.2.2.2.2; omega
    refine br_c (fun a => br_t a ⟨rfl, hJ⟩) (fun a => br_c (fun b => ?_) (fun b => br_f a (br_f b ⟨rfl, hJ⟩)))
    obtain ⟨j, hj, rfl⟩ := nI_of a
    have b' := (nI_ltI hj (by omega)).mp b
    exact ⟨pk_in j 16 (by omega), br_f a (br_t b ⟨pk_in j 16 (by omega), rfl, hJ⟩)⟩
end
section
/-! owed: run, show, stack -/
theorem oz_Yrun {y_capacity y_stackLimit y_outLimit y_phase y_count y_status y_at y_depth y_outs : Int32} {b_ops b_as b_bs b_regs b_cells b_links b_log : Nat → Int32} {post : Int32 → SY → Prop} {x : Int32} (hp : ¬ y_phase = 0) (H : ∃ n, wY_run_34 post (oz_cl x 0 512) n 0 y_capacity y_stackLimit y_outLimit y_phase y_count y_status y_at y_depth y_outs b_ops b_as b_bs b_regs b_cells b_links b_log) : wpY_run post (y_capacity, y_stackLimit, y_outLimit, y_phase, y_count, y_status, y_at, y_depth, y_outs, b_ops, b_as, b_bs, b_regs, b_cells, b_links, b_log) x := by
  unfold oz_cl at H
  refine br_f hp (br_c (fun a => ?_) (fun a => ?_))
  · rw [if_pos a] at H
    refine br_c (fun b => ?_) (fun b => ?_)
    · rw [if_pos b] at H; exact H
    · rw [if_neg b] at H; exact H
  · rw [if_neg a] at H; exact H
theorem i_vc_run {k : Nat} {u : SX} {v : SY} (I : i_Rel k u v) (hk : k + 4 ≤ 2051) (v1 : Int32) : wpX_run (fun r u' => wpY_run (fun r' v' => r' = r ∧ i_Rel (k + 4) u' v') v v1) u v1 := by
  refine oz_el (P := fun u v => wpX_run (fun r u' => wpY_run (fun r' v' => r' = r ∧ i_Rel (k + 4) u' v') v v1) u v1) ?_ ?_ I
  · intro cap sl ol cnt ou ax E st f_opLds f_opSts f_opPop f_opRet f_opJmp f_opJnz f_opCall f_hiddenCall f_hiddenReturn f_hiddenJump f_capacity f_stackLimit f_outLimit f_phase f_count f_held f_mainSize f_sp f_hidden f_outs f_at f_pc f_status f_bestSaving f_bestFrom f_bestLen f_bestCount a_code a_origin a_regs a_cells a_linked a_log a_target a_plainLen a_tailLen a_order a_rank a_shared a_site a_inner a_next a_moved a_trail y_capacity b_ops b_as b_bs b_cells b_links hB hE hc
    exact pk_eq 0 0 (fun _ => pk_eq 0 0 (fun _ => ⟨rfl, oz_in0 hB hE hc⟩) (fun z => absurd rfl z)) (fun z => absurd rfl z)
  · intro cap sl ol cnt dp ou ax ph h ms pc r E w og S R st f_opLds f_opSts f_opPop f_opRet f_opJmp f_opJnz f_opCall f_hiddenCall f_hiddenReturn f_hiddenJump f_capacity f_stackLimit f_outLimit f_phase f_count f_held f_mainSize f_sp f_hidden f_outs f_at f_pc f_status f_bestSaving f_bestFrom f_bestLen f_bestCount a_code a_origin a_regs a_cells a_linked a_log a_target a_plainLen a_tailLen a_order a_rank a_shared a_site a_inner a_next a_moved a_trail b_ops b_as b_bs b_cells b_links hB hE hP hD
    have hp := hP.1
    obtain ⟨lim, _, l2, el⟩ := oz_clN (lo := 0) (hi := 512) (by omega) (by omega) v1
    have el' : oz_cl v1 0 512 = nI lim := el
    obtain ⟨r2, u2, v2, hJ, hx, hy⟩ := oz_rl l2 lim 0 (f_opLds, f_opSts, f_opPop, f_opRet, f_opJmp, f_opJnz, f_opCall, f_hiddenCall, f_hiddenReturn, f_hiddenJump, nI cap, nI sl, nI ol, nI ph, nI cnt, nI h, nI ms, nI (dp + S.length), nI S.length, nI ou, nI ax, nI pc, st, f_bestSaving, f_bestFrom, f_bestLen, f_bestCount, a_code, a_origin, a_regs, a_cells, a_linked, a_log, a_target, a_plainLen, a_tailLen, a_order, a_rank, a_shared, a_site, a_inner, a_next, a_moved, a_trail) (nI cap, nI sl, nI ol, nI ph, nI cnt, st, nI ax, nI dp, nI ou, b_ops, b_as, b_bs, a_regs, b_cells, b_links, a_log) (oz_inJ hB hE hP hD) (by omega)
    have hx' : ∀ post : Int32 → SX → Prop, post r2 u2 → wX_run_24 post (nI lim) (lim + 2) 0 0 f_opLds f_opSts f_opPop f_opRet f_opJmp f_opJnz f_opCall f_hiddenCall f_hiddenReturn f_hiddenJump (nI cap) (nI sl) (nI ol) (nI ph) (nI cnt) (nI h) (nI ms) (nI (dp + S.length)) (nI S.length) (nI ou) (nI ax) (nI pc) st f_bestSaving f_bestFrom f_bestLen f_bestCount a_code a_origin a_regs a_cells a_linked a_log a_target a_plainLen a_tailLen a_order a_rank a_shared a_site a_inner a_next a_moved a_trail := hx
    have hy' : ∀ post : Int32 → SY → Prop, post r2 v2 → wY_run_34 post (nI lim) (lim + 2) 0 (nI cap) (nI sl) (nI ol) (nI ph) (nI cnt) st (nI ax) (nI dp) (nI ou) b_ops b_as b_bs a_regs b_cells b_links a_log := hy
    have hph : ¬ nI ph = 0 := nI_ne0 (by omega) (by omega)
    refine br_f hph ?_
    refine oz_Xcl ?_
    rw [el']
    refine ⟨lim + 2, hx' _ (oz_Yrun hph ?_)⟩
    rw [el']
    exact ⟨lim + 2, hy' _ ⟨rfl, hJ.1⟩⟩
theorem oz_Yshow {y_capacity y_stackLimit y_outLimit y_phase y_count y_status y_at y_depth y_outs : Int32} {b_ops b_as b_bs b_regs b_cells b_links b_log : Nat → Int32} {post : Int32 → Prop} {x : Int32} (hn : ∀ j, j < 10 → ¬ x = nI j) (H : post (-1)) : wpY_show post (y_capacity, y_stackLimit, y_outLimit, y_phase, y_count, y_status, y_at, y_depth, y_outs, b_ops, b_as, b_bs, b_regs, b_cells, b_links, b_log) x :=
  br_f (hn 0 (by omega)) (br_f (hn 1 (by omega)) (br_f (hn 2 (by omega)) (br_f (hn 3 (by omega)) (br_f (hn 4 (by omega)) (br_f (hn 5 (by omega)) (br_f (hn 6 (by omega)) (br_f (hn 7 (by omega)) (br_f (hn 8 (by omega)) (br_f (hn 9 (by omega)) (H))))))))))
theorem i_vc_show {k : Nat} {u : SX} {v : SY} (I : i_Rel k u v) (hk : k + 4 ≤ 2051) (v1 : Int32) : wpX_show (fun r => wpY_show (fun r' => r' = r ∧ i_Rel (k + 4) u v) v v1) u v1 := by
  have I' : i_Rel (k + 4) u v := I
  refine oz_el (P := fun u v => ∀ J : Prop, J → wpX_show (fun r => wpY_show (fun r' => r' = r ∧ J) v v1) u v1) ?_ ?_ I _ I'
  · intro cap sl ol cnt ou ax E st f_opLds f_opSts f_opPop f_opRet f_opJmp f_opJnz f_opCall f_hiddenCall f_hiddenReturn f_hiddenJump f_capacity f_stackLimit f_outLimit f_phase f_count f_held f_mainSize f_sp f_hidden f_outs f_at f_pc f_status f_bestSaving f_bestFrom f_bestLen f_bestCount a_code a_origin a_regs a_cells a_linked a_log a_target a_plainLen a_tailLen a_order a_rank a_shared a_site a_inner a_next a_moved a_trail y_capacity b_ops b_as b_bs b_cells b_links hB hE hc J hJ
    rcases pk_ix v1 (n := 10) (by omega) with a | a | ⟨j, hj, rfl⟩
    · refine br_t a (oz_Yshow (fun j hj z => ?_) ⟨rfl, hJ⟩)
      subst z
      exact absurd a (nI_pos (by omega))
    · have b : ¬ v1 < 0 := fun z => by
        have h1 := Int32.le_iff_toInt_le.mp a
        have h2 := Int32.lt_iff_toInt_lt.mp z
        rw [nI_toInt (by omega)] at h1
        rw [show (0 : Int32).toInt = 0 from by decide] at h2
        omega
      have c : (9 : Int32) < v1 := by
        have h1 := Int32.le_iff_toInt_le.mp a
        rw [nI_toInt (by omega)] at h1
        refine Int32.lt_iff_toInt_lt.mpr ?_
        rw [show (9 : Int32).toInt = 9 from by decide]
        omega
      refine br_f b (br_t c (oz_Yshow (fun j hj z => ?_) ⟨rfl, hJ⟩))
      subst z
      exact absurd a (nI_ge (by omega) (by omega))
    · have hcase : j = 0 ∨ j = 1 ∨ j = 2 ∨ j = 3 ∨ j = 4 ∨ j = 5 ∨ j = 6 ∨ j = 7 ∨ j = 8 ∨ j = 9 := by omega
      rcases hcase with c | c | c | c | c | c | c | c | c | c <;> subst c
      · exact br_f (by decide) (br_f (by decide) (br_t (by decide) (br_t (by decide) (⟨rfl, hJ⟩))))
      · exact br_f (by decide) (br_f (by decide) (br_f (by decide) (br_t (by decide) (br_f (by decide) (br_t (by decide) (⟨rfl, hJ⟩))))))
      · exact br_f (by decide) (br_f (by decide) (br_f (by decide) (br_f (by decide) (br_t (by decide) (br_f (by decide) (br_f (by decide) (br_t (by decide) (⟨rfl, hJ⟩))))))))
      · exact br_f (by decide) (br_f (by decide) (br_f (by decide) (br_f (by decide) (br_f (by decide) (br_t (by decide) (br_f (by decide) (br_f (by decide) (br_f (by decide) (br_t (by decide) (⟨rfl, hJ⟩))))))))))
      · exact br_f (by decide) (br_f (by decide) (br_f (by decide) (br_f (by decide) (br_f (by decide) (br_f (by decide) (br_t (by decide) (br_f (by decide) (br_f (by decide) (br_f (by decide) (br_f (by decide) (br_t (by decide) (⟨rfl, hJ⟩))))))))))))
      · exact br_f (by decide) (br_f (by decide) (br_f (by decide) (br_f (by decide) (br_f (by decide) (br_f (by decide) (br_f (by decide) (br_t (by decide) (br_f (by decide) (br_f (by decide) (br_f (by decide) (br_f (by decide) (br_f (by decide) (br_t (by decide) (⟨rfl, hJ⟩))))))))))))))
      · refine br_f (by decide) (br_f (by decide) (br_f (by decide) (br_f (by decide) (br_f (by decide) (br_f (by decide) (br_f (by decide) (br_f (by decide) (br_t (by decide) (pk_le cnt cnt (fun _ => ?_) (fun z => absurd z (by omega)) (ha := ?_) (hb := ?_))))))))))
        · exact br_f (by decide) (br_f (by decide) (br_f (by decide) (br_f (by decide) (br_f (by decide) (br_f (by decide) (br_t (by decide) (br_f (by decide) ⟨rfl, hJ⟩)))))))
        · have := hB.2.1; have := hB.2.2.2.2.2.2.1; omega
        · have := hB.2.1; have := hB.2.2.2.2.2.2.1; omega
      · exact br_f (by decide) (br_f (by decide) (br_f (by decide) (br_f (by decide) (br_f (by decide) (br_f (by decide) (br_f (by decide) (br_f (by decide) (br_f (by decide) (br_t (by decide) (br_f (by decide) (br_f (by decide) (br_f (by decide) (br_f (by decide) (br_f (by decide) (br_f (by decide) (br_f (by decide) (br_t (by decide) (⟨rfl, hJ⟩))))))))))))))))))
      · exact br_f (by decide) (br_f (by decide) (br_f (by decide) (br_f (by decide) (br_f (by decide) (br_f (by decide) (br_f (by decide) (br_f (by decide) (br_f (by decide) (br_f (by decide) (br_t (by decide) (br_f (by decide) (br_f (by decide) (br_f (by decide) (br_f (by decide) (br_f (by decide) (br_f (by decide) (br_f (by decide) (br_f (by decide) (br_t (by decide) (⟨rfl, hJ⟩))))))))))))))))))))
      · exact br_f (by decide) (br_f (by decide) (br_f (by decide) (br_f (by decide) (br_f (by decide) (br_f (by decide) (br_f (by decide) (br_f (by decide) (br_f (by decide) (br_f (by decide) (br_f (by decide) (br_t (by decide) (br_f (by decide) (br_f (by decide) (br_f (by decide) (br_f (by decide) (br_f (by decide) (br_f (by decide) (br_f (by decide) (br_f (by decide) (br_f (by decide) (br_t (by decide) (⟨rfl, hJ⟩))))))))))))))))))))))
  · intro cap sl ol cnt dp ou ax ph h ms pc r E w og S R st f_opLds f_opSts f_opPop f_opRet f_opJmp f_opJnz f_opCall f_hiddenCall f_hiddenReturn f_hiddenJump f_capacity f_stackLimit f_outLimit f_phase f_count f_held f_mainSize f_sp f_hidden f_outs f_at f_pc f_status f_bestSaving f_bestFrom f_bestLen f_bestCount a_code a_origin a_regs a_cells a_linked a_log a_target a_plainLen a_tailLen a_order a_rank a_shared a_site a_inner a_next a_moved a_trail b_ops b_as b_bs b_cells b_links hB hE hP hD J hJ
    have hp := hP.1
    have hd12 := oz_Bsd hB
    have hS8 : S.length ≤ 8 := by
      obtain ⟨x, hR⟩ := hD.1
      have := (hP.2.2.2.2.2.1.2.1 _ _ _ _ hR).2.2.1
      have := hP.2.1
      omega
    have hc32 := hP.2.2.2.2.1.1.1
    have hhc := hP.2.2.2.2.1.1.2.1
    have es : nI (dp + S.length) - nI S.length = nI dp := by rw [pk_sub (by omega)]; exact congrArg nI (by omega)
    rcases pk_ix v1 (n := 10) (by omega) with a | a | ⟨j, hj, rfl⟩
    · refine br_t a (oz_Yshow (fun j hj z => ?_) ⟨rfl, hJ⟩)
      subst z
      exact absurd a (nI_pos (by omega))
    · have b : ¬ v1 < 0 := fun z => by
        have h1 := Int32.le_iff_toInt_le.mp a
        have h2 := Int32.lt_iff_toInt_lt.mp z
        rw [nI_toInt (by omega)] at h1
        rw [show (0 : Int32).toInt = 0 from by decide] at h2
        omega
      have c : (9 : Int32) < v1 := by
        have h1 := Int32.le_iff_toInt_le.mp a
        rw [nI_toInt (by omega)] at h1
        refine Int32.lt_iff_toInt_lt.mpr ?_
        rw [show (9 : Int32).toInt = 9 from by decide]
        omega
      refine br_f b (br_t c (oz_Yshow (fun j hj z => ?_) ⟨rfl, hJ⟩))
      subst z
      exact absurd a (nI_ge (by omega) (by omega))
    · have hcase : j = 0 ∨ j = 1 ∨ j = 2 ∨ j = 3 ∨ j = 4 ∨ j = 5 ∨ j = 6 ∨ j = 7 ∨ j = 8 ∨ j = 9 := by omega
      rcases hcase with c | c | c | c | c | c | c | c | c | c <;> subst c
      · exact br_f (by decide) (br_f (by decide) (br_t (by decide) (br_t (by decide) (⟨rfl, hJ⟩))))
      · exact br_f (by decide) (br_f (by decide) (br_f (by decide) (br_t (by decide) (br_f (by decide) (br_t (by decide) (⟨rfl, hJ⟩))))))
      · exact br_f (by decide) (br_f (by decide) (br_f (by decide) (br_f (by decide) (br_t (by decide) (br_f (by decide) (br_f (by decide) (br_t (by decide) (⟨rfl, hJ⟩))))))))
      · exact br_f (by decide) (br_f (by decide) (br_f (by decide) (br_f (by decide) (br_f (by decide) (br_t (by decide) (br_f (by decide) (br_f (by decide) (br_f (by decide) (br_t (by decide) (⟨rfl, hJ⟩))))))))))
      · exact br_f (by decide) (br_f (by decide) (br_f (by decide) (br_f (by decide) (br_f (by decide) (br_f (by decide) (br_t (by decide) (br_f (by decide) (br_f (by decide) (br_f (by decide) (br_f (by decide) (br_t (by decide) (⟨es.symm, hJ⟩))))))))))))
      · exact br_f (by decide) (br_f (by decide) (br_f (by decide) (br_f (by decide) (br_f (by decide) (br_f (by decide) (br_f (by decide) (br_t (by decide) (br_f (by decide) (br_f (by decide) (br_f (by decide) (br_f (by decide) (br_f (by decide) (br_t (by decide) (⟨rfl, hJ⟩))))))))))))))
      · refine br_f (by decide) (br_f (by decide) (br_f (by decide) (br_f (by decide) (br_f (by decide) (br_f (by decide) (br_f (by decide) (br_f (by decide) (br_t (by decide) (pk_le cnt h (fun z => ?_) (fun z => ?_))))))))))
        · have h1 : ph = 1 := by
            rcases hp with y | y
            · exact y
            · have := hP.2.2.2.2.2.2.2.1 y; omega
          subst h1
          exact br_f (by decide) (br_f (by decide) (br_f (by decide) (br_f (by decide) (br_f (by decide) (br_f (by decide) (br_t (by decide) (br_f (by decide) ⟨rfl, hJ⟩)))))))
        · have h1 : ph = 2 := by
            rcases hp with y | y
            · have := (hP.2.2.2.2.2.2.1 y).1.1; omega
            · exact y
          subst h1
          exact br_f (by decide) (br_f (by decide) (br_f (by decide) (br_f (by decide) (br_f (by decide) (br_f (by decide) (br_t (by decide) (br_t (by decide) ⟨rfl, hJ⟩)))))))
      · exact br_f (by decide) (br_f (by decide) (br_f (by decide) (br_f (by decide) (br_f (by decide) (br_f (by decide) (br_f (by decide) (br_f (by decide) (br_f (by decide) (br_t (by decide) (br_f (by decide) (br_f (by decide) (br_f (by decide) (br_f (by decide) (br_f (by decide) (br_f (by decide) (br_f (by decide) (br_t (by decide) (⟨rfl, hJ⟩))))))))))))))))))
      · exact br_f (by decide) (br_f (by decide) (br_f (by decide) (br_f (by decide) (br_f (by decide) (br_f (by decide) (br_f (by decide) (br_f (by decide) (br_f (by decide) (br_f (by decide) (br_t (by decide) (br_f (by decide) (br_f (by decide) (br_f (by decide) (br_f (by decide) (br_f (by decide) (br_f (by decide) (br_f (by decide) (br_f (by decide) (br_t (by decide) (⟨rfl, hJ⟩))))))))))))))))))))
      · exact br_f (by decide) (br_f (by decide) (br_f (by decide) (br_f (by decide) (br_f (by decide) (br_f (by decide) (br_f (by decide) (br_f (by decide) (br_f (by decide) (br_f (by decide) (br_f (by decide) (br_t (by decide) (br_f (by decide) (br_f (by decide) (br_f (by decide) (br_f (by decide) (br_f (by decide) (br_f (by decide) (br_f (by decide) (br_f (by decide) (br_f (by decide) (br_t (by decide) (⟨rfl, hJ⟩))))))))))))))))))))))
theorem i_vc_stack {k : Nat} {u : SX} {v : SY} (I : i_Rel k u v) (hk : k + 4 ≤ 2051) (v1 : Int32) : wpX_stack (fun r => wpY_stack (fun r' => r' = r ∧ i_Rel (k + 4) u v) v v1) u v1 := by
  have I' : i_Rel (k + 4) u v := I
  refine oz_el (P := fun u v => ∀ J : Prop, J → wpX_stack (fun r => wpY_stack (fun r' => r' = r ∧ J) v v1) u v1) ?_ ?_ I _ I'
  · intro cap sl ol cnt ou ax E st f_opLds f_opSts f_opPop f_opRet f_opJmp f_opJnz f_opCall f_hiddenCall f_hiddenReturn f_hiddenJump f_capacity f_stackLimit f_outLimit f_phase f_count f_held f_mainSize f_sp f_hidden f_outs f_at f_pc f_status f_bestSaving f_bestFrom f_bestLen f_bestCount a_code a_origin a_regs a_cells a_linked a_log a_target a_plainLen a_tailLen a_order a_rank a_shared a_site a_inner a_next a_moved a_trail y_capacity b_ops b_as b_bs b_cells b_links hB hE hc J hJ
    refine nm_r (e' := nI 0) (by decide) (br_c (fun a => br_t a ⟨rfl, hJ⟩) (fun a => ?_))
    have b : ¬ v1 < nI 0 := a
    exact br_f b (br_f a (br_f b ⟨rfl, hJ⟩))
  · intro cap sl ol cnt dp ou ax ph h ms pc r E w og S R st f_opLds f_opSts f_opPop f_opRet f_opJmp f_opJnz f_opCall f_hiddenCall f_hiddenReturn f_hiddenJump f_capacity f_stackLimit f_outLimit f_phase f_count f_held f_mainSize f_sp f_hidden f_outs f_at f_pc f_status f_bestSaving f_bestFrom f_bestLen f_bestCount a_code a_origin a_regs a_cells a_linked a_log a_target a_plainLen a_tailLen a_order a_rank a_shared a_site a_inner a_next a_moved a_trail b_ops b_as b_bs b_cells b_links hB hE hP hD J hJ
    have hd12 := oz_Bsd hB
    have hS8 : S.length ≤ 8 := by
      obtain ⟨x, hR⟩ := hD.1
      have := (hP.2.2.2.2.2.1.2.1 _ _ _ _ hR).2.2.1
      have := hP.2.1
      omega
    have hms := hP.2.2.2.2.1.1
    refine nm_r (e' := nI dp) (by rw [pk_sub (by omega)]; exact congrArg nI (by omega)) (br_c (fun a => br_t a ⟨rfl, hJ⟩) (fun a => br_c (fun b => ?_) (fun b => br_f a (br_f b ⟨rfl, hJ⟩))))
    obtain ⟨j, hj, rfl⟩ := nI_of a
    have b' := (nI_ltI hj (by omega)).mp b
    have e1 : nI dp - 1 - nI j = nI (dp - 1 - j) := by rw [oz_pr (by omega), pk_sub (by omega)]
    refine nm_r e1 ⟨pk_in (dp - 1 - j) 32 (by omega), ?_⟩
    rw [nI_clamp (show dp - 1 - j < 2 ^ 31 by omega)]
    have ec : b_cells (nI dp - 1 - nI j).toNatClampNeg = b_cells (dp - 1 - j) := by rw [e1, nI_clamp (by omega)]
    have el : b_links (nI dp - 1 - nI j).toNatClampNeg = b_links (dp - 1 - j) := by rw [e1, nI_clamp (by omega)]
    rcases hD.2.1 (dp - 1 - j) (by omega) with ⟨l1, l2, l3⟩ | ⟨l1, l2, L, l3, l4, l5⟩
    · refine br_t l2 ⟨pk_in (dp - 1 - j) 32 (by omega), br_f a (br_t b ⟨pk_in (dp - 1 - j) 12 (by omega) e1, nm_e ⟨pk_in (dp - 1 - j) 12 (by omega) e1, br_t (el.trans l1) ⟨?_, hJ⟩⟩⟩)⟩
      rw [ec, l3]
    · have n1 : ¬ a_linked (dp - 1 - j) = 0 := by rw [l2]; decide
      have n2 : ¬ b_links (nI dp - 1 - nI j).toNatClampNeg = 0 := by rw [el, l1]; decide
      rw [l4]
      refine br_f n1 ⟨pk_in (dp - 1 - j) 32 (by omega), pk_in L 40 (by omega), br_f a (br_t b ⟨pk_in (dp - 1 - j) 12 (by omega) e1, nm_e ⟨pk_in (dp - 1 - j) 12 (by omega) e1, br_f n2 ⟨?_, hJ⟩⟩⟩)⟩
      rw [ec, l5, nI_clamp (by omega), hP.2.2.2.1 L l3]
end
section
/-! owed: emit, seal, reopen, expand, cell -/
def oz_ma (o : Nat) : Nat := if o ≤ 9 ∨ o = 12 then 3 else 0
def oz_mb (o cap : Nat) : Nat := if o = 0 then 31 else if o < 5 then 3 else if o ≤ 6 then 7 else if 11 ≤ o ∧ o ≤ 13 then cap - 1 else 0
theorem oz_mbl {o cap : Nat} (h : cap ≤ 32) : oz_mb o cap ≤ 31 := by
  unfold oz_mb
  split
  · omega
  · split
    · omega
    · split
      · omega
      · split <;> omega
/-- a word's parts are within -/
def oz_ok (o cap : Nat) (x2 x3 : Int32) : Prop := ∃ a b, a ≤ oz_ma o ∧ b ≤ oz_mb o cap ∧ x2 = nI a ∧ x3 = nI b
section
variable {f_opLds f_opSts f_opPop f_opRet f_opJmp f_opJnz f_opCall f_hiddenCall f_hiddenReturn f_hiddenJump f_capacity f_stackLimit f_outLimit f_phase f_count f_held f_mainSize f_sp f_hidden f_outs f_at f_pc f_status f_bestSaving f_bestFrom f_bestLen f_bestCount : Int32} {a_code a_origin a_regs a_cells a_linked a_log a_target a_plainLen a_tailLen a_order a_rank a_shared a_site a_inner a_next a_moved a_trail : Nat → Int32} {y_capacity y_stackLimit y_outLimit y_phase y_count y_status y_at y_depth y_outs : Int32} {b_ops b_as b_bs b_regs b_cells b_links b_log : Nat → Int32}
variable {o cap sl ol cnt ou ax : Nat} {st x2 x3 : Int32}
theorem oz_XgB {post : Int32 → Prop} (ho : o ≤ 14) (hcap : 8 ≤ cap ∧ cap ≤ 32) (H : post (nI (oz_mb o cap))) : wpX_greatestB post (f_opLds, f_opSts, f_opPop, f_opRet, f_opJmp, f_opJnz, f_opCall, f_hiddenCall, f_hiddenReturn, f_hiddenJump, nI cap, f_stackLimit, f_outLimit, f_phase, f_count, f_held, f_mainSize, f_sp, f_hidden, f_outs, f_at, f_pc, f_status, f_bestSaving, f_bestFrom, f_bestLen, f_bestCount, a_code, a_origin, a_regs, a_cells, a_linked, a_log, a_target, a_plainLen, a_tailLen, a_order, a_rank, a_shared, a_site, a_inner, a_next, a_moved, a_trail) (nI o) := by
  unfold oz_mb at H
  refine pk_eq o 0 (fun a => ?_) (fun a => pk_le 5 o (fun b => pk_lt 6 o (fun c => pk_lt o 11 (fun d => ?_) (fun d => pk_lt 13 o (fun e => ?_) (fun e => ?_))) (fun c => ?_)) (fun b => ?_))
  · rw [if_pos a] at H; exact H
  · rw [if_neg a, if_neg (by omega), if_neg (by omega), if_neg (by omega)] at H; exact H
  · rw [if_neg a, if_neg (by omega), if_neg (by omega), if_neg (by omega)] at H; exact H
  · rw [if_neg a, if_neg (by omega), if_neg (by omega), if_pos (by omega)] at H
    rw [oz_pr (by omega)]
    exact H
  · rw [if_neg a, if_neg (by omega), if_pos (by omega)] at H; exact H
  · rw [if_neg a, if_pos (by omega)] at H; exact H
theorem oz_dec {P B4 G : Prop} {m b : Nat} (hm : m < 100) (hb : b < 100) (hbad : ¬ (∃ i j, i ≤ m ∧ j ≤ b ∧ x2 = nI i ∧ x3 = nI j) → B4) (hgood : ∀ i j, i ≤ m → j ≤ b → x2 = nI i → x3 = nI j → G)
    (hP : ((x2 < 0 → B4) ∧ (¬ x2 < 0 → (nI m < x2 → B4) ∧ (¬ nI m < x2 → (x3 < 0 → B4) ∧ (¬ x3 < 0 → (x3 ≤ nI b → G) ∧ (¬ x3 ≤ nI b → B4))))) → P) : P := by
  refine hP (br_c (fun a => hbad ?_) (fun a => br_c (fun c => hbad ?_) (fun c => br_c (fun d => hbad ?_) (fun d => br_c (fun e => ?_) (fun e => hbad ?_)))))
  · rintro ⟨i, j, _, _, rfl, _⟩
    exact absurd a (nI_pos (by omega))
  · rintro ⟨i, j, h1, _, rfl, _⟩
    exact absurd c (nI_nlt h1 (by omega))
  · rintro ⟨i, j, _, h2, _, rfl⟩
    exact absurd d (nI_pos (by omega))
  · obtain ⟨i, hi, rfl⟩ := nI_of a
    obtain ⟨j, hj, rfl⟩ := nI_of d
    rw [nI_ltI (by omega) hi] at c
    rw [nI_leI hj (by omega)] at e
    exact hgood i j (by omega) e rfl rfl
  · rintro ⟨i, j, _, h2, _, rfl⟩
    exact absurd (nI_le h2 (by omega)) e
theorem oz_wd {a b : Nat} : (nI o * 256 + nI a * 32) + nI b = nI (o * 256 + a * 32 + b) := by
  rw [show (256 : Int32) = nI 256 from rfl, show (32 : Int32) = nI 32 from rfl, pk_mul, pk_mul, nI_add, nI_add]
theorem oz_Xem {post : Int32 → SX → Prop} (ho : o ≤ 14) (hcap : 8 ≤ cap ∧ cap ≤ 32) (hcn : cnt ≤ cap) (hbad : ¬ oz_ok o cap x2 x3 → post 4 (f_opLds, f_opSts, f_opPop, f_opRet, f_opJmp, f_opJnz, f_opCall, f_hiddenCall, f_hiddenReturn, f_hiddenJump, nI cap, nI sl, nI ol, nI 0, nI cnt, nI cnt, f_mainSize, nI 0, nI 0, nI ou, nI ax, f_pc, st, f_bestSaving, f_bestFrom, f_bestLen, f_bestCount, a_code, a_origin, a_regs, a_cells, a_linked, a_log, a_target, a_plainLen, a_tailLen, a_order, a_rank, a_shared, a_site, a_inner, a_next, a_moved, a_trail))
    (hgood : ∀ a b, a ≤ oz_ma o → b ≤ oz_mb o cap → x2 = nI a → x3 = nI b → (cnt < cap → post 0 (f_opLds, f_opSts, f_opPop, f_opRet, f_opJmp, f_opJnz, f_opCall, f_hiddenCall, f_hiddenReturn, f_hiddenJump, nI cap, nI sl, nI ol, nI 0, nI (cnt + 1), nI (cnt + 1), f_mainSize, nI 0, nI 0, nI ou, nI ax, f_pc, st, f_bestSaving, f_bestFrom, f_bestLen, f_bestCount, upd a_code cnt (nI (o * 256 + a * 32 + b)), a_origin, a_regs, a_cells, a_linked, a_log, a_target, a_plainLen, a_tailLen, a_order, a_rank, a_shared, a_site, a_inner, a_next, a_moved, a_trail)) ∧ (¬ cnt < cap → post 5 (f_opLds, f_opSts, f_opPop, f_opRet, f_opJmp, f_opJnz, f_opCall, f_hiddenCall, f_hiddenReturn, f_hiddenJump, nI cap, nI sl, nI ol, nI 0, nI cnt, nI cnt, f_mainSize, nI 0, nI 0, nI ou, nI ax, f_pc, st, f_bestSaving, f_bestFrom, f_bestLen, f_bestCount, a_code, a_origin, a_regs, a_cells, a_linked, a_log, a_target, a_plainLen, a_tailLen, a_order, a_rank, a_shared, a_site, a_inner, a_next, a_moved, a_trail))) : wpX_emit post (f_opLds, f_opSts, f_opPop, f_opRet, f_opJmp, f_opJnz, f_opCall, f_hiddenCall, f_hiddenReturn, f_hiddenJump, nI cap, nI sl, nI ol, nI 0, nI cnt, nI cnt, f_mainSize, nI 0, nI 0, nI ou, nI ax, f_pc, st, f_bestSaving, f_bestFrom, f_bestLen, f_bestCount, a_code, a_origin, a_regs, a_cells, a_linked, a_log, a_target, a_plainLen, a_tailLen, a_order, a_rank, a_shared, a_site, a_inner, a_next, a_moved, a_trail) (nI o) x2 x3 := by
  have hmb := oz_mbl (o := o) hcap.2
  have k : wX_emit_38 post (nI o) x2 x3 (nI (oz_ma o)) f_opLds f_opSts f_opPop f_opRet f_opJmp f_opJnz f_opCall f_hiddenCall f_hiddenReturn f_hiddenJump (nI cap) (nI sl) (nI ol) (nI 0) (nI cnt) (nI cnt) f_mainSize (nI 0) (nI 0) (nI ou) (nI ax) f_pc st f_bestSaving f_bestFrom f_bestLen f_bestCount a_code a_origin a_regs a_cells a_linked a_log a_target a_plainLen a_tailLen a_order a_rank a_shared a_site a_inner a_next a_moved a_trail := by
    unfold wX_emit_38
    refine oz_XgB ho hcap ?_
    have hma : oz_ma o < 100 := by unfold oz_ma; split <;> omega
    refine oz_dec (m := oz_ma o) (b := oz_mb o cap) (x2 := x2) (x3 := x3) hma (by omega) hbad (G := (nI cnt < nI cap → _) ∧ (¬ nI cnt < nI cap → _)) (fun a b h1 h2 h3 h4 => ?_) id
    have g := hgood a b h1 h2 h3 h4
    refine pk_lt cnt cap (fun z => ⟨pk_in cnt 40 (by omega), nm_r (e' := upd a_code cnt (nI (o * 256 + a * 32 + b))) (by rw [oz_up (by omega), h3, h4, oz_wd]) (nm_r (nI_1 cnt) (g.1 z))⟩) (fun z => g.2 (by omega))
  refine pk_eq 0 0 (fun _ => pk_lt o 0 (fun z => absurd z (by omega)) (fun _ => pk_le o 14 (fun _ => pk_le o 9 (fun a => ?_) (fun a => pk_eq o 12 (fun b => ?_) (fun b => ?_))) (fun z => absurd z (by omega)))) (fun z => absurd rfl z)
  · have e : oz_ma o = 3 := by unfold oz_ma; rw [if_pos (by omega)]
    rw [e] at k
    exact k
  · have e : oz_ma o = 3 := by unfold oz_ma; rw [if_pos (by omega)]
    rw [e] at k
    exact k
  · have e : oz_ma o = 0 := by unfold oz_ma; rw [if_neg (by omega)]
    rw [e] at k
    exact k
theorem oz_Yem {post : Int32 → SY → Prop} (ho : o ≤ 14) (hcap : 8 ≤ cap ∧ cap ≤ 32) (hcn : cnt ≤ cap) (hbad : ¬ oz_ok o cap x2 x3 → post 4 (nI cap, nI sl, nI ol, nI 0, nI cnt, st, nI ax, nI 0, nI ou, b_ops, b_as, b_bs, a_regs, b_cells, b_links, a_log))
    (hgood : ∀ a b, a ≤ oz_ma o → b ≤ oz_mb o cap → x2 = nI a → x3 = nI b → (cnt < cap → post 0 (nI cap, nI sl, nI ol, nI 0, nI (cnt + 1), st, nI ax, nI 0, nI ou, upd b_ops cnt (nI o), upd b_as cnt (nI a), upd b_bs cnt (nI b), a_regs, b_cells, b_links, a_log)) ∧ (¬ cnt < cap → post 5 (nI cap, nI sl, nI ol, nI 0, nI cnt, st, nI ax, nI 0, nI ou, b_ops, b_as, b_bs, a_regs, b_cells, b_links, a_log))) : wpY_emit post (nI cap, nI sl, nI ol, nI 0, nI cnt, st, nI ax, nI 0, nI ou, b_ops, b_as, b_bs, a_regs, b_cells, b_links, a_log) (nI o) x2 x3 := by
  have hmb := oz_mbl (o := o) hcap.2
  have hma : oz_ma o < 100 := by unfold oz_ma; split <;> omega
  have k99 : wY_emit_99 post (nI o) x2 x3 (nI (oz_ma o)) (nI (oz_mb o cap)) (nI cap) (nI sl) (nI ol) (nI 0) (nI cnt) st (nI ax) (nI 0) (nI ou) b_ops b_as b_bs a_regs b_cells b_links a_log := by
    refine oz_dec (m := oz_ma o) (b := oz_mb o cap) (x2 := x2) (x3 := x3) hma (by omega) hbad (G := (nI cnt < nI cap → _) ∧ (¬ nI cnt < nI cap → _)) (fun a b h1 h2 h3 h4 => ?_) id
    have g := hgood a b h1 h2 h3 h4
    subst h3
    subst h4
    exact pk_lt cnt cap (fun z => ⟨pk_in cnt 32 (by omega), nm_r (oz_up (by omega)) ⟨pk_in cnt 32 (by omega), nm_r (oz_up (by omega)) ⟨pk_in cnt 32 (by omega), nm_r (oz_up (by omega)) (nm_r (nI_1 cnt) (g.1 z))⟩⟩⟩) (fun z => g.2 (by omega))
  have k79 : ∀ x, (¬ (11 ≤ o ∧ o ≤ 13) → x = nI (oz_mb o cap)) → wY_emit_79 post (nI o) x2 x3 (nI (oz_ma o)) x (nI cap) (nI sl) (nI ol) (nI 0) (nI cnt) st (nI ax) (nI 0) (nI ou) b_ops b_as b_bs a_regs b_cells b_links a_log := by
    intro x hx
    refine pk_lt o 11 (fun a => ?_) (fun a => pk_lt 13 o (fun b => ?_) (fun b => ?_))
    · rw [hx (by omega)]; exact k99
    · rw [hx (by omega)]; exact k99
    · refine nm_r (oz_pr (by omega)) ?_
      have e : oz_mb o cap = cap - 1 := by unfold oz_mb; rw [if_neg (by omega), if_neg (by omega), if_neg (by omega), if_pos (by omega)]
      rw [e] at k99
      exact k99
  have k64 : ∀ x, (¬ (11 ≤ o ∧ o ≤ 13) → ¬ (o = 5 ∨ o = 6) → x = nI (oz_mb o cap)) → wY_emit_64 post (nI o) x2 x3 (nI (oz_ma o)) x (nI cap) (nI sl) (nI ol) (nI 0) (nI cnt) st (nI ax) (nI 0) (nI ou) b_ops b_as b_bs a_regs b_cells b_links a_log := by
    intro x hx
    have k75 : (o = 5 ∨ o = 6) → wY_emit_75 post (nI o) x2 x3 (nI (oz_ma o)) (nI cap) (nI sl) (nI ol) (nI 0) (nI cnt) st (nI ax) (nI 0) (nI ou) b_ops b_as b_bs a_regs b_cells b_links a_log := by
      intro z
      refine k79 7 (fun _ => ?_)
      have e : oz_mb o cap = 7 := by unfold oz_mb; rw [if_neg (by omega), if_neg (by omega), if_pos (by omega)]
      rw [e]; rfl
    exact pk_eq o 5 (fun a => k75 (Or.inl a)) (fun a => pk_eq o 6 (fun b => k75 (Or.inr b)) (fun b => k79 x (fun c => hx c (by omega))))
  have k38 : wY_emit_38 post (nI o) x2 x3 (nI (oz_ma o)) (nI cap) (nI sl) (nI ol) (nI 0) (nI cnt) st (nI ax) (nI 0) (nI ou) b_ops b_as b_bs a_regs b_cells b_links a_log := by
    have k51 : ∀ x, (¬ (11 ≤ o ∧ o ≤ 13) → ¬ (o = 5 ∨ o = 6) → ¬ (1 ≤ o ∧ o ≤ 4) → x = nI (oz_mb o cap)) → wY_emit_51 post (nI o) x2 x3 (nI (oz_ma o)) x (nI cap) (nI sl) (nI ol) (nI 0) (nI cnt) st (nI ax) (nI 0) (nI ou) b_ops b_as b_bs a_regs b_cells b_links a_log := by
      intro x hx
      refine pk_lt o 1 (fun a => k64 x (fun c d => hx c d (by omega))) (fun a => pk_lt 4 o (fun b => k64 x (fun c d => hx c d (by omega))) (fun b => k64 3 (fun c d => ?_)))
      have e : oz_mb o cap = 3 := by unfold oz_mb; rw [if_neg (by omega), if_pos (by omega)]
      rw [e]; rfl
    refine pk_eq o 0 (fun a => k51 31 (fun _ _ _ => ?_)) (fun a => k51 0 (fun b c d => ?_))
    · have e : oz_mb o cap = 31 := by unfold oz_mb; rw [if_pos a]
      rw [e]; rfl
    · have e : oz_mb o cap = 0 := by unfold oz_mb; rw [if_neg a, if_neg (by omega), if_neg (by omega), if_neg b]
      rw [e]; rfl
  refine pk_eq 0 0 (fun _ => pk_lt o 0 (fun z => absurd z (by omega)) (fun _ => pk_le o 14 (fun _ => pk_le o 9 (fun a => ?_) (fun a => pk_eq o 12 (fun b => ?_) (fun b => ?_))) (fun z => absurd z (by omega)))) (fun z => absurd rfl z)
  · have e : oz_ma o = 3 := by unfold oz_ma; rw [if_pos (by omega)]
    rw [e] at k38
    exact k38
  · have e : oz_ma o = 3 := by unfold oz_ma; rw [if_pos (by omega)]
    rw [e] at k38
    exact k38
  · have e : oz_ma o = 0 := by unfold oz_ma; rw [if_neg (by omega)]
    rw [e] at k38
    exact k38
end
theorem oz_wf {o cap a b : Nat} (ho : o ≤ 14) (hcap : cap ≤ 32) (ha : a ≤ oz_ma o) (hb : b ≤ oz_mb o cap) : oz_Wf (o * 256 + a * 32 + b) ∧ (o * 256 + a * 32 + b) / 256 = o ∧ (o * 256 + a * 32 + b) / 32 % 8 = a ∧ (o * 256 + a * 32 + b) % 32 = b := by
  have hmb := oz_mbl (o := o) hcap
  have ha3 : a ≤ 3 := by
    unfold oz_ma at ha
    split at ha <;> omega
  have e1 : (o * 256 + a * 32 + b) / 256 = o := by omega
  have e2 : (o * 256 + a * 32 + b) / 32 % 8 = a := by omega
  have e3 : (o * 256 + a * 32 + b) % 32 = b := by omega
  refine ⟨?_, e1, e2, e3⟩
  unfold oz_Wf
  rw [e1, e2, e3]
  unfold oz_mb at hb
  refine ⟨ho, ha3, fun h1 h2 => ?_, fun h1 => ?_, fun h1 h2 => ?_⟩
  · rw [if_neg (by omega), if_pos (by omega)] at hb; exact hb
  · rw [if_neg (by omega), if_neg (by omega), if_pos (by omega)] at hb; exact hb
  · rw [if_neg (by omega), if_neg (by omega), if_neg (by omega), if_neg h2] at hb; omega
theorem i_vc_emit {k : Nat} {u : SX} {v : SY} (I : i_Rel k u v) (hk : k + 4 ≤ 2051) (v1 : Int32) (v2 : Int32) (v3 : Int32) : wpX_emit (fun r u' => wpY_emit (fun r' v' => r' = r ∧ i_Rel (k + 4) u' v') v v1 v2 v3) u v1 v2 v3 := by
  refine oz_el (P := fun u v => wpX_emit (fun r u' => wpY_emit (fun r' v' => r' = r ∧ i_Rel (k + 4) u' v') v v1 v2 v3) u v1 v2 v3) ?_ ?_ I
  · intro cap sl ol cnt ou ax E st f_opLds f_opSts f_opPop f_opRet f_opJmp f_opJnz f_opCall f_hiddenCall f_hiddenReturn f_hiddenJump f_capacity f_stackLimit f_outLimit f_phase f_count f_held f_mainSize f_sp f_hidden f_outs f_at f_pc f_status f_bestSaving f_bestFrom f_bestLen f_bestCount a_code a_origin a_regs a_cells a_linked a_log a_target a_plainLen a_tailLen a_order a_rank a_shared a_site a_inner a_next a_moved a_trail y_capacity b_ops b_as b_bs b_cells b_links hB hE hc
    have hcap : 8 ≤ cap ∧ cap ≤ 32 := ⟨hB.1, hB.2.1⟩
    have hcn : cnt ≤ cap := hB.2.2.2.2.2.2.1
    by_cases a : v1 < 0
    · exact pk_eq 0 0 (fun _ => br_t a (pk_eq 0 0 (fun _ => br_t a ⟨rfl, oz_in0 hB hE hc⟩) (fun z => absurd rfl z))) (fun z => absurd rfl z)
    · by_cases b : v1 ≤ 14
      · obtain ⟨o, ho, rfl⟩ := nI_of2 (n := 14) (by decide) a b
        refine oz_Xem ho hcap hcn (fun hb => ?_) (fun i j h1 h2 h3 h4 => ⟨fun z => ?_, fun z => ?_⟩)
        · exact oz_Yem ho hcap hcn (fun _ => ⟨rfl, oz_in0 hB hE hc⟩) (fun i j h1 h2 h3 h4 => absurd ⟨i, j, h1, h2, h3, h4⟩ hb)
        · refine oz_Yem ho hcap hcn (fun hb => absurd ⟨i, j, h1, h2, h3, h4⟩ hb) (fun i' j' g1 g2 g3 g4 => ⟨fun _ => ⟨rfl, ?_⟩, fun y => absurd z y⟩)
          subst h3
          subst h4
          have hma : oz_ma o ≤ 3 := by unfold oz_ma; split <;> omega
          have hmb := oz_mbl (o := o) hcap.2
          have e3 : i = i' := (nI_eq (by omega) (by omega)).mp g3
          have e4 : j = j' := (nI_eq (by omega) (by omega)).mp g4
          subst e3
          subst e4
          obtain ⟨wf, w1, w2, w3⟩ := oz_wf ho hcap.2 h1 h2
          refine oz_in0 (E := fun e => if e = cnt then o * 256 + i * 32 + j else E e) ⟨hB.1, hB.2.1, hB.2.2.1, hB.2.2.2.1, hB.2.2.2.2.1, hB.2.2.2.2.2.1, z, hB.2.2.2.2.2.2.2.1, hB.2.2.2.2.2.2.2.2⟩ (fun e he => ?_) (fun e he => ?_)
          · by_cases c : e = cnt
            · subst c
              rw [pk_us, pk_us, pk_us]
              dsimp only
              rw [if_pos rfl, w1, w2, w3]
              exact ⟨wf, rfl, rfl, rfl⟩
            · rw [pk_un c, pk_un c, pk_un c]
              dsimp only
              rw [if_neg c]
              exact hE e (by omega)
          · by_cases c : e = cnt
            · subst c
              rw [pk_us]
              dsimp only
              rw [if_pos rfl]
            · rw [pk_un c]
              dsimp only
              rw [if_neg c]
              exact hc e (by omega)
        · exact oz_Yem ho hcap hcn (fun hb => absurd ⟨i, j, h1, h2, h3, h4⟩ hb) (fun i' j' g1 g2 g3 g4 => ⟨fun y => absurd y z, fun _ => ⟨rfl, oz_in0 hB hE hc⟩⟩)
      · exact pk_eq 0 0 (fun _ => br_f a (br_f b (pk_eq 0 0 (fun _ => br_f a (br_f b ⟨rfl, oz_in0 hB hE hc⟩)) (fun z => absurd rfl z)))) (fun z => absurd rfl z)
  · intro cap sl ol cnt dp ou ax ph h ms pc r E w og S R st f_opLds f_opSts f_opPop f_opRet f_opJmp f_opJnz f_opCall f_hiddenCall f_hiddenReturn f_hiddenJump f_capacity f_stackLimit f_outLimit f_phase f_count f_held f_mainSize f_sp f_hidden f_outs f_at f_pc f_status f_bestSaving f_bestFrom f_bestLen f_bestCount a_code a_origin a_regs a_cells a_linked a_log a_target a_plainLen a_tailLen a_order a_rank a_shared a_site a_inner a_next a_moved a_trail b_ops b_as b_bs b_cells b_links hB hE hP hD
    have hp := hP.1
    exact pk_eq ph 0 (fun z => absurd z (by omega)) (fun _ => pk_eq ph 0 (fun z => absurd z (by omega)) (fun _ => ⟨rfl, oz_in1 hB hE hP hD⟩))
end
section
/-! owed: seal, reopen, expand, cell -/
/-- an address beyond the program -/
def oz_bd (cnt : Nat) (E : Nat → Nat) (e : Nat) : Prop := e < cnt ∧ 11 ≤ E e / 256 ∧ E e / 256 ≤ 13 ∧ cnt ≤ E e % 32
section
variable {f_opLds f_opSts f_opPop f_opRet f_opJmp f_opJnz f_opCall f_hiddenCall f_hiddenReturn f_hiddenJump f_capacity f_stackLimit f_outLimit f_phase f_count f_held f_mainSize f_sp f_hidden f_outs f_at f_pc f_status f_bestSaving f_bestFrom f_bestLen f_bestCount : Int32} {a_code a_origin a_regs a_cells a_linked a_log a_target a_plainLen a_tailLen a_order a_rank a_shared a_site a_inner a_next a_moved a_trail : Nat → Int32} {y_capacity y_stackLimit y_outLimit y_phase y_count y_status y_at y_depth y_outs : Int32} {b_ops b_as b_bs b_regs b_cells b_links b_log : Nat → Int32}
variable {cap sl ol cnt ou ax i : Nat} {E : Nat → Nat} {st : Int32}
theorem oz_Xs1 {post : Int32 → SX → Prop} {n : Nat} (h32 : cnt ≤ 32) (hi : i < cnt) (hw : oz_Wf (E i)) (ci : a_code i = nI (E i)) (Hb : oz_bd cnt E i → post 7 (f_opLds, f_opSts, f_opPop, f_opRet, f_opJmp, f_opJnz, f_opCall, f_hiddenCall, f_hiddenReturn, f_hiddenJump, nI cap, nI sl, nI ol, nI 0, nI cnt, nI cnt, f_mainSize, nI 0, nI 0, nI ou, nI ax, f_pc, st, f_bestSaving, f_bestFrom, f_bestLen, f_bestCount, a_code, a_origin, a_regs, a_cells, a_linked, a_log, a_target, a_plainLen, a_tailLen, a_order, a_rank, a_shared, a_site, a_inner, a_next, a_moved, a_trail)) (Hn : ¬ oz_bd cnt E i → wX_seal_11 post f_opLds f_opSts f_opPop f_opRet f_opJmp f_opJnz f_opCall f_hiddenCall f_hiddenReturn f_hiddenJump (nI cap) (nI sl) (nI ol) (nI 0) (nI cnt) (nI cnt) f_mainSize (nI 0) (nI 0) (nI ou) (nI ax) f_pc st f_bestSaving f_bestFrom f_bestLen f_bestCount a_code a_origin a_regs a_cells a_linked a_log a_target a_plainLen a_tailLen a_order a_rank a_shared a_site a_inner a_next a_moved a_trail n (nI (i + 1))) : wX_seal_11 post f_opLds f_opSts f_opPop f_opRet f_opJmp f_opJnz f_opCall f_hiddenCall f_hiddenReturn f_hiddenJump (nI cap) (nI sl) (nI ol) (nI 0) (nI cnt) (nI cnt) f_mainSize (nI 0) (nI 0) (nI ou) (nI ax) f_pc st f_bestSaving f_bestFrom f_bestLen f_bestCount a_code a_origin a_regs a_cells a_linked a_log a_target a_plainLen a_tailLen a_order a_rank a_shared a_site a_inner a_next a_moved a_trail (n + 1) (nI i) := by
  have w14 := hw.1
  refine pk_le cnt i (fun z => absurd z (by omega)) (fun _ => ⟨pk_in i 40 (by omega), nm_r (oz_rop (by omega) (by omega) ci) ?_⟩)
  refine oz_Xaims (by omega) (fun ha => br_f oz_10 ⟨pk_in i 40 (by omega), ?_⟩) (fun ha => br_t rfl (nm_r (nI_1 i) (Hn (fun z => ha (Or.inl ⟨z.2.1, z.2.2.1⟩)))))
  have h13 : 11 ≤ E i / 256 ∧ E i / 256 ≤ 13 := by rcases ha with z | z | z <;> omega
  exact pk_lt (E i % 32) cnt (fun z => nm_r (nI_1 i) (Hn (fun y => by have := y.2.2.2; omega))) (fun z => Hb ⟨hi, h13.1, h13.2, z⟩) (hx := oz_rb (by omega) (by omega) ci)
theorem oz_Ys1 {post : Int32 → SY → Prop} {n : Nat} (h32 : cnt ≤ 32) (hi : i < cnt) (hE : oz_Em cnt E b_ops b_as b_bs) (Hb : oz_bd cnt E i → post 7 (nI cap, nI sl, nI ol, nI 0, nI cnt, st, nI ax, nI 0, nI ou, b_ops, b_as, b_bs, a_regs, b_cells, b_links, a_log)) (Hn : ¬ oz_bd cnt E i → wY_seal_11 post (nI cap) (nI sl) (nI ol) (nI 0) (nI cnt) st (nI ax) (nI 0) (nI ou) b_ops b_as b_bs a_regs b_cells b_links a_log n (nI (i + 1))) : wY_seal_11 post (nI cap) (nI sl) (nI ol) (nI 0) (nI cnt) st (nI ax) (nI 0) (nI ou) b_ops b_as b_bs a_regs b_cells b_links a_log (n + 1) (nI i) := by
  obtain ⟨wf, eo, ea, eb⟩ := hE i hi
  have w14 := wf.1
  have er : b_ops (nI i).toNatClampNeg = nI (E i / 256) := oz_rd (by omega) eo
  have eb' : b_bs (nI i).toNatClampNeg = nI (E i % 32) := oz_rd (by omega) eb
  exact pk_le cnt i (fun z => absurd z (by omega)) (fun _ => ⟨pk_in i 32 (by omega), pk_lt (E i / 256) 11 (fun a => nm_r (nI_1 i) (Hn (fun z => by have := z.2.1; omega))) (fun a => ⟨pk_in i 32 (by omega), pk_lt 13 (E i / 256) (fun b => nm_r (nI_1 i) (Hn (fun z => by have := z.2.2.1; omega))) (fun b => ⟨pk_in i 32 (by omega), pk_lt (E i % 32) cnt (fun c => nm_r (nI_1 i) (Hn (fun z => by have := z.2.2.2; omega))) (fun c => Hb ⟨hi, a, b, c⟩) (hx := eb')⟩) (hy := er)⟩) (hx := er)⟩)
end
theorem i_vc_seal {k : Nat} {u : SX} {v : SY} (I : i_Rel k u v) (hk : k + 4 ≤ 2051) : wpX_seal (fun r u' => wpY_seal (fun r' v' => r' = r ∧ i_Rel (k + 4) u' v') v) u := by
  refine oz_el (P := fun u v => wpX_seal (fun r u' => wpY_seal (fun r' v' => r' = r ∧ i_Rel (k + 4) u' v') v) u) ?_ ?_ I
  · intro cap sl ol cnt ou ax E st f_opLds f_opSts f_opPop f_opRet f_opJmp f_opJnz f_opCall f_hiddenCall f_hiddenReturn f_hiddenJump f_capacity f_stackLimit f_outLimit f_phase f_count f_held f_mainSize f_sp f_hidden f_outs f_at f_pc f_status f_bestSaving f_bestFrom f_bestLen f_bestCount a_code a_origin a_regs a_cells a_linked a_log a_target a_plainLen a_tailLen a_order a_rank a_shared a_site a_inner a_next a_moved a_trail y_capacity b_ops b_as b_bs b_cells b_links hB hE hc
    have h32 : cnt ≤ 32 := by have := hB.2.1; have := hB.2.2.2.2.2.2.1; omega
    by_cases hb : ∃ e, oz_bd cnt E e
    · obtain ⟨j, hj, hl⟩ := pk_least (oz_bd cnt E) hb
      have kY : ∀ d i (post : Int32 → SY → Prop), i + d = j → post 7 (nI cap, nI sl, nI ol, nI 0, nI cnt, st, nI ax, nI 0, nI ou, b_ops, b_as, b_bs, a_regs, b_cells, b_links, a_log) → wY_seal_11 post (nI cap) (nI sl) (nI ol) (nI 0) (nI cnt) st (nI ax) (nI 0) (nI ou) b_ops b_as b_bs a_regs b_cells b_links a_log (d + 1) (nI i) := by
        intro d
        induction d with
        | zero =>
          intro i post hi H
          have e : i = j := by omega
          subst e
          exact oz_Ys1 h32 hj.1 hE (fun _ => H) (fun z => absurd hj z)
        | succ d ih =>
          intro i post hi H
          exact oz_Ys1 h32 (by have := hj.1; omega) hE (fun z => absurd z (hl i (by omega))) (fun _ => ih (i + 1) post (by omega) H)
      have kX : ∀ d i (post : Int32 → SX → Prop), i + d = j → post 7 (f_opLds, f_opSts, f_opPop, f_opRet, f_opJmp, f_opJnz, f_opCall, f_hiddenCall, f_hiddenReturn, f_hiddenJump, nI cap, nI sl, nI ol, nI 0, nI cnt, nI cnt, f_mainSize, nI 0, nI 0, nI ou, nI ax, f_pc, st, f_bestSaving, f_bestFrom, f_bestLen, f_bestCount, a_code, a_origin, a_regs, a_cells, a_linked, a_log, a_target, a_plainLen, a_tailLen, a_order, a_rank, a_shared, a_site, a_inner, a_next, a_moved, a_trail) → wX_seal_11 post f_opLds f_opSts f_opPop f_opRet f_opJmp f_opJnz f_opCall f_hiddenCall f_hiddenReturn f_hiddenJump (nI cap) (nI sl) (nI ol) (nI 0) (nI cnt) (nI cnt) f_mainSize (nI 0) (nI 0) (nI ou) (nI ax) f_pc st f_bestSaving f_bestFrom f_bestLen f_bestCount a_code a_origin a_regs a_cells a_linked a_log a_target a_plainLen a_tailLen a_order a_rank a_shared a_site a_inner a_next a_moved a_trail (d + 1) (nI i) := by
        intro d
        induction d with
        | zero =>
          intro i post hi H
          have e : i = j := by omega
          subst e
          exact oz_Xs1 h32 hj.1 (hE i hj.1).1 (hc i hj.1) (fun _ => H) (fun z => absurd hj z)
        | succ d ih =>
          intro i post hi H
          have hij : i < cnt := by have := hj.1; omega
          exact oz_Xs1 h32 hij (hE i hij).1 (hc i hij) (fun z => absurd z (hl i (by omega))) (fun _ => ih (i + 1) post (by omega) H)
      refine pk_eq 0 0 (fun _ => ⟨j + 1, kX j 0 _ (by omega) ?_⟩) (fun z => absurd rfl z)
      exact pk_eq 0 0 (fun _ => ⟨j + 1, kY j 0 _ (by omega) ⟨rfl, oz_in0 hB hE hc⟩⟩) (fun z => absurd rfl z)
    · have hg : ∀ e, ¬ oz_bd cnt E e := fun e z => hb ⟨e, z⟩
      have kY : ∀ d i (post : Int32 → SY → Prop), i + d = cnt → post 0 (nI cap, nI sl, nI ol, 1, nI cnt, 0, 0, 0, 0, b_ops, b_as, b_bs, oz_z4 a_regs, b_cells, b_links, a_log) → wY_seal_11 post (nI cap) (nI sl) (nI ol) (nI 0) (nI cnt) st (nI ax) (nI 0) (nI ou) b_ops b_as b_bs a_regs b_cells b_links a_log (d + 1) (nI i) := by
        intro d
        induction d with
        | zero =>
          intro i post hi H
          refine pk_le cnt i (fun _ => ?_) (fun z => absurd z (by omega))
          exact oz_Yent H
        | succ d ih =>
          intro i post hi H
          exact oz_Ys1 h32 (by omega) hE (fun z => absurd z (hg i)) (fun _ => ih (i + 1) post (by omega) H)
      have kX : ∀ d i (post : Int32 → SX → Prop), i + d = cnt → (∀ o, (∀ p, p ≤ cnt → o p = nI p) → post 0 (f_opLds, f_opSts, f_opPop, f_opRet, f_opJmp, f_opJnz, f_opCall, f_hiddenCall, f_hiddenReturn, f_hiddenJump, nI cap, nI sl, nI ol, 1, nI cnt, nI cnt, nI cnt, 0, 0, 0, 0, 0, 0, f_bestSaving, f_bestFrom, f_bestLen, f_bestCount, a_code, o, oz_z4 a_regs, a_cells, a_linked, a_log, a_target, a_plainLen, a_tailLen, a_order, a_rank, a_shared, a_site, a_inner, a_next, a_moved, a_trail)) → wX_seal_11 post f_opLds f_opSts f_opPop f_opRet f_opJmp f_opJnz f_opCall f_hiddenCall f_hiddenReturn f_hiddenJump (nI cap) (nI sl) (nI ol) (nI 0) (nI cnt) (nI cnt) f_mainSize (nI 0) (nI 0) (nI ou) (nI ax) f_pc st f_bestSaving f_bestFrom f_bestLen f_bestCount a_code a_origin a_regs a_cells a_linked a_log a_target a_plainLen a_tailLen a_order a_rank a_shared a_site a_inner a_next a_moved a_trail (d + 1) (nI i) := by
        intro d
        induction d with
        | zero =>
          intro i post hi H
          refine pk_le cnt i (fun _ => ?_) (fun z => absurd z (by omega))
          refine oz_Xlay h32 (fun o ho => ?_)
          exact oz_Xrew (H o ho)
        | succ d ih =>
          intro i post hi H
          have hij : i < cnt := by omega
          exact oz_Xs1 h32 hij (hE i hij).1 (hc i hij) (fun z => absurd z (hg i)) (fun _ => ih (i + 1) post (by omega) H)
      refine pk_eq 0 0 (fun _ => ⟨cnt + 1, kX cnt 0 _ (by omega) (fun o ho => ?_)⟩) (fun z => absurd rfl z)
      refine pk_eq 0 0 (fun _ => ⟨cnt + 1, kY cnt 0 _ (by omega) ⟨rfl, ?_⟩⟩) (fun z => absurd rfl z)
      have htg : ∀ e, e < cnt → 11 ≤ E e / 256 → E e / 256 ≤ 13 → E e % 32 < cnt := by
        intro e h1 h2 h3
        by_cases y : E e % 32 < cnt
        · exact y
        · exact absurd ⟨h1, h2, h3, by omega⟩ (hg e)
      obtain ⟨hS, hD⟩ := oz_plain h32 (fun e he => (hE e he).1.1) htg (fun e he => (hE e he).1.2.2.2.1)
      exact oz_inR (ph := 1) (h := cnt) (ms := cnt) (r := 0) (w := E) (og := fun p => p) hB hE ⟨Or.inl rfl, by omega, hc, ho, hS, hD, fun _ => ⟨⟨rfl, fun _ _ => rfl⟩, rfl, fun _ _ => rfl⟩, fun z => absurd z (by omega), htg⟩
  · intro cap sl ol cnt dp ou ax ph h ms pc r E w og S R st f_opLds f_opSts f_opPop f_opRet f_opJmp f_opJnz f_opCall f_hiddenCall f_hiddenReturn f_hiddenJump f_capacity f_stackLimit f_outLimit f_phase f_count f_held f_mainSize f_sp f_hidden f_outs f_at f_pc f_status f_bestSaving f_bestFrom f_bestLen f_bestCount a_code a_origin a_regs a_cells a_linked a_log a_target a_plainLen a_tailLen a_order a_rank a_shared a_site a_inner a_next a_moved a_trail b_ops b_as b_bs b_cells b_links hB hE hP hD
    have hp := hP.1
    exact pk_eq ph 0 (fun z => absurd z (by omega)) (fun _ => pk_eq ph 0 (fun z => absurd z (by omega)) (fun _ => ⟨rfl, oz_in1 hB hE hP hD⟩))
theorem i_vc_reopen {k : Nat} {u : SX} {v : SY} (I : i_Rel k u v) (hk : k + 4 ≤ 2051) : wpX_reopen (fun r u' => wpY_reopen (fun r' v' => r' = r ∧ i_Rel (k + 4) u' v') v) u := by
  refine oz_el (P := fun u v => wpX_reopen (fun r u' => wpY_reopen (fun r' v' => r' = r ∧ i_Rel (k + 4) u' v') v) u) ?_ ?_ I
  · intro cap sl ol cnt ou ax E st f_opLds f_opSts f_opPop f_opRet f_opJmp f_opJnz f_opCall f_hiddenCall f_hiddenReturn f_hiddenJump f_capacity f_stackLimit f_outLimit f_phase f_count f_held f_mainSize f_sp f_hidden f_outs f_at f_pc f_status f_bestSaving f_bestFrom f_bestLen f_bestCount a_code a_origin a_regs a_cells a_linked a_log a_target a_plainLen a_tailLen a_order a_rank a_shared a_site a_inner a_next a_moved a_trail y_capacity b_ops b_as b_bs b_cells b_links hB hE hc
    exact pk_eq 0 0 (fun _ => pk_eq 0 0 (fun _ => ⟨rfl, oz_in0 hB hE hc⟩) (fun z => absurd rfl z)) (fun z => absurd rfl z)
  · intro cap sl ol cnt dp ou ax ph h ms pc r E w og S R st f_opLds f_opSts f_opPop f_opRet f_opJmp f_opJnz f_opCall f_hiddenCall f_hiddenReturn f_hiddenJump f_capacity f_stackLimit f_outLimit f_phase f_count f_held f_mainSize f_sp f_hidden f_outs f_at f_pc f_status f_bestSaving f_bestFrom f_bestLen f_bestCount a_code a_origin a_regs a_cells a_linked a_log a_target a_plainLen a_tailLen a_order a_rank a_shared a_site a_inner a_next a_moved a_trail b_ops b_as b_bs b_cells b_links hB hE hP hD
    have hp := hP.1
    refine pk_eq ph 0 (fun z => absurd z (by omega)) (fun p0 => pk_eq ph 2 (fun p2 => ?_) (fun p2 => ?_))
    · refine oz_Xrest hP.2.1 ⟨hP.2.2.1, hP.2.2.2.1, hP.2.2.2.2.1, R, hP.2.2.2.2.2.1⟩ (fun c o nx tr hc' ho' => ?_)
      unfold wX_reopen_21
      refine oz_Xrew ?_
      refine pk_eq ph 0 (fun z => absurd z (by omega)) (fun _ => ?_)
      exact oz_Yent ⟨rfl, oz_inE hB hE hc'⟩
    · have h1 : ph = 1 := by omega
      obtain ⟨⟨e1, e2⟩, _⟩ := hP.2.2.2.2.2.2.1 h1
      have hc' : oz_Cd a_code cnt E := fun p hp' => by rw [hP.2.2.1 p (by omega), e2 p hp']
      subst e1
      unfold wX_reopen_21
      refine oz_Xrew ?_
      refine pk_eq ph 0 (fun z => absurd z (by omega)) (fun _ => ?_)
      exact oz_Yent ⟨rfl, oz_inE hB hE hc'⟩
theorem i_vc_expand {k : Nat} {u : SX} {v : SY} (I : i_Rel k u v) (hk : k + 4 ≤ 2051) : wpX_expand (fun r u' => wpY_expand (fun r' v' => r' = r ∧ i_Rel (k + 4) u' v') v) u := by
  refine oz_el (P := fun u v => wpX_expand (fun r u' => wpY_expand (fun r' v' => r' = r ∧ i_Rel (k + 4) u' v') v) u) ?_ ?_ I
  · intro cap sl ol cnt ou ax E st f_opLds f_opSts f_opPop f_opRet f_opJmp f_opJnz f_opCall f_hiddenCall f_hiddenReturn f_hiddenJump f_capacity f_stackLimit f_outLimit f_phase f_count f_held f_mainSize f_sp f_hidden f_outs f_at f_pc f_status f_bestSaving f_bestFrom f_bestLen f_bestCount a_code a_origin a_regs a_cells a_linked a_log a_target a_plainLen a_tailLen a_order a_rank a_shared a_site a_inner a_next a_moved a_trail y_capacity b_ops b_as b_bs b_cells b_links hB hE hc
    exact pk_eq 0 0 (fun _ => pk_eq 0 0 (fun _ => ⟨rfl, oz_in0 hB hE hc⟩) (fun z => absurd rfl z)) (fun z => absurd rfl z)
  · intro cap sl ol cnt dp ou ax ph h ms pc r E w og S R st f_opLds f_opSts f_opPop f_opRet f_opJmp f_opJnz f_opCall f_hiddenCall f_hiddenReturn f_hiddenJump f_capacity f_stackLimit f_outLimit f_phase f_count f_held f_mainSize f_sp f_hidden f_outs f_at f_pc f_status f_bestSaving f_bestFrom f_bestLen f_bestCount a_code a_origin a_regs a_cells a_linked a_log a_target a_plainLen a_tailLen a_order a_rank a_shared a_site a_inner a_next a_moved a_trail b_ops b_as b_bs b_cells b_links hB hE hP hD
    have hp := hP.1
    have h32 := hP.2.2.2.2.1.1.1
    refine pk_eq ph 0 (fun z => absurd z (by omega)) (fun p0 => pk_eq ph 1 (fun p1 => ?_) (fun p1 => ?_))
    · exact pk_eq ph 0 (fun z => absurd z (by omega)) (fun _ => pk_eq ph 1 (fun _ => ⟨rfl, oz_in1 hB hE hP hD⟩) (fun z => absurd p1 z))
    · refine oz_Xrest hP.2.1 ⟨hP.2.2.1, hP.2.2.2.1, hP.2.2.2.2.1, R, hP.2.2.2.2.2.1⟩ (fun c o nx tr hc' ho' => ?_)
      refine oz_Xrew ?_
      refine pk_eq ph 0 (fun z => absurd z (by omega)) (fun _ => pk_eq ph 1 (fun z => absurd z p1) (fun _ => ?_))
      have htg := hP.2.2.2.2.2.2.2.2
      obtain ⟨hS, hDy⟩ := oz_plain h32 (fun e he => (hE e he).1.1) htg (fun e he => (hE e he).1.2.2.2.1)
      exact oz_Yent ⟨rfl, oz_inR (ph := 1) (h := cnt) (ms := cnt) (r := 0) (w := E) (og := fun p => p) hB hE ⟨Or.inl rfl, by omega, hc', ho', hS, hDy, fun _ => ⟨⟨rfl, fun _ _ => rfl⟩, rfl, fun _ _ => rfl⟩, fun z => absurd z (by omega), htg⟩⟩
theorem oz_w3 {x : Nat} : (nI (x / 256) * 256 + nI (x / 32 % 8) * 32) + nI (x % 32) = nI x := by
  rw [oz_wd]
  exact congrArg nI (by omega)
section
variable {y_capacity y_stackLimit y_outLimit y_phase y_count y_status y_at y_depth y_outs : Int32} {b_ops b_as b_bs b_regs b_cells b_links b_log : Nat → Int32}
theorem oz_Ycell {post : Int32 → Prop} {cnt i : Nat} {E : Nat → Nat} (h32 : cnt ≤ 32) (hE : oz_Em cnt E b_ops b_as b_bs) (hi : i < cnt) (H : post (nI (E i))) : wpY_cell post (y_capacity, y_stackLimit, y_outLimit, y_phase, nI cnt, y_status, y_at, y_depth, y_outs, b_ops, b_as, b_bs, b_regs, b_cells, b_links, b_log) (nI i) := by
  obtain ⟨wf, eo, ea, eb⟩ := hE i hi
  refine pk_lt i 0 (fun z => absurd z (by omega)) (fun _ => pk_lt i cnt (fun _ => ⟨pk_in i 32 (by omega), pk_in i 32 (by omega), pk_in i 32 (by omega), ?_⟩) (fun z => absurd z (by omega)))
  rw [oz_rd (a := b_ops) (by omega) eo, oz_rd (a := b_as) (by omega) ea, oz_rd (a := b_bs) (by omega) eb, oz_w3]
  exact H
end
theorem i_vc_cell {k : Nat} {u : SX} {v : SY} (I : i_Rel k u v) (hk : k + 4 ≤ 2051) (v1 : Int32) : wpX_cell (fun r u' => wpY_cell (fun r' => r' = r ∧ i_Rel (k + 4) u' v) v v1) u v1 := by
  refine oz_el (P := fun u v => wpX_cell (fun r u' => wpY_cell (fun r' => r' = r ∧ i_Rel (k + 4) u' v) v v1) u v1) ?_ ?_ I
  · intro cap sl ol cnt ou ax E st f_opLds f_opSts f_opPop f_opRet f_opJmp f_opJnz f_opCall f_hiddenCall f_hiddenReturn f_hiddenJump f_capacity f_stackLimit f_outLimit f_phase f_count f_held f_mainSize f_sp f_hidden f_outs f_at f_pc f_status f_bestSaving f_bestFrom f_bestLen f_bestCount a_code a_origin a_regs a_cells a_linked a_log a_target a_plainLen a_tailLen a_order a_rank a_shared a_site a_inner a_next a_moved a_trail y_capacity b_ops b_as b_bs b_cells b_links hB hE hc
    have h32 : cnt ≤ 32 := by have := hB.2.1; have := hB.2.2.2.2.2.2.1; omega
    refine br_c (fun a => br_t a ⟨rfl, oz_in0 hB hE hc⟩) (fun a => br_c (fun b => ?_) (fun b => br_f a (br_f b ⟨rfl, oz_in0 hB hE hc⟩)))
    obtain ⟨j, hj, rfl⟩ := nI_of a
    have b' := (nI_ltI hj (by omega)).mp b
    refine pk_eq 0 2 (fun z => absurd z (by omega)) (fun _ => ⟨pk_in j 40 (by omega), ?_⟩)
    exact oz_Ycell h32 hE b' ⟨(oz_rd (by omega) (hc j b')).symm, oz_in0 hB hE hc⟩
  · intro cap sl ol cnt dp ou ax ph h ms pc r E w og S R st f_opLds f_opSts f_opPop f_opRet f_opJmp f_opJnz f_opCall f_hiddenCall f_hiddenReturn f_hiddenJump f_capacity f_stackLimit f_outLimit f_phase f_count f_held f_mainSize f_sp f_hidden f_outs f_at f_pc f_status f_bestSaving f_bestFrom f_bestLen f_bestCount a_code a_origin a_regs a_cells a_linked a_log a_target a_plainLen a_tailLen a_order a_rank a_shared a_site a_inner a_next a_moved a_trail b_ops b_as b_bs b_cells b_links hB hE hP hD
    have hp := hP.1
    have h32 := hP.2.2.2.2.1.1.1
    refine br_c (fun a => br_t a ⟨rfl, oz_in1 hB hE hP hD⟩) (fun a => br_c (fun b => ?_) (fun b => br_f a (br_f b ⟨rfl, oz_in1 hB hE hP hD⟩)))
    obtain ⟨j, hj, rfl⟩ := nI_of a
    have b' := (nI_ltI hj (by omega)).mp b
    refine pk_eq ph 2 (fun p2 => ?_) (fun p2 => ⟨pk_in j 40 (by omega), ?_⟩)
    · refine oz_Xunf hP.2.1 ⟨hP.2.2.1, hP.2.2.2.1, hP.2.2.2.2.1, R, hP.2.2.2.2.2.1⟩ (fun nx tr hn => ⟨pk_in j 40 (by omega), ?_⟩)
      exact oz_Ycell h32 hE b' ⟨(oz_rd (by omega) (hn j b')).symm, oz_in1 hB hE hP hD⟩
    · have h1 : ph = 1 := by omega
      obtain ⟨⟨e1, e2⟩, _⟩ := hP.2.2.2.2.2.2.1 h1
      have hcj : a_code j = nI (E j) := by rw [hP.2.2.1 j (by omega), e2 j b']
      exact oz_Ycell h32 hE b' ⟨(oz_rd (by omega) hcj).symm, oz_in1 hB hE hP hD⟩
end
section
/-! owed: best, occurrences -/
theorem oz_21 : ¬ (nI 2 : Int32) = 1 := by decide
theorem i_vc_best {k : Nat} {u : SX} {v : SY} (I : i_Rel k u v) (hk : k + 4 ≤ 2051) (v1 : Int32) : wpX_best (fun r u' => wpY_best (fun r' => r' = r ∧ i_Rel (k + 4) u' v) v v1) u v1 := by
  refine oz_el (P := fun u v => wpX_best (fun r u' => wpY_best (fun r' => r' = r ∧ i_Rel (k + 4) u' v) v v1) u v1) ?_ ?_ I
  · intro cap sl ol cnt ou ax E st f_opLds f_opSts f_opPop f_opRet f_opJmp f_opJnz f_opCall f_hiddenCall f_hiddenReturn f_hiddenJump f_capacity f_stackLimit f_outLimit f_phase f_count f_held f_mainSize f_sp f_hidden f_outs f_at f_pc f_status f_bestSaving f_bestFrom f_bestLen f_bestCount a_code a_origin a_regs a_cells a_linked a_log a_target a_plainLen a_tailLen a_order a_rank a_shared a_site a_inner a_next a_moved a_trail y_capacity b_ops b_as b_bs b_cells b_links hB hE hc
    exact pk_eq 0 1 (fun z => absurd z (by omega)) (fun _ => pk_eq 0 1 (fun z => absurd z (by omega)) (fun _ => ⟨rfl, oz_in0 hB hE hc⟩))
  · intro cap sl ol cnt dp ou ax ph h ms pc r E w og S R st f_opLds f_opSts f_opPop f_opRet f_opJmp f_opJnz f_opCall f_hiddenCall f_hiddenReturn f_hiddenJump f_capacity f_stackLimit f_outLimit f_phase f_count f_held f_mainSize f_sp f_hidden f_outs f_at f_pc f_status f_bestSaving f_bestFrom f_bestLen f_bestCount a_code a_origin a_regs a_cells a_linked a_log a_target a_plainLen a_tailLen a_order a_rank a_shared a_site a_inner a_next a_moved a_trail b_ops b_as b_bs b_cells b_links hB hE hP hD
    have hp := hP.1
    have h32 := hP.2.2.2.2.1.1.1
    refine pk_eq ph 1 (fun p1 => br_c (fun a => ?_) (fun a => br_c (fun b => ?_) (fun b => ?_))) (fun p1 => ?_)
    · exact pk_eq ph 1 (fun _ => br_t a ⟨rfl, oz_in1 hB hE hP hD⟩) (fun z => absurd p1 z)
    · have hP1 := hP.2.2.2.2.2.2.1 p1
      obtain ⟨⟨e1, e2⟩, e3, e4⟩ := hP1
      have hc' : oz_Cd a_code cnt E := fun p hp' => by rw [hP.2.2.1 p (by omega), e2 p hp']
      have hop := oz_EmOp hE
      have e1' := e1.symm
      subst e1'
      refine oz_Xsearch hc' hop h32 (fun t a2 b2 o r2 s st2 ii sv fr ln ct hI hBst => ?_)
      have J : i_Rel (k + 4) (f_opLds, f_opSts, f_opPop, f_opRet, f_opJmp, f_opJnz, f_opCall, f_hiddenCall, f_hiddenReturn, f_hiddenJump, nI cap, nI sl, nI ol, nI ph, nI cnt, nI cnt, nI ms, nI (dp + S.length), nI S.length, nI ou, nI ax, nI pc, st, sv, fr, ln, ct, a_code, a_origin, a_regs, a_cells, a_linked, a_log, t, a2, b2, o, r2, s, st2, ii, a_next, a_moved, a_trail) (nI cap, nI sl, nI ol, nI ph, nI cnt, st, nI ax, nI dp, nI ou, b_ops, b_as, b_bs, a_regs, b_cells, b_links, a_log) := oz_in1 hB hE hP hD
      have Y : ∀ post : Int32 → Prop, ((v1 = 0 → post sv) ∧ (¬ v1 = 0 → (v1 = 1 → post fr) ∧ (¬ v1 = 1 → (v1 = 2 → post ln) ∧ (¬ v1 = 2 → post ct)))) → wpY_best post (nI cap, nI sl, nI ol, nI ph, nI cnt, st, nI ax, nI dp, nI ou, b_ops, b_as, b_bs, a_regs, b_cells, b_links, a_log) v1 := by
        intro post H
        refine pk_eq ph 1 (fun _ => br_f a (br_t b ?_)) (fun z => absurd p1 z)
        refine oz_Ybest hE h32 (fun sv' fr' ln' ct' hB' => ?_)
        obtain ⟨q1, q2, q3, q4⟩ := oz_Bst_u hBst hB'
        subst q1 q2 q3 q4
        exact H
      exact br_c (fun z => Y _ (br_t z ⟨rfl, J⟩)) (fun z => br_c (fun z1 => Y _ (br_f z (br_t z1 ⟨rfl, J⟩))) (fun z1 => br_c (fun z2 => Y _ (br_f z (br_f z1 (br_t z2 ⟨rfl, J⟩)))) (fun z2 => Y _ (br_f z (br_f z1 (br_f z2 ⟨rfl, J⟩))))))
    · exact pk_eq ph 1 (fun _ => br_f a (br_f b ⟨rfl, oz_in1 hB hE hP hD⟩)) (fun z => absurd p1 z)
    · exact pk_eq ph 1 (fun z => absurd z p1) (fun _ => ⟨rfl, oz_in1 hB hE hP hD⟩)
section
variable {f_opLds f_opSts f_opPop f_opRet f_opJmp f_opJnz f_opCall f_hiddenCall f_hiddenReturn f_hiddenJump f_capacity f_stackLimit f_outLimit f_phase f_count f_held f_mainSize f_sp f_hidden f_outs f_at f_pc f_status f_bestSaving f_bestFrom f_bestLen f_bestCount : Int32} {a_code a_origin a_regs a_cells a_linked a_log a_target a_plainLen a_tailLen a_order a_rank a_shared a_site a_inner a_next a_moved a_trail : Nat → Int32} {y_capacity y_stackLimit y_outLimit y_phase y_count y_status y_at y_depth y_outs : Int32} {b_ops b_as b_bs b_regs b_cells b_links b_log : Nat → Int32}
variable {post : Int32 → Prop} {x y : Int32}
theorem oz_XelN (h : x < 0 ∨ y < 2) (H : post 0) : wpX_eligible post (f_opLds, f_opSts, f_opPop, f_opRet, f_opJmp, f_opJnz, f_opCall, f_hiddenCall, f_hiddenReturn, f_hiddenJump, f_capacity, f_stackLimit, f_outLimit, f_phase, f_count, f_held, f_mainSize, f_sp, f_hidden, f_outs, f_at, f_pc, f_status, f_bestSaving, f_bestFrom, f_bestLen, f_bestCount, a_code, a_origin, a_regs, a_cells, a_linked, a_log, a_target, a_plainLen, a_tailLen, a_order, a_rank, a_shared, a_site, a_inner, a_next, a_moved, a_trail) x y := by
  refine br_c (fun _ => H) (fun a => br_c (fun _ => H) (fun b => br_c (fun _ => H) (fun c => ?_)))
  rcases h with h | h
  · exact absurd h a
  · exact absurd h c
theorem oz_YelN (h : x < 0 ∨ y < 2) (H : post 0) : wpY_eligible post (y_capacity, y_stackLimit, y_outLimit, y_phase, y_count, y_status, y_at, y_depth, y_outs, b_ops, b_as, b_bs, b_regs, b_cells, b_links, b_log) x y := by
  refine br_c (fun _ => H) (fun a => br_c (fun _ => H) (fun b => ?_))
  rcases h with h | h
  · exact absurd h b
  · exact absurd h a
end
theorem i_vc_occurrences {k : Nat} {u : SX} {v : SY} (I : i_Rel k u v) (hk : k + 4 ≤ 2051) (v1 : Int32) (v2 : Int32) : wpX_occurrences (fun r u' => wpY_occurrences (fun r' => r' = r ∧ i_Rel (k + 4) u' v) v v1 v2) u v1 v2 := by
  refine oz_el (P := fun u v => wpX_occurrences (fun r u' => wpY_occurrences (fun r' => r' = r ∧ i_Rel (k + 4) u' v) v v1 v2) u v1 v2) ?_ ?_ I
  · intro cap sl ol cnt ou ax E st f_opLds f_opSts f_opPop f_opRet f_opJmp f_opJnz f_opCall f_hiddenCall f_hiddenReturn f_hiddenJump f_capacity f_stackLimit f_outLimit f_phase f_count f_held f_mainSize f_sp f_hidden f_outs f_at f_pc f_status f_bestSaving f_bestFrom f_bestLen f_bestCount a_code a_origin a_regs a_cells a_linked a_log a_target a_plainLen a_tailLen a_order a_rank a_shared a_site a_inner a_next a_moved a_trail y_capacity b_ops b_as b_bs b_cells b_links hB hE hc
    exact pk_eq 0 1 (fun z => absurd z (by omega)) (fun _ => pk_eq 0 1 (fun z => absurd z (by omega)) (fun _ => ⟨rfl, oz_in0 hB hE hc⟩))
  · intro cap sl ol cnt dp ou ax ph h ms pc r E w og S R st f_opLds f_opSts f_opPop f_opRet f_opJmp f_opJnz f_opCall f_hiddenCall f_hiddenReturn f_hiddenJump f_capacity f_stackLimit f_outLimit f_phase f_count f_held f_mainSize f_sp f_hidden f_outs f_at f_pc f_status f_bestSaving f_bestFrom f_bestLen f_bestCount a_code a_origin a_regs a_cells a_linked a_log a_target a_plainLen a_tailLen a_order a_rank a_shared a_site a_inner a_next a_moved a_trail b_ops b_as b_bs b_cells b_links hB hE hP hD
    have hp := hP.1
    have h32 := hP.2.2.2.2.1.1.1
    refine pk_eq ph 1 (fun p1 => ?_) (fun p1 => pk_eq ph 1 (fun z => absurd z p1) (fun _ => ⟨rfl, oz_in1 hB hE hP hD⟩))
    obtain ⟨⟨e1, e2⟩, e3, e4⟩ := hP.2.2.2.2.2.2.1 p1
    have hc' : oz_Cd a_code cnt E := fun p hp' => by rw [hP.2.2.1 p (by omega), e2 p hp']
    have hop := oz_EmOp hE
    have e1' := e1.symm
    subst e1'
    refine oz_Xindex hc' hop h32 (fun t a2 b2 o r2 s hI => ?_)
    have hYp : ∀ post : Int32 → Prop, wpY_eligible (fun r_2 => (((r_2 = 0 → (post 0)) ∧ (¬ r_2 = 0 → (wpY_countOf (fun r_20 => (post r_20)) (nI cap, nI sl, nI ol, nI ph, nI cnt, st, nI ax, nI dp, nI ou, b_ops, b_as, b_bs, a_regs, b_cells, b_links, a_log) v1 v2))))) (nI cap, nI sl, nI ol, nI ph, nI cnt, st, nI ax, nI dp, nI ou, b_ops, b_as, b_bs, a_regs, b_cells, b_links, a_log) v1 v2 → wpY_occurrences post (nI cap, nI sl, nI ol, nI ph, nI cnt, st, nI ax, nI dp, nI ou, b_ops, b_as, b_bs, a_regs, b_cells, b_links, a_log) v1 v2 := fun post H => pk_eq ph 1 (fun _ => H) (fun z => absurd p1 z)
    by_cases hneg : v1 < 0 ∨ v2 < 2
    · refine oz_XelN hneg (br_t rfl (hYp _ ?_))
      exact oz_YelN hneg (br_t rfl ⟨rfl, oz_in1 hB hE hP hD⟩)
    · obtain ⟨s1, hs1, rfl⟩ := nI_of (x := v1) (fun z => hneg (Or.inl z))
      have h2 : ¬ v2 < 0 := fun z => hneg (Or.inr (Int32.lt_trans z (by decide)))
      obtain ⟨len, hlen, rfl⟩ := nI_of h2
      refine oz_Xel hI h32 hs1 hlen (fun he => br_f oz_10 ?_) (fun he => br_t rfl (hYp _ ?_))
      · have := he.1
        have := he.2.1
        refine oz_Xcnt hop hI h32 (by omega) (by omega) (by omega) (fun st2 ii hS => hYp _ ?_)
        refine oz_Yel hE h32 hs1 hlen (fun _ => br_f oz_10 ?_) (fun z => absurd he z)
        exact oz_Ycnt hE h32 he ⟨rfl, oz_in1 hB hE hP hD⟩
      · exact oz_Yel hE h32 hs1 hlen (fun z => absurd z he) (fun _ => br_t rfl ⟨rfl, oz_in1 hB hE hP hD⟩)
end
section
/-! owed: outline -/
theorem i_vc_outline {k : Nat} {u : SX} {v : SY} (I : i_Rel k u v) (hk : k + 4 ≤ 2051) : wpX_outline (fun r u' => wpY_outline (fun r' v' => r' = r ∧ i_Rel (k + 4) u' v') v) u := by
  refine oz_el (P := fun u v => wpX_outline (fun r u' => wpY_outline (fun r' v' => r' = r ∧ i_Rel (k + 4) u' v') v) u) ?_ ?_ I
  · intro cap sl ol cnt ou ax E st f_opLds f_opSts f_opPop f_opRet f_opJmp f_opJnz f_opCall f_hiddenCall f_hiddenReturn f_hiddenJump f_capacity f_stackLimit f_outLimit f_phase f_count f_held f_mainSize f_sp f_hidden f_outs f_at f_pc f_status f_bestSaving f_bestFrom f_bestLen f_bestCount a_code a_origin a_regs a_cells a_linked a_log a_target a_plainLen a_tailLen a_order a_rank a_shared a_site a_inner a_next a_moved a_trail y_capacity b_ops b_as b_bs b_cells b_links hB hE hc
    exact pk_eq 0 0 (fun _ => pk_eq 0 0 (fun _ => ⟨rfl, oz_in0 hB hE hc⟩) (fun z => absurd rfl z)) (fun z => absurd rfl z)
  · intro cap sl ol cnt dp ou ax ph h ms pc r E w og S R st f_opLds f_opSts f_opPop f_opRet f_opJmp f_opJnz f_opCall f_hiddenCall f_hiddenReturn f_hiddenJump f_capacity f_stackLimit f_outLimit f_phase f_count f_held f_mainSize f_sp f_hidden f_outs f_at f_pc f_status f_bestSaving f_bestFrom f_bestLen f_bestCount a_code a_origin a_regs a_cells a_linked a_log a_target a_plainLen a_tailLen a_order a_rank a_shared a_site a_inner a_next a_moved a_trail b_ops b_as b_bs b_cells b_links hB hE hP hD
    have hp := hP.1
    have h32 := hP.2.2.2.2.1.1.1
    refine pk_eq ph 0 (fun z => absurd z (by omega)) (fun p0 => pk_eq ph 2 (fun p2 => ?_) (fun p2 => ?_))
    · exact pk_eq ph 0 (fun z => absurd z p0) (fun _ => pk_eq ph 2 (fun _ => ⟨rfl, oz_in1 hB hE hP hD⟩) (fun z => absurd p2 z))
    · have p1 : ph = 1 := by omega
      obtain ⟨⟨e1, e2⟩, e3, e4⟩ := hP.2.2.2.2.2.2.1 p1
      have hc' : oz_Cd a_code cnt E := fun p hp' => by rw [hP.2.2.1 p (by omega), e2 p hp']
      have ho' : ∀ p, p ≤ cnt → a_origin p = nI p := fun p hp' => by rw [hP.2.2.2.1 p (by omega), e4 p hp']
      have hop := oz_EmOp hE
      have htg := hP.2.2.2.2.2.2.2.2
      obtain ⟨hS0, hD0⟩ := oz_plain h32 (fun e he => (hE e he).1.1) htg (fun e he => (hE e he).1.2.2.2.1)
      have hH0 : oz_Hf a_code a_origin E cnt cnt (fun p => p) E cnt 0 := ⟨hc', ho', hS0, _, hD0⟩
      have e1' := e1.symm
      subst e1'
      have e3' := e3.symm
      subst e3'
      have hYp : ∀ (post : Int32 → SY → Prop), wpY_bestOf (fun r_3 => (((r_3 = 0 → (post 8 (nI cap, nI sl, nI ol, nI ph, nI cnt, st, nI ax, nI dp, nI ou, b_ops, b_as, b_bs, a_regs, b_cells, b_links, a_log))) ∧ (¬ r_3 = 0 → (wpY_enter (fun r_21 u => match u with | (y_capacity, y_stackLimit, y_outLimit, y_phase, y_count, y_status, y_at, y_depth, y_outs, b_ops, b_as, b_bs, b_regs, b_cells, b_links, b_log) => (post r_21 (y_capacity, y_stackLimit, y_outLimit, y_phase, y_count, y_status, y_at, y_depth, y_outs, b_ops, b_as, b_bs, b_regs, b_cells, b_links, b_log))) (nI cap, nI sl, nI ol, nI ph, nI cnt, st, nI ax, nI dp, nI ou, b_ops, b_as, b_bs, a_regs, b_cells, b_links, a_log) 2))))) (nI cap, nI sl, nI ol, nI ph, nI cnt, st, nI ax, nI dp, nI ou, b_ops, b_as, b_bs, a_regs, b_cells, b_links, a_log) 0 → wpY_outline post (nI cap, nI sl, nI ol, nI ph, nI cnt, st, nI ax, nI dp, nI ou, b_ops, b_as, b_bs, a_regs, b_cells, b_links, a_log) := fun post H => pk_eq ph 0 (fun z => absurd z p0) (fun _ => pk_eq ph 2 (fun z => absurd z p2) (fun _ => H))
      refine oz_Xsearch hc' hop h32 (fun t a2 b2 o r2 s st2 ii sv fr ln ct hI hBst => ?_)
      refine br_c (fun hs => ?_) (fun hs => ?_)
      · have hs' : ¬ sv ≤ 0 := Int32.not_le.mpr hs
        refine ⟨9, oz_ol36 (fun w' og' h' ms' rr sv' fr' ln' ct' c o' t' a' b' od' rk' sh' st' ii' nx' mo' hH' hr' hlt => ?_) 8 0 E (fun p => p) _ _ sv fr ln ct a_code a_origin t a2 b2 o r2 s st2 ii a_next a_moved (by omega) hH0 (Or.inr ⟨rfl, hs'⟩) hI hBst⟩
        refine hYp _ (oz_Ybest hE h32 (fun sv2 fr2 ln2 ct2 hB2 => ?_))
        obtain ⟨q1, _, _, _⟩ := oz_Bst_u hBst hB2
        subst q1
        have hs0 : ¬ sv = 0 := fun z => by rw [z] at hs'; exact hs' (Int32.le_refl 0)
        refine br_t rfl (br_f hs0 ?_)
        obtain ⟨g1, g2, g3, R', g4⟩ := hH'
        exact oz_Yent ⟨rfl, oz_inR (ph := 2) (h := h') (ms := ms') (r := rr) (w := w') (og := og') hB hE ⟨Or.inr rfl, hr', g1, g2, g3, g4, fun z => absurd z (by omega), fun _ => hlt, htg⟩⟩
      · refine hYp _ (oz_Ybest hE h32 (fun sv2 fr2 ln2 ct2 hB2 => ?_))
        obtain ⟨q1, _, _, _⟩ := oz_Bst_u hBst hB2
        subst q1
        have hs0 : sv = 0 := by
          rcases hBst with ⟨z, _⟩ | ⟨F, L, _, _, z, z1, _⟩
          · exact z
          · exfalso
            refine hs (Int32.lt_iff_toInt_lt.mpr ?_)
            rw [show (0 : Int32).toInt = 0 from by decide]
            omega
        exact br_t rfl (br_t hs0 ⟨rfl, oz_in1 hB hE hP hD⟩)
end
