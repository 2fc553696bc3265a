section
/-! pure rows to paste: stores, nI and lN arithmetic, masks, shifts, narrowing, branches by naturals (pk_le, pk_lt, pk_eq), loops (lp1 .. lp16: the measure of the state; rp1 ..: recursion), negatives. Take what you need -/
theorem pk_us {f : Nat → Int32} {k : Nat} {x : Int32} : upd f k x k = x := if_pos rfl
theorem pk_un {f : Nat → Int32} {k j : Nat} {x : Int32} (h : j ≠ k) : upd f k x j = f j := if_neg h
theorem pk_uLs {f : Nat → Int64} {k : Nat} {x : Int64} : vp_updL f k x k = x := if_pos rfl
theorem pk_uLn {f : Nat → Int64} {k j : Nat} {x : Int64} (h : j ≠ k) : vp_updL f k x j = f j := if_neg h
theorem pk_sub {a b : Nat} (h : b ≤ a) : nI a - nI b = nI (a - b) := by
  obtain ⟨c, rfl⟩ : ∃ c, a = c + b := ⟨a - b, by omega⟩
  rw [← nI_add, Int32.add_sub_cancel, Nat.add_sub_cancel]
theorem pk_m1 (n : Nat) : nI (n + 1) + (-1) = nI n := by
  rw [← nI_1, Int32.add_assoc, show (1 : Int32) + (-1) = 0 from rfl, Int32.add_zero]
theorem pk_mul (a b : Nat) : nI a * nI b = nI (a * b) := (Int32.ofNat_mul a b).symm
theorem pk_div {a d : Nat} (ha : a < 2 ^ 31) (h0 : 0 < d) (hd : d < 2 ^ 31) : nI a / nI d = nI (a / d) := by
  apply Int32.toInt_inj.mp
  rw [lg_idiv_nonneg (by rw [nI_toInt ha]; omega) (by rw [nI_toInt hd]; omega), nI_toInt ha, nI_toInt hd, nI_toInt (Nat.lt_of_le_of_lt (Nat.div_le_self a d) ha)]
  first | rfl | exact (Int.natCast_ediv _ _).symm
theorem pk_rem {a d : Nat} (ha : a < 2 ^ 31) (h0 : 0 < d) (hd : d < 2 ^ 31) : nI a - nI a / nI d * nI d = nI (a % d) := by
  rw [pk_div ha h0 hd, pk_mul, pk_sub (Nat.div_mul_le_self a d)]
  exact congrArg nI (by have := Nat.div_add_mod' a d; omega)
theorem pk_sub_toInt {a b : Nat} (ha : a < 2 ^ 30) (hb : b < 2 ^ 30) : (nI a - nI b).toInt = (a : Int) - b := by
  rw [Int32.toInt_sub, nI_toInt (by omega), nI_toInt (by omega)]
  exact Int.bmod_eq_of_le (by omega) (by omega)
theorem pk_sneg {a b : Nat} (hb : b < 2 ^ 30) (h : a < b) : nI a - nI b < 0 := by
  rw [Int32.lt_iff_toInt_lt, pk_sub_toInt (by omega) hb, show (0 : Int32).toInt = 0 from by decide]
  omega
theorem pk_ix (x : Int32) {n : Nat} (hn : n < 2 ^ 31) : x < 0 ∨ nI n ≤ x ∨ ∃ j : Nat, j < n ∧ x = nI j := by
  by_cases h : x < 0
  · exact Or.inl h
  · obtain ⟨j, hj, rfl⟩ := nI_of h
    by_cases h2 : j < n
    · exact Or.inr (Or.inr ⟨j, h2, rfl⟩)
    · exact Or.inr (Or.inl (nI_le (by omega) hj))
theorem pk_le {x y : Int32} {A B : Prop} (a b : Nat) (f : a ≤ b → A) (g : b < a → B) (hx : x = nI a := by rfl) (hy : y = nI b := by rfl) (ha : a < 2 ^ 31 := by omega) (hb : b < 2 ^ 31 := by omega) : (x ≤ y → A) ∧ (¬ x ≤ y → B) := by
  subst hx hy
  rw [nI_leI ha hb]
  exact ⟨f, fun z => g (by omega)⟩
theorem pk_lt {x y : Int32} {A B : Prop} (a b : Nat) (f : a < b → A) (g : b ≤ a → B) (hx : x = nI a := by rfl) (hy : y = nI b := by rfl) (ha : a < 2 ^ 31 := by omega) (hb : b < 2 ^ 31 := by omega) : (x < y → A) ∧ (¬ x < y → B) := by
  subst hx hy
  rw [nI_ltI ha hb]
  exact ⟨f, fun z => g (by omega)⟩
theorem pk_eq {x y : Int32} {A B : Prop} (a b : Nat) (f : a = b → A) (g : a ≠ b → B) (hx : x = nI a := by rfl) (hy : y = nI b := by rfl) (ha : a < 2 ^ 31 := by omega) (hb : b < 2 ^ 31 := by omega) : (x = y → A) ∧ (¬ x = y → B) := by
  subst hx hy
  rw [nI_eq ha hb]
  exact ⟨f, g⟩
theorem pk_in {x : Int32} (n N : Nat) (h : n < N) (hx : x = nI n := by rfl) (hN : N < 2 ^ 31 := by omega) : vp_in x N := by
  subst hx
  exact vp_in_nI h hN
theorem pk_cl {x : Int32} (n : Nat) (hx : x = nI n := by rfl) (h : n < 2 ^ 31 := by omega) : x.toNatClampNeg = n := by
  subst hx
  exact nI_clamp h
theorem pk_tn {n : Nat} (h : n < 2 ^ 32) : (nI n).toBitVec.toNat = n := Nat.mod_eq_of_lt h
theorem pk_and (x : Int32) {m : Int32} (k : Nat) (hm : m.toBitVec.toNat = 2 ^ k - 1) : x &&& m = nI (x.toBitVec.toNat % 2 ^ k) := by
  apply Int32.toBitVec_inj.mp
  apply BitVec.eq_of_toNat_eq
  rw [Int32.toBitVec_and, BitVec.toNat_and, hm, Nat.and_two_pow_sub_one_eq_mod]
  show _ = (BitVec.ofNat 32 _).toNat
  rw [BitVec.toNat_ofNat]
  exact (Nat.mod_eq_of_lt (Nat.lt_of_le_of_lt (Nat.mod_le _ _) x.toBitVec.isLt)).symm
theorem pk_andN {n : Nat} (h : n < 2 ^ 32) {m : Int32} (k : Nat) (hm : m.toBitVec.toNat = 2 ^ k - 1) : nI n &&& m = nI (n % 2 ^ k) := by
  rw [pk_and _ k hm, pk_tn h]
theorem pk_andE (x : Int32) {m : Int32} (k : Nat) (hm : m.toBitVec.toNat = 2 ^ k - 1) : ∃ j : Nat, j < 2 ^ k ∧ x &&& m = nI j := ⟨_, Nat.mod_lt _ (Nat.two_pow_pos k), pk_and x k hm⟩
theorem pk_andIn (x : Int32) {m : Int32} (k : Nat) (hm : m.toBitVec.toNat = 2 ^ k - 1) (hk : k ≤ 30) : vp_in (x &&& m) (2 ^ k) := by
  obtain ⟨j, hj, e⟩ := pk_andE x k hm
  rw [e]
  exact vp_in_nI hj (Nat.lt_of_le_of_lt (Nat.pow_le_pow_right (by decide) hk) (by decide))
theorem pk_shl (a s : Int32) (k : Nat) (hs : (s.toBitVec.smod 32).toNat = k) : (a <<< s).toBitVec.toNat = a.toBitVec.toNat * 2 ^ k % 2 ^ 32 := by
  show (a.toBitVec <<< (s.toBitVec.smod 32).toNat).toNat = _
  rw [hs, BitVec.toNat_shiftLeft, Nat.shiftLeft_eq]
theorem pk_shlN {n : Nat} (s : Int32) (k : Nat) (hs : (s.toBitVec.smod 32).toNat = k) (h : n * 2 ^ k < 2 ^ 32) : nI n <<< s = nI (n * 2 ^ k) := by
  apply Int32.toBitVec_inj.mp
  apply BitVec.eq_of_toNat_eq
  have hn : n < 2 ^ 32 := Nat.lt_of_le_of_lt (Nat.le_mul_of_pos_right n (Nat.two_pow_pos k)) h
  rw [pk_shl _ _ k hs, pk_tn hn, pk_tn h, Nat.mod_eq_of_lt h]
theorem pk_shr (a s : Int32) (k : Nat) (hs : (s.toBitVec.smod 32).toNat = k) : (a >>> s).toInt = a.toInt >>> k := by
  show (a.toBitVec.sshiftRight (s.toBitVec.smod 32).toNat).toInt = _
  rw [hs, BitVec.toInt_sshiftRight]
  rfl
theorem pk_shrN {n : Nat} (h : n < 2 ^ 31) (s : Int32) (k : Nat) (hs : (s.toBitVec.smod 32).toNat = k) : nI n >>> s = nI (n / 2 ^ k) := by
  apply Int32.toInt_inj.mp
  have h2 : n / 2 ^ k ≤ n := Nat.div_le_self _ _
  rw [pk_shr _ _ k hs, nI_toInt h, nI_toInt (by omega), Int.shiftRight_eq_div_pow]
  rfl
theorem pk_ushr (x s : Int32) (k : Nat) (hs : ((s.toUInt32 &&& Int32.toUInt32 31).toBitVec % 32).toNat = k) : (x.toUInt32 >>> (s.toUInt32 &&& Int32.toUInt32 31)).toInt32.toBitVec.toNat = x.toBitVec.toNat / 2 ^ k := by
  have e : (x.toUInt32 >>> (s.toUInt32 &&& Int32.toUInt32 31)).toInt32.toBitVec = x.toBitVec >>> k := by
    rw [← hs]
    exact UInt32.toBitVec_shiftRight _ _
  rw [e, BitVec.toNat_ushiftRight, Nat.shiftRight_eq_div_pow]
theorem pk_ushrN {n : Nat} (hn : n < 2 ^ 32) (s : Int32) (k : Nat) (hs : ((s.toUInt32 &&& Int32.toUInt32 31).toBitVec % 32).toNat = k) : ((nI n).toUInt32 >>> (s.toUInt32 &&& Int32.toUInt32 31)).toInt32 = nI (n / 2 ^ k) := by
  apply Int32.toBitVec_inj.mp
  apply BitVec.eq_of_toNat_eq
  rw [pk_ushr _ s k hs, pk_tn hn, pk_tn (Nat.lt_of_le_of_lt (Nat.div_le_self _ _) hn)]
theorem pk_nb (z : Int32) : narrow .byte (.int z.toInt8.toInt32) = .int z.toInt8.toInt32 := congrArg Value.int (by simp)
theorem pk_ns (z : Int32) : narrow .short (.int z.toInt16.toInt32) = .int z.toInt16.toInt32 := congrArg Value.int (by simp)
theorem pk_fb (r : Int32) : fits .byte (.int r.toInt8.toInt32) = true := by
  have ⟨a, b⟩ := lg_i2b_range r
  have h1 : (-128 : Int32).toInt = -128 := by decide
  have h2 : (127 : Int32).toInt = 127 := by decide
  simp only [fits, Bool.and_eq_true, decide_eq_true_eq, Int32.le_iff_toInt_le, h1, h2]
  omega
theorem pk_fs (r : Int32) : fits .short (.int r.toInt16.toInt32) = true := by
  have ⟨a, b⟩ := lg_i2s_range r
  have h1 : (-32768 : Int32).toInt = -32768 := by decide
  have h2 : (32767 : Int32).toInt = 32767 := by decide
  simp only [fits, Bool.and_eq_true, decide_eq_true_eq, Int32.le_iff_toInt_le, h1, h2]
  omega
theorem pk_charN {q : Nat} (hq : q < 65536) : narrow .char (.int (nI q)) = .int (nI q) ∧ fits .char (.int (nI q)) = true := by
  constructor
  · have e : (nI q).toUInt32.toUInt16.toUInt32.toInt32 = nI q := by
      apply Int32.toBitVec_inj.mp
      apply BitVec.eq_of_toNat_eq
      show (nI q).toUInt32.toUInt16.toUInt32.toNat = q % 2 ^ 32
      rw [UInt16.toNat_toUInt32, UInt32.toNat_toUInt16, show (nI q).toUInt32.toNat = q % 2 ^ 32 from rfl]
      omega
    exact congrArg Value.int e
  · have a : (0 : Int32) ≤ nI q := nI_pos' (by omega)
    have b : nI q ≤ 65535 := nI_le (b := 65535) (by omega) (by decide)
    show (decide ((0 : Int32) ≤ nI q) && decide (nI q ≤ 65535)) = true
    rw [decide_eq_true a, decide_eq_true b]
    rfl
theorem pk_char (x : Int32) : (x.toUInt32 % 65536).toInt32 = nI (x.toBitVec.toNat % 65536) := by
  apply Int32.toBitVec_inj.mp
  apply BitVec.eq_of_toNat_eq
  rw [pk_tn (by omega)]
  show (x.toUInt32 % 65536).toNat = _
  rw [UInt32.toNat_mod]
  rfl
theorem pk_nc (x : Int32) : narrow .char (.int (x.toUInt32 % 65536).toInt32) = .int (x.toUInt32 % 65536).toInt32 := by
  rw [pk_char]
  exact (pk_charN (Nat.mod_lt _ (by decide))).1
theorem pk_fc (x : Int32) : fits .char (.int (x.toUInt32 % 65536).toInt32) = true := by
  rw [pk_char]
  exact (pk_charN (Nat.mod_lt _ (by decide))).2
theorem pk_vb (z : Int32) : vp_nar .byte z.toInt8.toInt32 = z.toInt8.toInt32 := by rw [vp_nar_byte]; simp
theorem pk_vs (z : Int32) : vp_nar .short z.toInt16.toInt32 = z.toInt16.toInt32 := by rw [vp_nar_short]; simp
theorem pk_vc (z : Int32) : vp_nar .char (z.toUInt32 % 65536).toInt32 = (z.toUInt32 % 65536).toInt32 := Value.int.inj (pk_nc z)
theorem pk_lT {n : Nat} (h : n < 2 ^ 63) : (lN n).toInt = (n : Int) := lg_ofNat_toInt h
theorem pk_lLT {a b : Nat} (ha : a < 2 ^ 63) (hb : b < 2 ^ 63) : lN a < lN b ↔ a < b := by
  rw [Int64.lt_iff_toInt_lt, pk_lT ha, pk_lT hb]; omega
theorem pk_lLE {a b : Nat} (ha : a < 2 ^ 63) (hb : b < 2 ^ 63) : lN a ≤ lN b ↔ a ≤ b := by
  rw [Int64.le_iff_toInt_le, pk_lT ha, pk_lT hb]; omega
theorem pk_lEQ {a b : Nat} (ha : a < 2 ^ 63) (hb : b < 2 ^ 63) : lN a = lN b ↔ a = b := by
  rw [← Int64.toInt_inj, pk_lT ha, pk_lT hb]; omega
theorem pk_lOf {x : Int64} (h : ¬ x < 0) : ∃ k : Nat, k < 2 ^ 63 ∧ x = lN k := by
  rw [Int64.lt_iff_toInt_lt] at h
  have h0 : (0 : Int64).toInt = 0 := by decide
  have hx := Int64.toInt_lt x
  refine ⟨x.toInt.toNat, by omega, Int64.toInt_inj.mp ?_⟩
  rw [pk_lT (by omega)]
  omega
theorem pk_lDiv {a b : Nat} (ha : a < 2 ^ 63) (h0 : 0 < b) (hb : b < 2 ^ 63) : lN a / lN b = lN (a / b) := by
  apply Int64.toInt_inj.mp
  rw [lg_ldiv_nonneg (by rw [pk_lT ha]; omega) (by rw [pk_lT hb]; omega), pk_lT ha, pk_lT hb, pk_lT (Nat.lt_of_le_of_lt (Nat.div_le_self a b) ha)]
  rfl
theorem pk_lRem {a b : Nat} (ha : a < 2 ^ 63) (h0 : 0 < b) (hb : b < 2 ^ 63) : lN a - lN a / lN b * lN b = lN (a % b) := by
  rw [pk_lDiv ha h0 hb, lN_mul, lN_sub (Nat.div_mul_le_self a b)]
  exact congrArg lN (by have := Nat.div_add_mod' a b; omega)
theorem pk_loop {σ : Type} (W : Nat → Nat → σ → Prop) (I : Nat → σ → Prop) (e i0 : Nat) (s : σ) (hi : i0 ≤ e) (h0 : I i0 s) (hx : ∀ n s, I e s → W (n + 1) e s)
    (hs : ∀ n i s, i < e → I i s → (∀ s', I (i + 1) s' → W n (i + 1) s') → W (n + 1) i s) : ∃ n, W n i0 s :=
  ⟨e + 1, loop_i W I e hx hs (e + 1) i0 s hi (by omega) h0⟩
theorem pk_loopD {σ : Type} (W : Nat → Nat → σ → Prop) (I : Nat → σ → Prop) (hx : ∀ n s, I 0 s → W (n + 1) 0 s)
    (hs : ∀ n i s, I (i + 1) s → (∀ s', I i s' → W n i s') → W (n + 1) (i + 1) s) : ∀ (e : Nat) (s : σ), I e s → W (e + 1) e s := by
  intro e
  induction e with
  | zero => exact fun s h => hx 0 s h
  | succ e ih => exact fun s h => hs (e + 1) e s h (fun s' h' => ih s' h')
theorem lp1 {A1 : Type} (W : Nat → A1 → Prop) (I : A1 → Prop) (μ : A1 → Nat) (hs : ∀ (n : Nat) (a1 : A1), I a1 → (∀ (b1 : A1), I b1 → μ b1 < μ a1 → W n b1) → W (n + 1) a1) (a1 : A1) (h : I a1) : ∃ n, W n a1 :=
  loop_m (σ := A1) (fun n s => W n s) (fun s => I s) (fun s => μ s) (fun n s hI hk => hs n s hI (fun b1 h9 hm => hk b1 h9 hm)) a1 h
theorem lp2 {A1 A2 : Type} (W : Nat → A1 → A2 → Prop) (I : A1 → A2 → Prop) (μ : A1 → A2 → Nat) (hs : ∀ (n : Nat) (a1 : A1) (a2 : A2), I a1 a2 → (∀ (b1 : A1) (b2 : A2), I b1 b2 → μ b1 b2 < μ a1 a2 → W n b1 b2) → W (n + 1) a1 a2) (a1 : A1) (a2 : A2) (h : I a1 a2) : ∃ n, W n a1 a2 :=
  loop_m (σ := A1 × A2) (fun n s => W n s.1 s.2) (fun s => I s.1 s.2) (fun s => μ s.1 s.2) (fun n s hI hk => hs n s.1 s.2 hI (fun b1 b2 h9 hm => hk (b1, b2) h9 hm)) (a1, a2) h
theorem lp3 {A1 A2 A3 : Type} (W : Nat → A1 → A2 → A3 → Prop) (I : A1 → A2 → A3 → Prop) (μ : A1 → A2 → A3 → Nat) (hs : ∀ (n : Nat) (a1 : A1) (a2 : A2) (a3 : A3), I a1 a2 a3 → (∀ (b1 : A1) (b2 : A2) (b3 : A3), I b1 b2 b3 → μ b1 b2 b3 < μ a1 a2 a3 → W n b1 b2 b3) → W (n + 1) a1 a2 a3) (a1 : A1) (a2 : A2) (a3 : A3) (h : I a1 a2 a3) : ∃ n, W n a1 a2 a3 :=
  loop_m (σ := A1 × A2 × A3) (fun n s => W n s.1 s.2.1 s.2.2) (fun s => I s.1 s.2.1 s.2.2) (fun s => μ s.1 s.2.1 s.2.2) (fun n s hI hk => hs n s.1 s.2.1 s.2.2 hI (fun b1 b2 b3 h9 hm => hk (b1, b2, b3) h9 hm)) (a1, a2, a3) h
theorem lp4 {A1 A2 A3 A4 : Type} (W : Nat → A1 → A2 → A3 → A4 → Prop) (I : A1 → A2 → A3 → A4 → Prop) (μ : A1 → A2 → A3 → A4 → Nat) (hs : ∀ (n : Nat) (a1 : A1) (a2 : A2) (a3 : A3) (a4 : A4), I a1 a2 a3 a4 → (∀ (b1 : A1) (b2 : A2) (b3 : A3) (b4 : A4), I b1 b2 b3 b4 → μ b1 b2 b3 b4 < μ a1 a2 a3 a4 → W n b1 b2 b3 b4) → W (n + 1) a1 a2 a3 a4) (a1 : A1) (a2 : A2) (a3 : A3) (a4 : A4) (h : I a1 a2 a3 a4) : ∃ n, W n a1 a2 a3 a4 :=
  loop_m (σ := A1 × A2 × A3 × A4) (fun n s => W n s.1 s.2.1 s.2.2.1 s.2.2.2) (fun s => I s.1 s.2.1 s.2.2.1 s.2.2.2) (fun s => μ s.1 s.2.1 s.2.2.1 s.2.2.2) (fun n s hI hk => hs n s.1 s.2.1 s.2.2.1 s.2.2.2 hI (fun b1 b2 b3 b4 h9 hm => hk (b1, b2, b3, b4) h9 hm)) (a1, a2, a3, a4) h
theorem lp5 {A1 A2 A3 A4 A5 : Type} (W : Nat → A1 → A2 → A3 → A4 → A5 → Prop) (I : A1 → A2 → A3 → A4 → A5 → Prop) (μ : A1 → A2 → A3 → A4 → A5 → Nat) (hs : ∀ (n : Nat) (a1 : A1) (a2 : A2) (a3 : A3) (a4 : A4) (a5 : A5), I a1 a2 a3 a4 a5 → (∀ (b1 : A1) (b2 : A2) (b3 : A3) (b4 : A4) (b5 : A5), I b1 b2 b3 b4 b5 → μ b1 b2 b3 b4 b5 < μ a1 a2 a3 a4 a5 → W n b1 b2 b3 b4 b5) → W (n + 1) a1 a2 a3 a4 a5) (a1 : A1) (a2 : A2) (a3 : A3) (a4 : A4) (a5 : A5) (h : I a1 a2 a3 a4 a5) : ∃ n, W n a1 a2 a3 a4 a5 :=
  loop_m (σ := A1 × A2 × A3 × A4 × A5) (fun n s => W n s.1 s.2.1 s.2.2.1 s.2.2.2.1 s.2.2.2.2) (fun s => I s.1 s.2.1 s.2.2.1 s.2.2.2.1 s.2.2.2.2) (fun s => μ s.1 s.2.1 s.2.2.1 s.2.2.2.1 s.2.2.2.2) (fun n s hI hk => hs n s.1 s.2.1 s.2.2.1 s.2.2.2.1 s.2.2.2.2 hI (fun b1 b2 b3 b4 b5 h9 hm => hk (b1, b2, b3, b4, b5) h9 hm)) (a1, a2, a3, a4, a5) h
theorem lp6 {A1 A2 A3 A4 A5 A6 : Type} (W : Nat → A1 → A2 → A3 → A4 → A5 → A6 → Prop) (I : A1 → A2 → A3 → A4 → A5 → A6 → Prop) (μ : A1 → A2 → A3 → A4 → A5 → A6 → Nat) (hs : ∀ (n : Nat) (a1 : A1) (a2 : A2) (a3 : A3) (a4 : A4) (a5 : A5) (a6 : A6), I a1 a2 a3 a4 a5 a6 → (∀ (b1 : A1) (b2 : A2) (b3 : A3) (b4 : A4) (b5 : A5) (b6 : A6), I b1 b2 b3 b4 b5 b6 → μ b1 b2 b3 b4 b5 b6 < μ a1 a2 a3 a4 a5 a6 → W n b1 b2 b3 b4 b5 b6) → W (n + 1) a1 a2 a3 a4 a5 a6) (a1 : A1) (a2 : A2) (a3 : A3) (a4 : A4) (a5 : A5) (a6 : A6) (h : I a1 a2 a3 a4 a5 a6) : ∃ n, W n a1 a2 a3 a4 a5 a6 :=
  loop_m (σ := A1 × A2 × A3 × A4 × A5 × A6) (fun n s => W n s.1 s.2.1 s.2.2.1 s.2.2.2.1 s.2.2.2.2.1 s.2.2.2.2.2) (fun s => I s.1 s.2.1 s.2.2.1 s.2.2.2.1 s.2.2.2.2.1 s.2.2.2.2.2) (fun s => μ s.1 s.2.1 s.2.2.1 s.2.2.2.1 s.2.2.2.2.1 s.2.2.2.2.2) (fun n s hI hk => hs n s.1 s.2.1 s.2.2.1 s.2.2.2.1 s.2.2.2.2.1 s.2.2.2.2.2 hI (fun b1 b2 b3 b4 b5 b6 h9 hm => hk (b1, b2, b3, b4, b5, b6) h9 hm)) (a1, a2, a3, a4, a5, a6) h
theorem lp7 {A1 A2 A3 A4 A5 A6 A7 : Type} (W : Nat → A1 → A2 → A3 → A4 → A5 → A6 → A7 → Prop) (I : A1 → A2 → A3 → A4 → A5 → A6 → A7 → Prop) (μ : A1 → A2 → A3 → A4 → A5 → A6 → A7 → Nat) (hs : ∀ (n : Nat) (a1 : A1) (a2 : A2) (a3 : A3) (a4 : A4) (a5 : A5) (a6 : A6) (a7 : A7), I a1 a2 a3 a4 a5 a6 a7 → (∀ (b1 : A1) (b2 : A2) (b3 : A3) (b4 : A4) (b5 : A5) (b6 : A6) (b7 : A7), I b1 b2 b3 b4 b5 b6 b7 → μ b1 b2 b3 b4 b5 b6 b7 < μ a1 a2 a3 a4 a5 a6 a7 → W n b1 b2 b3 b4 b5 b6 b7) → W (n + 1) a1 a2 a3 a4 a5 a6 a7) (a1 : A1) (a2 : A2) (a3 : A3) (a4 : A4) (a5 : A5) (a6 : A6) (a7 : A7) (h : I a1 a2 a3 a4 a5 a6 a7) : ∃ n, W n a1 a2 a3 a4 a5 a6 a7 :=
  loop_m (σ := A1 × A2 × A3 × A4 × A5 × A6 × A7) (fun n s => W n s.1 s.2.1 s.2.2.1 s.2.2.2.1 s.2.2.2.2.1 s.2.2.2.2.2.1 s.2.2.2.2.2.2) (fun s => I s.1 s.2.1 s.2.2.1 s.2.2.2.1 s.2.2.2.2.1 s.2.2.2.2.2.1 s.2.2.2.2.2.2) (fun s => μ s.1 s.2.1 s.2.2.1 s.2.2.2.1 s.2.2.2.2.1 s.2.2.2.2.2.1 s.2.2.2.2.2.2) (fun n s hI hk => hs n s.1 s.2.1 s.2.2.1 s.2.2.2.1 s.2.2.2.2.1 s.2.2.2.2.2.1 s.2.2.2.2.2.2 hI (fun b1 b2 b3 b4 b5 b6 b7 h9 hm => hk (b1, b2, b3, b4, b5, b6, b7) h9 hm)) (a1, a2, a3, a4, a5, a6, a7) h
theorem lp8 {A1 A2 A3 A4 A5 A6 A7 A8 : Type} (W : Nat → A1 → A2 → A3 → A4 → A5 → A6 → A7 → A8 → Prop) (I : A1 → A2 → A3 → A4 → A5 → A6 → A7 → A8 → Prop) (μ : A1 → A2 → A3 → A4 → A5 → A6 → A7 → A8 → Nat) (hs : ∀ (n : Nat) (a1 : A1) (a2 : A2) (a3 : A3) (a4 : A4) (a5 : A5) (a6 : A6) (a7 : A7) (a8 : A8), I a1 a2 a3 a4 a5 a6 a7 a8 → (∀ (b1 : A1) (b2 : A2) (b3 : A3) (b4 : A4) (b5 : A5) (b6 : A6) (b7 : A7) (b8 : A8), I b1 b2 b3 b4 b5 b6 b7 b8 → μ b1 b2 b3 b4 b5 b6 b7 b8 < μ a1 a2 a3 a4 a5 a6 a7 a8 → W n b1 b2 b3 b4 b5 b6 b7 b8) → W (n + 1) a1 a2 a3 a4 a5 a6 a7 a8) (a1 : A1) (a2 : A2) (a3 : A3) (a4 : A4) (a5 : A5) (a6 : A6) (a7 : A7) (a8 : A8) (h : I a1 a2 a3 a4 a5 a6 a7 a8) : ∃ n, W n a1 a2 a3 a4 a5 a6 a7 a8 :=
  loop_m (σ := A1 × A2 × A3 × A4 × A5 × A6 × A7 × A8) (fun n s => W n s.1 s.2.1 s.2.2.1 s.2.2.2.1 s.2.2.2.2.1 s.2.2.2.2.2.1 s.2.2.2.2.2.2.1 s.2.2.2.2.2.2.2) (fun s => I s.1 s.2.1 s.2.2.1 s.2.2.2.1 s.2.2.2.2.1 s.2.2.2.2.2.1 s.2.2.2.2.2.2.1 s.2.2.2.2.2.2.2) (fun s => μ s.1 s.2.1 s.2.2.1 s.2.2.2.1 s.2.2.2.2.1 s.2.2.2.2.2.1 s.2.2.2.2.2.2.1 s.2.2.2.2.2.2.2) (fun n s hI hk => hs n s.1 s.2.1 s.2.2.1 s.2.2.2.1 s.2.2.2.2.1 s.2.2.2.2.2.1 s.2.2.2.2.2.2.1 s.2.2.2.2.2.2.2 hI (fun b1 b2 b3 b4 b5 b6 b7 b8 h9 hm => hk (b1, b2, b3, b4, b5, b6, b7, b8) h9 hm)) (a1, a2, a3, a4, a5, a6, a7, a8) h
theorem lp9 {A1 A2 A3 A4 A5 A6 A7 A8 A9 : Type} (W : Nat → A1 → A2 → A3 → A4 → A5 → A6 → A7 → A8 → A9 → Prop) (I : A1 → A2 → A3 → A4 → A5 → A6 → A7 → A8 → A9 → Prop) (μ : A1 → A2 → A3 → A4 → A5 → A6 → A7 → A8 → A9 → Nat) (hs : ∀ (n : Nat) (a1 : A1) (a2 : A2) (a3 : A3) (a4 : A4) (a5 : A5) (a6 : A6) (a7 : A7) (a8 : A8) (a9 : A9), I a1 a2 a3 a4 a5 a6 a7 a8 a9 → (∀ (b1 : A1) (b2 : A2) (b3 : A3) (b4 : A4) (b5 : A5) (b6 : A6) (b7 : A7) (b8 : A8) (b9 : A9), I b1 b2 b3 b4 b5 b6 b7 b8 b9 → μ b1 b2 b3 b4 b5 b6 b7 b8 b9 < μ a1 a2 a3 a4 a5 a6 a7 a8 a9 → W n b1 b2 b3 b4 b5 b6 b7 b8 b9) → W (n + 1) a1 a2 a3 a4 a5 a6 a7 a8 a9) (a1 : A1) (a2 : A2) (a3 : A3) (a4 : A4) (a5 : A5) (a6 : A6) (a7 : A7) (a8 : A8) (a9 : A9) (h : I a1 a2 a3 a4 a5 a6 a7 a8 a9) : ∃ n, W n a1 a2 a3 a4 a5 a6 a7 a8 a9 :=
  loop_m (σ := A1 × A2 × A3 × A4 × A5 × A6 × A7 × A8 × A9) (fun n s => W n s.1 s.2.1 s.2.2.1 s.2.2.2.1 s.2.2.2.2.1 s.2.2.2.2.2.1 s.2.2.2.2.2.2.1 s.2.2.2.2.2.2.2.1 s.2.2.2.2.2.2.2.2) (fun s => I s.1 s.2.1 s.2.2.1 s.2.2.2.1 s.2.2.2.2.1 s.2.2.2.2.2.1 s.2.2.2.2.2.2.1 s.2.2.2.2.2.2.2.1 s.2.2.2.2.2.2.2.2) (fun s => μ s.1 s.2.1 s.2.2.1 s.2.2.2.1 s.2.2.2.2.1 s.2.2.2.2.2.1 s.2.2.2.2.2.2.1 s.2.2.2.2.2.2.2.1 s.2.2.2.2.2.2.2.2) (fun n s hI hk => hs n s.1 s.2.1 s.2.2.1 s.2.2.2.1 s.2.2.2.2.1 s.2.2.2.2.2.1 s.2.2.2.2.2.2.1 s.2.2.2.2.2.2.2.1 s.2.2.2.2.2.2.2.2 hI (fun b1 b2 b3 b4 b5 b6 b7 b8 b9 h9 hm => hk (b1, b2, b3, b4, b5, b6, b7, b8, b9) h9 hm)) (a1, a2, a3, a4, a5, a6, a7, a8, a9) h
theorem lp10 {A1 A2 A3 A4 A5 A6 A7 A8 A9 A10 : Type} (W : Nat → A1 → A2 → A3 → A4 → A5 → A6 → A7 → A8 → A9 → A10 → Prop) (I : A1 → A2 → A3 → A4 → A5 → A6 → A7 → A8 → A9 → A10 → Prop) (μ : A1 → A2 → A3 → A4 → A5 → A6 → A7 → A8 → A9 → A10 → Nat) (hs : ∀ (n : Nat) (a1 : A1) (a2 : A2) (a3 : A3) (a4 : A4) (a5 : A5) (a6 : A6) (a7 : A7) (a8 : A8) (a9 : A9) (a10 : A10), I a1 a2 a3 a4 a5 a6 a7 a8 a9 a10 → (∀ (b1 : A1) (b2 : A2) (b3 : A3) (b4 : A4) (b5 : A5) (b6 : A6) (b7 : A7) (b8 : A8) (b9 : A9) (b10 : A10), I b1 b2 b3 b4 b5 b6 b7 b8 b9 b10 → μ b1 b2 b3 b4 b5 b6 b7 b8 b9 b10 < μ a1 a2 a3 a4 a5 a6 a7 a8 a9 a10 → W n b1 b2 b3 b4 b5 b6 b7 b8 b9 b10) → W (n + 1) a1 a2 a3 a4 a5 a6 a7 a8 a9 a10) (a1 : A1) (a2 : A2) (a3 : A3) (a4 : A4) (a5 : A5) (a6 : A6) (a7 : A7) (a8 : A8) (a9 : A9) (a10 : A10) (h : I a1 a2 a3 a4 a5 a6 a7 a8 a9 a10) : ∃ n, W n a1 a2 a3 a4 a5 a6 a7 a8 a9 a10 :=
  loop_m (σ := A1 × A2 × A3 × A4 × A5 × A6 × A7 × A8 × A9 × A10) (fun n s => W n s.1 s.2.1 s.2.2.1 s.2.2.2.1 s.2.2.2.2.1 s.2.2.2.2.2.1 s.2.2.2.2.2.2.1 s.2.2.2.2.2.2.2.1 s.2.2.2.2.2.2.2.2.1 s.2.2.2.2.2.2.2.2.2) (fun s => I s.1 s.2.1 s.2.2.1 s.2.2.2.1 s.2.2.2.2.1 s.2.2.2.2.2.1 s.2.2.2.2.2.2.1 s.2.2.2.2.2.2.2.1 s.2.2.2.2.2.2.2.2.1 s.2.2.2.2.2.2.2.2.2) (fun s => μ s.1 s.2.1 s.2.2.1 s.2.2.2.1 s.2.2.2.2.1 s.2.2.2.2.2.1 s.2.2.2.2.2.2.1 s.2.2.2.2.2.2.2.1 s.2.2.2.2.2.2.2.2.1 s.2.2.2.2.2.2.2.2.2) (fun n s hI hk => hs n s.1 s.2.1 s.2.2.1 s.2.2.2.1 s.2.2.2.2.1 s.2.2.2.2.2.1 s.2.2.2.2.2.2.1 s.2.2.2.2.2.2.2.1 s.2.2.2.2.2.2.2.2.1 s.2.2.2.2.2.2.2.2.2 hI (fun b1 b2 b3 b4 b5 b6 b7 b8 b9 b10 h9 hm => hk (b1, b2, b3, b4, b5, b6, b7, b8, b9, b10) h9 hm)) (a1, a2, a3, a4, a5, a6, a7, a8, a9, a10) h
theorem lp11 {A1 A2 A3 A4 A5 A6 A7 A8 A9 A10 A11 : Type} (W : Nat → A1 → A2 → A3 → A4 → A5 → A6 → A7 → A8 → A9 → A10 → A11 → Prop) (I : A1 → A2 → A3 → A4 → A5 → A6 → A7 → A8 → A9 → A10 → A11 → Prop) (μ : A1 → A2 → A3 → A4 → A5 → A6 → A7 → A8 → A9 → A10 → A11 → Nat) (hs : ∀ (n : Nat) (a1 : A1) (a2 : A2) (a3 : A3) (a4 : A4) (a5 : A5) (a6 : A6) (a7 : A7) (a8 : A8) (a9 : A9) (a10 : A10) (a11 : A11), I a1 a2 a3 a4 a5 a6 a7 a8 a9 a10 a11 → (∀ (b1 : A1) (b2 : A2) (b3 : A3) (b4 : A4) (b5 : A5) (b6 : A6) (b7 : A7) (b8 : A8) (b9 : A9) (b10 : A10) (b11 : A11), I b1 b2 b3 b4 b5 b6 b7 b8 b9 b10 b11 → μ b1 b2 b3 b4 b5 b6 b7 b8 b9 b10 b11 < μ a1 a2 a3 a4 a5 a6 a7 a8 a9 a10 a11 → W n b1 b2 b3 b4 b5 b6 b7 b8 b9 b10 b11) → W (n + 1) a1 a2 a3 a4 a5 a6 a7 a8 a9 a10 a11) (a1 : A1) (a2 : A2) (a3 : A3) (a4 : A4) (a5 : A5) (a6 : A6) (a7 : A7) (a8 : A8) (a9 : A9) (a10 : A10) (a11 : A11) (h : I a1 a2 a3 a4 a5 a6 a7 a8 a9 a10 a11) : ∃ n, W n a1 a2 a3 a4 a5 a6 a7 a8 a9 a10 a11 :=
  loop_m (σ := A1 × A2 × A3 × A4 × A5 × A6 × A7 × A8 × A9 × A10 × A11) (fun n s => W n s.1 s.2.1 s.2.2.1 s.2.2.2.1 s.2.2.2.2.1 s.2.2.2.2.2.1 s.2.2.2.2.2.2.1 s.2.2.2.2.2.2.2.1 s.2.2.2.2.2.2.2.2.1 s.2.2.2.2.2.2.2.2.2.1 s.2.2.2.2.2.2.2.2.2.2) (fun s => I s.1 s.2.1 s.2.2.1 s.2.2.2.1 s.2.2.2.2.1 s.2.2.2.2.2.1 s.2.2.2.2.2.2.1 s.2.2.2.2.2.2.2.1 s.2.2.2.2.2.2.2.2.1 s.2.2.2.2.2.2.2.2.2.1 s.2.2.2.2.2.2.2.2.2.2) (fun s => μ s.1 s.2.1 s.2.2.1 s.2.2.2.1 s.2.2.2.2.1 s.2.2.2.2.2.1 s.2.2.2.2.2.2.1 s.2.2.2.2.2.2.2.1 s.2.2.2.2.2.2.2.2.1 s.2.2.2.2.2.2.2.2.2.1 s.2.2.2.2.2.2.2.2.2.2) (fun n s hI hk => hs n s.1 s.2.1 s.2.2.1 s.2.2.2.1 s.2.2.2.2.1 s.2.2.2.2.2.1 s.2.2.2.2.2.2.1 s.2.2.2.2.2.2.2.1 s.2.2.2.2.2.2.2.2.1 s.2.2.2.2.2.2.2.2.2.1 s.2.2.2.2.2.2.2.2.2.2 hI (fun b1 b2 b3 b4 b5 b6 b7 b8 b9 b10 b11 h9 hm => hk (b1, b2, b3, b4, b5, b6, b7, b8, b9, b10, b11) h9 hm)) (a1, a2, a3, a4, a5, a6, a7, a8, a9, a10, a11) h
theorem lp12 {A1 A2 A3 A4 A5 A6 A7 A8 A9 A10 A11 A12 : Type} (W : Nat → A1 → A2 → A3 → A4 → A5 → A6 → A7 → A8 → A9 → A10 → A11 → A12 → Prop) (I : A1 → A2 → A3 → A4 → A5 → A6 → A7 → A8 → A9 → A10 → A11 → A12 → Prop) (μ : A1 → A2 → A3 → A4 → A5 → A6 → A7 → A8 → A9 → A10 → A11 → A12 → Nat) (hs : ∀ (n : Nat) (a1 : A1) (a2 : A2) (a3 : A3) (a4 : A4) (a5 : A5) (a6 : A6) (a7 : A7) (a8 : A8) (a9 : A9) (a10 : A10) (a11 : A11) (a12 : A12), I a1 a2 a3 a4 a5 a6 a7 a8 a9 a10 a11 a12 → (∀ (b1 : A1) (b2 : A2) (b3 : A3) (b4 : A4) (b5 : A5) (b6 : A6) (b7 : A7) (b8 : A8) (b9 : A9) (b10 : A10) (b11 : A11) (b12 : A12), I b1 b2 b3 b4 b5 b6 b7 b8 b9 b10 b11 b12 → μ b1 b2 b3 b4 b5 b6 b7 b8 b9 b10 b11 b12 < μ a1 a2 a3 a4 a5 a6 a7 a8 a9 a10 a11 a12 → W n b1 b2 b3 b4 b5 b6 b7 b8 b9 b10 b11 b12) → W (n + 1) a1 a2 a3 a4 a5 a6 a7 a8 a9 a10 a11 a12) (a1 : A1) (a2 : A2) (a3 : A3) (a4 : A4) (a5 : A5) (a6 : A6) (a7 : A7) (a8 : A8) (a9 : A9) (a10 : A10) (a11 : A11) (a12 : A12) (h : I a1 a2 a3 a4 a5 a6 a7 a8 a9 a10 a11 a12) : ∃ n, W n a1 a2 a3 a4 a5 a6 a7 a8 a9 a10 a11 a12 :=
  loop_m (σ := A1 × A2 × A3 × A4 × A5 × A6 × A7 × A8 × A9 × A10 × A11 × A12) (fun n s => W n s.1 s.2.1 s.2.2.1 s.2.2.2.1 s.2.2.2.2.1 s.2.2.2.2.2.1 s.2.2.2.2.2.2.1 s.2.2.2.2.2.2.2.1 s.2.2.2.2.2.2.2.2.1 s.2.2.2.2.2.2.2.2.2.1 s.2.2.2.2.2.2.2.2.2.2.1 s.2.2.2.2.2.2.2.2.2.2.2) (fun s => I s.1 s.2.1 s.2.2.1 s.2.2.2.1 s.2.2.2.2.1 s.2.2.2.2.2.1 s.2.2.2.2.2.2.1 s.2.2.2.2.2.2.2.1 s.2.2.2.2.2.2.2.2.1 s.2.2.2.2.2.2.2.2.2.1 s.2.2.2.2.2.2.2.2.2.2.1 s.2.2.2.2.2.2.2.2.2.2.2) (fun s => μ s.1 s.2.1 s.2.2.1 s.2.2.2.1 s.2.2.2.2.1 s.2.2.2.2.2.1 s.2.2.2.2.2.2.1 s.2.2.2.2.2.2.2.1 s.2.2.2.2.2.2.2.2.1 s.2.2.2.2.2.2.2.2.2.1 s.2.2.2.2.2.2.2.2.2.2.1 s.2.2.2.2.2.2.2.2.2.2.2) (fun n s hI hk => hs n s.1 s.2.1 s.2.2.1 s.2.2.2.1 s.2.2.2.2.1 s.2.2.2.2.2.1 s.2.2.2.2.2.2.1 s.2.2.2.2.2.2.2.1 s.2.2.2.2.2.2.2.2.1 s.2.2.2.2.2.2.2.2.2.1 s.2.2.2.2.2.2.2.2.2.2.1 s.2.2.2.2.2.2.2.2.2.2.2 hI (fun b1 b2 b3 b4 b5 b6 b7 b8 b9 b10 b11 b12 h9 hm => hk (b1, b2, b3, b4, b5, b6, b7, b8, b9, b10, b11, b12) h9 hm)) (a1, a2, a3, a4, a5, a6, a7, a8, a9, a10, a11, a12) h
theorem lp13 {A1 A2 A3 A4 A5 A6 A7 A8 A9 A10 A11 A12 A13 : Type} (W : Nat → A1 → A2 → A3 → A4 → A5 → A6 → A7 → A8 → A9 → A10 → A11 → A12 → A13 → Prop) (I : A1 → A2 → A3 → A4 → A5 → A6 → A7 → A8 → A9 → A10 → A11 → A12 → A13 → Prop) (μ : A1 → A2 → A3 → A4 → A5 → A6 → A7 → A8 → A9 → A10 → A11 → A12 → A13 → Nat) (hs : ∀ (n : Nat) (a1 : A1) (a2 : A2) (a3 : A3) (a4 : A4) (a5 : A5) (a6 : A6) (a7 : A7) (a8 : A8) (a9 : A9) (a10 : A10) (a11 : A11) (a12 : A12) (a13 : A13), I a1 a2 a3 a4 a5 a6 a7 a8 a9 a10 a11 a12 a13 → (∀ (b1 : A1) (b2 : A2) (b3 : A3) (b4 : A4) (b5 : A5) (b6 : A6) (b7 : A7) (b8 : A8) (b9 : A9) (b10 : A10) (b11 : A11) (b12 : A12) (b13 : A13), I b1 b2 b3 b4 b5 b6 b7 b8 b9 b10 b11 b12 b13 → μ b1 b2 b3 b4 b5 b6 b7 b8 b9 b10 b11 b12 b13 < μ a1 a2 a3 a4 a5 a6 a7 a8 a9 a10 a11 a12 a13 → W n b1 b2 b3 b4 b5 b6 b7 b8 b9 b10 b11 b12 b13) → W (n + 1) a1 a2 a3 a4 a5 a6 a7 a8 a9 a10 a11 a12 a13) (a1 : A1) (a2 : A2) (a3 : A3) (a4 : A4) (a5 : A5) (a6 : A6) (a7 : A7) (a8 : A8) (a9 : A9) (a10 : A10) (a11 : A11) (a12 : A12) (a13 : A13) (h : I a1 a2 a3 a4 a5 a6 a7 a8 a9 a10 a11 a12 a13) : ∃ n, W n a1 a2 a3 a4 a5 a6 a7 a8 a9 a10 a11 a12 a13 :=
  loop_m (σ := A1 × A2 × A3 × A4 × A5 × A6 × A7 × A8 × A9 × A10 × A11 × A12 × A13) (fun n s => W n s.1 s.2.1 s.2.2.1 s.2.2.2.1 s.2.2.2.2.1 s.2.2.2.2.2.1 s.2.2.2.2.2.2.1 s.2.2.2.2.2.2.2.1 s.2.2.2.2.2.2.2.2.1 s.2.2.2.2.2.2.2.2.2.1 s.2.2.2.2.2.2.2.2.2.2.1 s.2.2.2.2.2.2.2.2.2.2.2.1 s.2.2.2.2.2.2.2.2.2.2.2.2) (fun s => I s.1 s.2.1 s.2.2.1 s.2.2.2.1 s.2.2.2.2.1 s.2.2.2.2.2.1 s.2.2.2.2.2.2.1 s.2.2.2.2.2.2.2.1 s.2.2.2.2.2.2.2.2.1 s.2.2.2.2.2.2.2.2.2.1 s.2.2.2.2.2.2.2.2.2.2.1 s.2.2.2.2.2.2.2.2.2.2.2.1 s.2.2.2.2.2.2.2.2.2.2.2.2) (fun s => μ s.1 s.2.1 s.2.2.1 s.2.2.2.1 s.2.2.2.2.1 s.2.2.2.2.2.1 s.2.2.2.2.2.2.1 s.2.2.2.2.2.2.2.1 s.2.2.2.2.2.2.2.2.1 s.2.2.2.2.2.2.2.2.2.1 s.2.2.2.2.2.2.2.2.2.2.1 s.2.2.2.2.2.2.2.2.2.2.2.1 s.2.2.2.2.2.2.2.2.2.2.2.2) (fun n s hI hk => hs n s.1 s.2.1 s.2.2.1 s.2.2.2.1 s.2.2.2.2.1 s.2.2.2.2.2.1 s.2.2.2.2.2.2.1 s.2.2.2.2.2.2.2.1 s.2.2.2.2.2.2.2.2.1 s.2.2.2.2.2.2.2.2.2.1 s.2.2.2.2.2.2.2.2.2.2.1 s.2.2.2.2.2.2.2.2.2.2.2.1 s.2.2.2.2.2.2.2.2.2.2.2.2 hI (fun b1 b2 b3 b4 b5 b6 b7 b8 b9 b10 b11 b12 b13 h9 hm => hk (b1, b2, b3, b4, b5, b6, b7, b8, b9, b10, b11, b12, b13) h9 hm)) (a1, a2, a3, a4, a5, a6, a7, a8, a9, a10, a11, a12, a13) h
theorem lp14 {A1 A2 A3 A4 A5 A6 A7 A8 A9 A10 A11 A12 A13 A14 : Type} (W : Nat → A1 → A2 → A3 → A4 → A5 → A6 → A7 → A8 → A9 → A10 → A11 → A12 → A13 → A14 → Prop) (I : A1 → A2 → A3 → A4 → A5 → A6 → A7 → A8 → A9 → A10 → A11 → A12 → A13 → A14 → Prop) (μ : A1 → A2 → A3 → A4 → A5 → A6 → A7 → A8 → A9 → A10 → A11 → A12 → A13 → A14 → Nat) (hs : ∀ (n : Nat) (a1 : A1) (a2 : A2) (a3 : A3) (a4 : A4) (a5 : A5) (a6 : A6) (a7 : A7) (a8 : A8) (a9 : A9) (a10 : A10) (a11 : A11) (a12 : A12) (a13 : A13) (a14 : A14), I a1 a2 a3 a4 a5 a6 a7 a8 a9 a10 a11 a12 a13 a14 → (∀ (b1 : A1) (b2 : A2) (b3 : A3) (b4 : A4) (b5 : A5) (b6 : A6) (b7 : A7) (b8 : A8) (b9 : A9) (b10 : A10) (b11 : A11) (b12 : A12) (b13 : A13) (b14 : A14), I b1 b2 b3 b4 b5 b6 b7 b8 b9 b10 b11 b12 b13 b14 → μ b1 b2 b3 b4 b5 b6 b7 b8 b9 b10 b11 b12 b13 b14 < μ a1 a2 a3 a4 a5 a6 a7 a8 a9 a10 a11 a12 a13 a14 → W n b1 b2 b3 b4 b5 b6 b7 b8 b9 b10 b11 b12 b13 b14) → W (n + 1) a1 a2 a3 a4 a5 a6 a7 a8 a9 a10 a11 a12 a13 a14) (a1 : A1) (a2 : A2) (a3 : A3) (a4 : A4) (a5 : A5) (a6 : A6) (a7 : A7) (a8 : A8) (a9 : A9) (a10 : A10) (a11 : A11) (a12 : A12) (a13 : A13) (a14 : A14) (h : I a1 a2 a3 a4 a5 a6 a7 a8 a9 a10 a11 a12 a13 a14) : ∃ n, W n a1 a2 a3 a4 a5 a6 a7 a8 a9 a10 a11 a12 a13 a14 :=
  loop_m (σ := A1 × A2 × A3 × A4 × A5 × A6 × A7 × A8 × A9 × A10 × A11 × A12 × A13 × A14) (fun n s => W n s.1 s.2.1 s.2.2.1 s.2.2.2.1 s.2.2.2.2.1 s.2.2.2.2.2.1 s.2.2.2.2.2.2.1 s.2.2.2.2.2.2.2.1 s.2.2.2.2.2.2.2.2.1 s.2.2.2.2.2.2.2.2.2.1 s.2.2.2.2.2.2.2.2.2.2.1 s.2.2.2.2.2.2.2.2.2.2.2.1 s.2.2.2.2.2.2.2.2.2.2.2.2.1 s.2.2.2.2.2.2.2.2.2.2.2.2.2) (fun s => I s.1 s.2.1 s.2.2.1 s.2.2.2.1 s.2.2.2.2.1 s.2.2.2.2.2.1 s.2.2.2.2.2.2.1 s.2.2.2.2.2.2.2.1 s.2.2.2.2.2.2.2.2.1 s.2.2.2.2.2.2.2.2.2.1 s.2.2.2.2.2.2.2.2.2.2.1 s.2.2.2.2.2.2.2.2.2.2.2.1 s.2.2.2.2.2.2.2.2.2.2.2.2.1 s.2.2.2.2.2.2.2.2.2.2.2.2.2) (fun s => μ s.1 s.2.1 s.2.2.1 s.2.2.2.1 s.2.2.2.2.1 s.2.2.2.2.2.1 s.2.2.2.2.2.2.1 s.2.2.2.2.2.2.2.1 s.2.2.2.2.2.2.2.2.1 s.2.2.2.2.2.2.2.2.2.1 s.2.2.2.2.2.2.2.2.2.2.1 s.2.2.2.2.2.2.2.2.2.2.2.1 s.2.2.2.2.2.2.2.2.2.2.2.2.1 s.2.2.2.2.2.2.2.2.2.2.2.2.2) (fun n s hI hk => hs n s.1 s.2.1 s.2.2.1 s.2.2.2.1 s.2.2.2.2.1 s.2.2.2.2.2.1 s.2.2.2.2.2.2.1 s.2.2.2.2.2.2.2.1 s.2.2.2.2.2.2.2.2.1 s.2.2.2.2.2.2.2.2.2.1 s.2.2.2.2.2.2.2.2.2.2.1 s.2.2.2.2.2.2.2.2.2.2.2.1 s.2.2.2.2.2.2.2.2.2.2.2.2.1 s.2.2.2.2.2.2.2.2.2.2.2.2.2 hI (fun b1 b2 b3 b4 b5 b6 b7 b8 b9 b10 b11 b12 b13 b14 h9 hm => hk (b1, b2, b3, b4, b5, b6, b7, b8, b9, b10, b11, b12, b13, b14) h9 hm)) (a1, a2, a3, a4, a5, a6, a7, a8, a9, a10, a11, a12, a13, a14) h
theorem lp15 {A1 A2 A3 A4 A5 A6 A7 A8 A9 A10 A11 A12 A13 A14 A15 : Type} (W : Nat → A1 → A2 → A3 → A4 → A5 → A6 → A7 → A8 → A9 → A10 → A11 → A12 → A13 → A14 → A15 → Prop) (I : A1 → A2 → A3 → A4 → A5 → A6 → A7 → A8 → A9 → A10 → A11 → A12 → A13 → A14 → A15 → Prop) (μ : A1 → A2 → A3 → A4 → A5 → A6 → A7 → A8 → A9 → A10 → A11 → A12 → A13 → A14 → A15 → Nat) (hs : ∀ (n : Nat) (a1 : A1) (a2 : A2) (a3 : A3) (a4 : A4) (a5 : A5) (a6 : A6) (a7 : A7) (a8 : A8) (a9 : A9) (a10 : A10) (a11 : A11) (a12 : A12) (a13 : A13) (a14 : A14) (a15 : A15), I a1 a2 a3 a4 a5 a6 a7 a8 a9 a10 a11 a12 a13 a14 a15 → (∀ (b1 : A1) (b2 : A2) (b3 : A3) (b4 : A4) (b5 : A5) (b6 : A6) (b7 : A7) (b8 : A8) (b9 : A9) (b10 : A10) (b11 : A11) (b12 : A12) (b13 : A13) (b14 : A14) (b15 : A15), I b1 b2 b3 b4 b5 b6 b7 b8 b9 b10 b11 b12 b13 b14 b15 → μ b1 b2 b3 b4 b5 b6 b7 b8 b9 b10 b11 b12 b13 b14 b15 < μ a1 a2 a3 a4 a5 a6 a7 a8 a9 a10 a11 a12 a13 a14 a15 → W n b1 b2 b3 b4 b5 b6 b7 b8 b9 b10 b11 b12 b13 b14 b15) → W (n + 1) a1 a2 a3 a4 a5 a6 a7 a8 a9 a10 a11 a12 a13 a14 a15) (a1 : A1) (a2 : A2) (a3 : A3) (a4 : A4) (a5 : A5) (a6 : A6) (a7 : A7) (a8 : A8) (a9 : A9) (a10 : A10) (a11 : A11) (a12 : A12) (a13 : A13) (a14 : A14) (a15 : A15) (h : I a1 a2 a3 a4 a5 a6 a7 a8 a9 a10 a11 a12 a13 a14 a15) : ∃ n, W n a1 a2 a3 a4 a5 a6 a7 a8 a9 a10 a11 a12 a13 a14 a15 :=
  loop_m (σ := A1 × A2 × A3 × A4 × A5 × A6 × A7 × A8 × A9 × A10 × A11 × A12 × A13 × A14 × A15) (fun n s => W n s.1 s.2.1 s.2.2.1 s.2.2.2.1 s.2.2.2.2.1 s.2.2.2.2.2.1 s.2.2.2.2.2.2.1 s.2.2.2.2.2.2.2.1 s.2.2.2.2.2.2.2.2.1 s.2.2.2.2.2.2.2.2.2.1 s.2.2.2.2.2.2.2.2.2.2.1 s.2.2.2.2.2.2.2.2.2.2.2.1 s.2.2.2.2.2.2.2.2.2.2.2.2.1 s.2.2.2.2.2.2.2.2.2.2.2.2.2.1 s.2.2.2.2.2.2.2.2.2.2.2.2.2.2) (fun s => I s.1 s.2.1 s.2.2.1 s.2.2.2.1 s.2.2.2.2.1 s.2.2.2.2.2.1 s.2.2.2.2.2.2.1 s.2.2.2.2.2.2.2.1 s.2.2.2.2.2.2.2.2.1 s.2.2.2.2.2.2.2.2.2.1 s.2.2.2.2.2.2.2.2.2.2.1 s.2.2.2.2.2.2.2.2.2.2.2.1 s.2.2.2.2.2.2.2.2.2.2.2.2.1 s.2.2.2.2.2.2.2.2.2.2.2.2.2.1 s.2.2.2.2.2.2.2.2.2.2.2.2.2.2) (fun s => μ s.1 s.2.1 s.2.2.1 s.2.2.2.1 s.2.2.2.2.1 s.2.2.2.2.2.1 s.2.2.2.2.2.2.1 s.2.2.2.2.2.2.2.1 s.2.2.2.2.2.2.2.2.1 s.2.2.2.2.2.2.2.2.2.1 s.2.2.2.2.2.2.2.2.2.2.1 s.2.2.2.2.2.2.2.2.2.2.2.1 s.2.2.2.2.2.2.2.2.2.2.2.2.1 s.2.2.2.2.2.2.2.2.2.2.2.2.2.1 s.2.2.2.2.2.2.2.2.2.2.2.2.2.2) (fun n s hI hk => hs n s.1 s.2.1 s.2.2.1 s.2.2.2.1 s.2.2.2.2.1 s.2.2.2.2.2.1 s.2.2.2.2.2.2.1 s.2.2.2.2.2.2.2.1 s.2.2.2.2.2.2.2.2.1 s.2.2.2.2.2.2.2.2.2.1 s.2.2.2.2.2.2.2.2.2.2.1 s.2.2.2.2.2.2.2.2.2.2.2.1 s.2.2.2.2.2.2.2.2.2.2.2.2.1 s.2.2.2.2.2.2.2.2.2.2.2.2.2.1 s.2.2.2.2.2.2.2.2.2.2.2.2.2.2 hI (fun b1 b2 b3 b4 b5 b6 b7 b8 b9 b10 b11 b12 b13 b14 b15 h9 hm => hk (b1, b2, b3, b4, b5, b6, b7, b8, b9, b10, b11, b12, b13, b14, b15) h9 hm)) (a1, a2, a3, a4, a5, a6, a7, a8, a9, a10, a11, a12, a13, a14, a15) h
theorem lp16 {A1 A2 A3 A4 A5 A6 A7 A8 A9 A10 A11 A12 A13 A14 A15 A16 : Type} (W : Nat → A1 → A2 → A3 → A4 → A5 → A6 → A7 → A8 → A9 → A10 → A11 → A12 → A13 → A14 → A15 → A16 → Prop) (I : A1 → A2 → A3 → A4 → A5 → A6 → A7 → A8 → A9 → A10 → A11 → A12 → A13 → A14 → A15 → A16 → Prop) (μ : A1 → A2 → A3 → A4 → A5 → A6 → A7 → A8 → A9 → A10 → A11 → A12 → A13 → A14 → A15 → A16 → Nat) (hs : ∀ (n : Nat) (a1 : A1) (a2 : A2) (a3 : A3) (a4 : A4) (a5 : A5) (a6 : A6) (a7 : A7) (a8 : A8) (a9 : A9) (a10 : A10) (a11 : A11) (a12 : A12) (a13 : A13) (a14 : A14) (a15 : A15) (a16 : A16), I a1 a2 a3 a4 a5 a6 a7 a8 a9 a10 a11 a12 a13 a14 a15 a16 → (∀ (b1 : A1) (b2 : A2) (b3 : A3) (b4 : A4) (b5 : A5) (b6 : A6) (b7 : A7) (b8 : A8) (b9 : A9) (b10 : A10) (b11 : A11) (b12 : A12) (b13 : A13) (b14 : A14) (b15 : A15) (b16 : A16), I b1 b2 b3 b4 b5 b6 b7 b8 b9 b10 b11 b12 b13 b14 b15 b16 → μ b1 b2 b3 b4 b5 b6 b7 b8 b9 b10 b11 b12 b13 b14 b15 b16 < μ a1 a2 a3 a4 a5 a6 a7 a8 a9 a10 a11 a12 a13 a14 a15 a16 → W n b1 b2 b3 b4 b5 b6 b7 b8 b9 b10 b11 b12 b13 b14 b15 b16) → W (n + 1) a1 a2 a3 a4 a5 a6 a7 a8 a9 a10 a11 a12 a13 a14 a15 a16) (a1 : A1) (a2 : A2) (a3 : A3) (a4 : A4) (a5 : A5) (a6 : A6) (a7 : A7) (a8 : A8) (a9 : A9) (a10 : A10) (a11 : A11) (a12 : A12) (a13 : A13) (a14 : A14) (a15 : A15) (a16 : A16) (h : I a1 a2 a3 a4 a5 a6 a7 a8 a9 a10 a11 a12 a13 a14 a15 a16) : ∃ n, W n a1 a2 a3 a4 a5 a6 a7 a8 a9 a10 a11 a12 a13 a14 a15 a16 :=
  loop_m (σ := A1 × A2 × A3 × A4 × A5 × A6 × A7 × A8 × A9 × A10 × A11 × A12 × A13 × A14 × A15 × A16) (fun n s => W n s.1 s.2.1 s.2.2.1 s.2.2.2.1 s.2.2.2.2.1 s.2.2.2.2.2.1 s.2.2.2.2.2.2.1 s.2.2.2.2.2.2.2.1 s.2.2.2.2.2.2.2.2.1 s.2.2.2.2.2.2.2.2.2.1 s.2.2.2.2.2.2.2.2.2.2.1 s.2.2.2.2.2.2.2.2.2.2.2.1 s.2.2.2.2.2.2.2.2.2.2.2.2.1 s.2.2.2.2.2.2.2.2.2.2.2.2.2.1 s.2.2.2.2.2.2.2.2.2.2.2.2.2.2.1 s.2.2.2.2.2.2.2.2.2.2.2.2.2.2.2) (fun s => I s.1 s.2.1 s.2.2.1 s.2.2.2.1 s.2.2.2.2.1 s.2.2.2.2.2.1 s.2.2.2.2.2.2.1 s.2.2.2.2.2.2.2.1 s.2.2.2.2.2.2.2.2.1 s.2.2.2.2.2.2.2.2.2.1 s.2.2.2.2.2.2.2.2.2.2.1 s.2.2.2.2.2.2.2.2.2.2.2.1 s.2.2.2.2.2.2.2.2.2.2.2.2.1 s.2.2.2.2.2.2.2.2.2.2.2.2.2.1 s.2.2.2.2.2.2.2.2.2.2.2.2.2.2.1 s.2.2.2.2.2.2.2.2.2.2.2.2.2.2.2) (fun s => μ s.1 s.2.1 s.2.2.1 s.2.2.2.1 s.2.2.2.2.1 s.2.2.2.2.2.1 s.2.2.2.2.2.2.1 s.2.2.2.2.2.2.2.1 s.2.2.2.2.2.2.2.2.1 s.2.2.2.2.2.2.2.2.2.1 s.2.2.2.2.2.2.2.2.2.2.1 s.2.2.2.2.2.2.2.2.2.2.2.1 s.2.2.2.2.2.2.2.2.2.2.2.2.1 s.2.2.2.2.2.2.2.2.2.2.2.2.2.1 s.2.2.2.2.2.2.2.2.2.2.2.2.2.2.1 s.2.2.2.2.2.2.2.2.2.2.2.2.2.2.2) (fun n s hI hk => hs n s.1 s.2.1 s.2.2.1 s.2.2.2.1 s.2.2.2.2.1 s.2.2.2.2.2.1 s.2.2.2.2.2.2.1 s.2.2.2.2.2.2.2.1 s.2.2.2.2.2.2.2.2.1 s.2.2.2.2.2.2.2.2.2.1 s.2.2.2.2.2.2.2.2.2.2.1 s.2.2.2.2.2.2.2.2.2.2.2.1 s.2.2.2.2.2.2.2.2.2.2.2.2.1 s.2.2.2.2.2.2.2.2.2.2.2.2.2.1 s.2.2.2.2.2.2.2.2.2.2.2.2.2.2.1 s.2.2.2.2.2.2.2.2.2.2.2.2.2.2.2 hI (fun b1 b2 b3 b4 b5 b6 b7 b8 b9 b10 b11 b12 b13 b14 b15 b16 h9 hm => hk (b1, b2, b3, b4, b5, b6, b7, b8, b9, b10, b11, b12, b13, b14, b15, b16) h9 hm)) (a1, a2, a3, a4, a5, a6, a7, a8, a9, a10, a11, a12, a13, a14, a15, a16) h
theorem pk_least (P : Nat → Prop) (h : ∃ k, P k) : ∃ k, P k ∧ ∀ j, j < k → ¬ P j := by
  obtain ⟨k, hk⟩ := h
  induction k using Nat.strongRecOn with
  | ind k ih =>
    by_cases e : ∃ j, j < k ∧ P j
    · obtain ⟨j, hj, pj⟩ := e
      exact ih j hj pj
    · exact ⟨k, hk, fun j hj pj => e ⟨j, hj, pj⟩⟩
theorem rp1 {ρ A1 : Type} (W : Nat → (ρ → Prop) → A1 → Prop) (ok : A1 → Prop) (μ : A1 → Nat) (val : A1 → ρ)
    (hs : ∀ (d : Nat) (post : ρ → Prop) (a1 : A1), ok a1 → post (val a1) → (∀ (post' : ρ → Prop) (b1 : A1), ok b1 → μ b1 < μ a1 → post' (val b1) → W d post' b1) → W (d + 1) post a1) :
    ∀ (d : Nat) (post : ρ → Prop) (a1 : A1), ok a1 → μ a1 < d → post (val a1) → W d post a1 := by
  intro d
  induction d with
  | zero => intro post a1 _ h; omega
  | succ d ih =>
    intro post a1 ho hm hp
    exact hs d post a1 ho hp (fun post' b1 ho' hm' hp' => ih post' b1 ho' (by omega) hp')
theorem rp2 {ρ A1 A2 : Type} (W : Nat → (ρ → Prop) → A1 → A2 → Prop) (ok : A1 → A2 → Prop) (μ : A1 → A2 → Nat) (val : A1 → A2 → ρ)
    (hs : ∀ (d : Nat) (post : ρ → Prop) (a1 : A1) (a2 : A2), ok a1 a2 → post (val a1 a2) → (∀ (post' : ρ → Prop) (b1 : A1) (b2 : A2), ok b1 b2 → μ b1 b2 < μ a1 a2 → post' (val b1 b2) → W d post' b1 b2) → W (d + 1) post a1 a2) :
    ∀ (d : Nat) (post : ρ → Prop) (a1 : A1) (a2 : A2), ok a1 a2 → μ a1 a2 < d → post (val a1 a2) → W d post a1 a2 := by
  intro d
  induction d with
  | zero => intro post a1 a2 _ h; omega
  | succ d ih =>
    intro post a1 a2 ho hm hp
    exact hs d post a1 a2 ho hp (fun post' b1 b2 ho' hm' hp' => ih post' b1 b2 ho' (by omega) hp')
theorem rp3 {ρ A1 A2 A3 : Type} (W : Nat → (ρ → Prop) → A1 → A2 → A3 → Prop) (ok : A1 → A2 → A3 → Prop) (μ : A1 → A2 → A3 → Nat) (val : A1 → A2 → A3 → ρ)
    (hs : ∀ (d : Nat) (post : ρ → Prop) (a1 : A1) (a2 : A2) (a3 : A3), ok a1 a2 a3 → post (val a1 a2 a3) → (∀ (post' : ρ → Prop) (b1 : A1) (b2 : A2) (b3 : A3), ok b1 b2 b3 → μ b1 b2 b3 < μ a1 a2 a3 → post' (val b1 b2 b3) → W d post' b1 b2 b3) → W (d + 1) post a1 a2 a3) :
    ∀ (d : Nat) (post : ρ → Prop) (a1 : A1) (a2 : A2) (a3 : A3), ok a1 a2 a3 → μ a1 a2 a3 < d → post (val a1 a2 a3) → W d post a1 a2 a3 := by
  intro d
  induction d with
  | zero => intro post a1 a2 a3 _ h; omega
  | succ d ih =>
    intro post a1 a2 a3 ho hm hp
    exact hs d post a1 a2 a3 ho hp (fun post' b1 b2 b3 ho' hm' hp' => ih post' b1 b2 b3 ho' (by omega) hp')
theorem rp4 {ρ A1 A2 A3 A4 : Type} (W : Nat → (ρ → Prop) → A1 → A2 → A3 → A4 → Prop) (ok : A1 → A2 → A3 → A4 → Prop) (μ : A1 → A2 → A3 → A4 → Nat) (val : A1 → A2 → A3 → A4 → ρ)
    (hs : ∀ (d : Nat) (post : ρ → Prop) (a1 : A1) (a2 : A2) (a3 : A3) (a4 : A4), ok a1 a2 a3 a4 → post (val a1 a2 a3 a4) → (∀ (post' : ρ → Prop) (b1 : A1) (b2 : A2) (b3 : A3) (b4 : A4), ok b1 b2 b3 b4 → μ b1 b2 b3 b4 < μ a1 a2 a3 a4 → post' (val b1 b2 b3 b4) → W d post' b1 b2 b3 b4) → W (d + 1) post a1 a2 a3 a4) :
    ∀ (d : Nat) (post : ρ → Prop) (a1 : A1) (a2 : A2) (a3 : A3) (a4 : A4), ok a1 a2 a3 a4 → μ a1 a2 a3 a4 < d → post (val a1 a2 a3 a4) → W d post a1 a2 a3 a4 := by
  intro d
  induction d with
  | zero => intro post a1 a2 a3 a4 _ h; omega
  | succ d ih =>
    intro post a1 a2 a3 a4 ho hm hp
    exact hs d post a1 a2 a3 a4 ho hp (fun post' b1 b2 b3 b4 ho' hm' hp' => ih post' b1 b2 b3 b4 ho' (by omega) hp')
theorem rp5 {ρ A1 A2 A3 A4 A5 : Type} (W : Nat → (ρ → Prop) → A1 → A2 → A3 → A4 → A5 → Prop) (ok : A1 → A2 → A3 → A4 → A5 → Prop) (μ : A1 → A2 → A3 → A4 → A5 → Nat) (val : A1 → A2 → A3 → A4 → A5 → ρ)
    (hs : ∀ (d : Nat) (post : ρ → Prop) (a1 : A1) (a2 : A2) (a3 : A3) (a4 : A4) (a5 : A5), ok a1 a2 a3 a4 a5 → post (val a1 a2 a3 a4 a5) → (∀ (post' : ρ → Prop) (b1 : A1) (b2 : A2) (b3 : A3) (b4 : A4) (b5 : A5), ok b1 b2 b3 b4 b5 → μ b1 b2 b3 b4 b5 < μ a1 a2 a3 a4 a5 → post' (val b1 b2 b3 b4 b5) → W d post' b1 b2 b3 b4 b5) → W (d + 1) post a1 a2 a3 a4 a5) :
    ∀ (d : Nat) (post : ρ → Prop) (a1 : A1) (a2 : A2) (a3 : A3) (a4 : A4) (a5 : A5), ok a1 a2 a3 a4 a5 → μ a1 a2 a3 a4 a5 < d → post (val a1 a2 a3 a4 a5) → W d post a1 a2 a3 a4 a5 := by
  intro d
  induction d with
  | zero => intro post a1 a2 a3 a4 a5 _ h; omega
  | succ d ih =>
    intro post a1 a2 a3 a4 a5 ho hm hp
    exact hs d post a1 a2 a3 a4 a5 ho hp (fun post' b1 b2 b3 b4 b5 ho' hm' hp' => ih post' b1 b2 b3 b4 b5 ho' (by omega) hp')
theorem rp6 {ρ A1 A2 A3 A4 A5 A6 : Type} (W : Nat → (ρ → Prop) → A1 → A2 → A3 → A4 → A5 → A6 → Prop) (ok : A1 → A2 → A3 → A4 → A5 → A6 → Prop) (μ : A1 → A2 → A3 → A4 → A5 → A6 → Nat) (val : A1 → A2 → A3 → A4 → A5 → A6 → ρ)
    (hs : ∀ (d : Nat) (post : ρ → Prop) (a1 : A1) (a2 : A2) (a3 : A3) (a4 : A4) (a5 : A5) (a6 : A6), ok a1 a2 a3 a4 a5 a6 → post (val a1 a2 a3 a4 a5 a6) → (∀ (post' : ρ → Prop) (b1 : A1) (b2 : A2) (b3 : A3) (b4 : A4) (b5 : A5) (b6 : A6), ok b1 b2 b3 b4 b5 b6 → μ b1 b2 b3 b4 b5 b6 < μ a1 a2 a3 a4 a5 a6 → post' (val b1 b2 b3 b4 b5 b6) → W d post' b1 b2 b3 b4 b5 b6) → W (d + 1) post a1 a2 a3 a4 a5 a6) :
    ∀ (d : Nat) (post : ρ → Prop) (a1 : A1) (a2 : A2) (a3 : A3) (a4 : A4) (a5 : A5) (a6 : A6), ok a1 a2 a3 a4 a5 a6 → μ a1 a2 a3 a4 a5 a6 < d → post (val a1 a2 a3 a4 a5 a6) → W d post a1 a2 a3 a4 a5 a6 := by
  intro d
  induction d with
  | zero => intro post a1 a2 a3 a4 a5 a6 _ h; omega
  | succ d ih =>
    intro post a1 a2 a3 a4 a5 a6 ho hm hp
    exact hs d post a1 a2 a3 a4 a5 a6 ho hp (fun post' b1 b2 b3 b4 b5 b6 ho' hm' hp' => ih post' b1 b2 b3 b4 b5 b6 ho' (by omega) hp')
theorem rec_p {σ ρ : Type} (W : Nat → (ρ → Prop) → σ → Prop) (ok : σ → Prop) (μ : σ → Nat) (val : σ → ρ)
    (hs : ∀ d s post, ok s → post (val s) → (∀ s' post', ok s' → μ s' < μ s → post' (val s') → W d post' s') → W (d + 1) post s) :
    ∀ d s post, ok s → μ s < d → post (val s) → W d post s := by
  intro d
  induction d with
  | zero => intro s post _ h; omega
  | succ d ih =>
    intro s post ho hm hp
    exact hs d s post ho hp (fun s' post' ho' hm' hp' => ih s' post' ho' (by omega) hp')
theorem rec_q {σ ρ : Type} (W : Nat → (ρ → Prop) → σ → Prop) (ok : σ → Prop) (μ : σ → Nat) (Q : σ → ρ → Prop)
    (hs : ∀ d s post, ok s → (∀ r, Q s r → post r) → (∀ s' post', ok s' → μ s' < μ s → (∀ r, Q s' r → post' r) → W d post' s') → W (d + 1) post s) :
    ∀ d s post, ok s → μ s < d → (∀ r, Q s r → post r) → W d post s := by
  intro d
  induction d with
  | zero => intro s post _ h; omega
  | succ d ih =>
    intro s post ho hm hp
    exact hs d s post ho hp (fun s' post' ho' hm' hp' => ih s' post' ho' (by omega) hp')
def bx_sum (f : Nat → Int32) : Nat → Int32
  | 0 => 0
  | n + 1 => bx_sum f n + f n
theorem ek_u {A : Prop} {B : Nat → Prop} {k N : Nat} (hk : k < N) (h : B k) : (some k = none → A) ∧ (∀ y : Nat, some k = some y → (y < N ∧ B y)) :=
  ⟨fun z => absurd z (Option.some_ne_none k), fun _ e => (by cases e; exact ⟨hk, h⟩)⟩
theorem ek_nu {A : Prop} {B : Nat → Prop} (h : A) : ((none : Option Nat) = none → A) ∧ (∀ y : Nat, (none : Option Nat) = some y → B y) :=
  ⟨fun _ => h, fun _ e => (by cases e)⟩
theorem ek_if {c d A B : Prop} (e : c ↔ d) (f : d → A) (g : ¬ d → B) : (c → A) ∧ (¬ c → B) :=
  ⟨fun z => f (e.mp z), fun z => g (fun y => z (e.mpr y))⟩
theorem ek_v {α : Sort _} {P : α → Prop} {a b : α} (e : a = b) (h : P b) : P a := e ▸ h
theorem co_some {x : Option Nat} {A : Prop} {B : Nat → Prop} (i : Nat) (h : B i) (hx : x = some i := by rfl) : (x = none → A) ∧ (∀ y : Nat, x = some y → B y) := by
  subst hx
  exact ⟨fun e => (nomatch e), fun y e => Option.some.inj e ▸ h⟩
theorem co_none {x : Option Nat} {A : Prop} {B : Nat → Prop} (h : A) (hx : x = none := by rfl) : (x = none → A) ∧ (∀ y : Nat, x = some y → B y) := by
  subst hx
  exact ⟨fun _ => h, fun y e => (nomatch e)⟩
theorem co_any {x : Option Nat} {A : Prop} {B : Nat → Prop} (hn : x = none → A) (hs : ∀ i : Nat, x = some i → B i) : (x = none → A) ∧ (∀ y : Nat, x = some y → B y) := ⟨hn, hs⟩
theorem co_2 {P : Nat → Prop} (h0 : P 0) (h1 : P 1) {i : Nat} (hi : i < 2) : P i :=
  match i, hi with
  | 0, _ => h0
  | 1, _ => h1
theorem co_3 {P : Nat → Prop} (h0 : P 0) (h1 : P 1) (h2 : P 2) {i : Nat} (hi : i < 3) : P i :=
  match i, hi with
  | 0, _ => h0
  | 1, _ => h1
  | 2, _ => h2
theorem co_4 {P : Nat → Prop} (h0 : P 0) (h1 : P 1) (h2 : P 2) (h3 : P 3) {i : Nat} (hi : i < 4) : P i :=
  match i, hi with
  | 0, _ => h0
  | 1, _ => h1
  | 2, _ => h2
  | 3, _ => h3
theorem co_dec {N : Nat} {P : Nat → Prop} [DecidablePred P] (h : (List.range N).all (fun i => decide (P i)) = true) {i : Nat} (hi : i < N) : P i := by
  have := List.all_eq_true.mp h i (List.mem_range.mpr hi)
  exact of_decide_eq_true this
theorem co_tab {α : Type} {l : List α} {d : α} {P : α → Prop} (h : ∀ a, a ∈ l → P a) {i : Nat} (hi : i < l.length) : P (l.getD i d) := by
  rw [List.getD_eq_getElem?_getD, List.getElem?_eq_getElem hi]
  exact h _ (List.getElem_mem hi)
theorem pk_mu {x : Int32} {L : Nat} (h0 : ¬ x < 0) (h : ¬ nI L ≤ x) (hL : L < 2 ^ 31) : ∃ j : Nat, j < L ∧ x = nI j ∧ x + 1 = nI (j + 1) ∧ x.toNatClampNeg = j ∧ L - (x + 1).toNatClampNeg < L - x.toNatClampNeg := by
  obtain ⟨j, hj, rfl⟩ := nI_of h0
  have hl : j < L := Nat.not_le.mp fun q => h (nI_le q hj)
  refine ⟨j, hl, rfl, nI_1 j, nI_clamp hj, ?_⟩
  rw [nI_1, nI_clamp (by omega), nI_clamp hj]
  omega
theorem op_s {α : Type} {r : Option α} {A : Prop} {B : α → Prop} {y : α} (h : r = some y) (b : B y) : (r = none → A) ∧ ∀ z, r = some z → B z :=
  ⟨fun e => (by rw [h] at e; cases e), fun z e => (by rw [h] at e; cases e; exact b)⟩
def l_holds {α : Type} (a : Nat → Option Nat) (LP : List Nat) (p : Nat → α) (c : Nat) (b : Nat → α) : Prop :=
  ∀ j, j < c → ∃ y, a j = some y ∧ y ∈ LP ∧ p y = b j
theorem l_holds_0 {α : Type} {a : Nat → Option Nat} {LP : List Nat} {p b : Nat → α} : l_holds a LP p 0 b := fun j h => absurd h (Nat.not_lt_zero j)
theorem l_in_new (LP : List Nat) (q : Nat) : q ∈ LP ++ [q] := List.mem_append.mpr (Or.inr (List.mem_singleton.mpr rfl))
def l_sum (b : Nat → Int32) : Nat → Int32
  | 0 => 0
  | k + 1 => l_sum b k + b k
theorem sb_shr0 (x : Int32) : x >>> ((0 : Int32) &&& 31) = x := by
  rw [show ((0 : Int32) &&& 31) = 0 by decide]
  simp
theorem sb_shl0 (x : Int32) : x <<< ((0 : Int32) &&& 31) = x := by
  rw [show ((0 : Int32) &&& 31) = 0 by decide]
  simp
theorem sb_cl0 : (0 : Int32).toNatClampNeg = 0 := by decide
theorem sb_m1 {p : Nat} (h : 0 < p) : nI p + (-1) = nI (p - 1) := by
  obtain ⟨q, rfl⟩ : ∃ q, p = q + 1 := ⟨p - 1, by omega⟩
  exact pk_m1 q
def sb_b (c : Nat) : Int32 := (nI c).toInt8.toInt32
theorem sb_byte : ∀ c, c < 256 → sb_b c &&& 255 = nI c ∧ ((nI c).toUInt32 % 65536).toInt32 = nI c ∧ nI c ≤ 255 := by decide +kernel
def sb_Fit (a : Nat → Int32) : Prop := ∀ j, fits .byte (.int (a j)) = true
def sb_Lat (t : Nat → Nat) (n : Nat) (a : Nat → Int32) : Prop := ∀ j, j < n → t j < 256 ∧ a j = sb_b (t j)
theorem sb_fitB (c : Nat) : fits .byte (.int (sb_b c)) = true := pk_fb _
theorem sb_fit0 : sb_Fit (fun _ => 0) := fun _ => by
  show fits .byte (.int 0) = true
  decide
theorem sb_fitU {a : Nat → Int32} {k : Nat} {x : Int32} (h : sb_Fit a) (hx : fits .byte (.int x) = true) : sb_Fit (upd a k x) := by
  intro j
  by_cases e : j = k
  · subst e
    rw [pk_us]
    exact hx
  · rw [pk_un e]
    exact h j
def sb_cat (t : Nat → Nat) (n : Nat) (s : Nat → Nat) : Nat → Nat := fun j => if j < n then t j else s (j - n)
theorem sb_cat_lo {t s : Nat → Nat} {n j : Nat} (h : j < n) : sb_cat t n s j = t j := if_pos h
theorem sb_cat_hi {t s : Nat → Nat} {n j : Nat} : sb_cat t n s (n + j) = s j := by
  show (if n + j < n then t (n + j) else s (n + j - n)) = s j
  rw [if_neg (by omega), Nat.add_sub_cancel_left]
theorem sb_latPut {t s : Nat → Nat} {n w : Nat} {a a' : Nat → Int32} (h : sb_Lat t n a) (hk : ∀ j, j < n → a' j = a j) (hs : ∀ i, i < w → s i < 256 ∧ a' (n + i) = sb_b (s i)) : sb_Lat (sb_cat t n s) (n + w) a' := by
  intro j hj
  by_cases e : j < n
  · rw [sb_cat_lo e, hk j e]
    exact h j e
  · obtain ⟨i, rfl⟩ : ∃ i, j = n + i := ⟨j - n, by omega⟩
    rw [sb_cat_hi]
    exact hs i (by omega)
theorem sb_latKeep {t : Nat → Nat} {n : Nat} {a a' : Nat → Int32} (h : sb_Lat t n a) (hk : ∀ j, j < n → a' j = a j) : sb_Lat t n a' := fun j hj => by
  rw [hk j hj]
  exact h j hj
def sb_cap (q m : Nat) : Nat := if q ≤ m then m else if 2 * m + 2 < q then q else 2 * m + 2
def sb_Room (q m mc ms : Nat) : Prop := q ≤ m ∨ (1 ≤ mc ∧ sb_cap q m ≤ ms ∧ sb_cap q m ≤ 65536)
theorem sb_cap_ge (q m : Nat) : q ≤ sb_cap q m := by
  unfold sb_cap
  split
  · omega
  · split <;> omega
theorem sb_cap_gem (q m : Nat) : m ≤ sb_cap q m := by
  unfold sb_cap
  split
  · omega
  · split <;> omega
theorem sb_cap_le {q m mc ms : Nat} (hm : m ≤ 65536) (hr : sb_Room q m mc ms) : sb_cap q m ≤ 65536 := by
  rcases hr with h | h
  · rw [sb_cap, if_pos h]
    exact hm
  · exact h.2.2
theorem sb_at {P : Int32 → Prop} {x y : Int32} (e : x = y) (h : P y) : P x := e ▸ h
def sb_dg (w : Nat) : Nat := if w < 10 then 1 else if w < 100 then 2 else if w < 1000 then 3 else if w < 10000 then 4 else if w < 100000 then 5 else if w < 1000000 then 6 else if w < 10000000 then 7 else if w < 100000000 then 8 else if w < 1000000000 then 9 else 10
def sb_dec (v : Nat) : Nat → Nat := fun i => 48 + v / 10 ^ (sb_dg v - 1 - i) % 10
theorem sb_dg_in (w : Nat) : 1 ≤ sb_dg w ∧ sb_dg w ≤ 10 := by
  unfold sb_dg
  constructor <;> (repeat' split) <;> omega
theorem sb_dg100 {w : Nat} (h : 100 ≤ w) (hw : w < 2 ^ 31) : sb_dg w = sb_dg (w / 100) + 2 := by
  rw [sb_dg, sb_dg, if_neg (show ¬ w < 10 by omega), if_neg (show ¬ w < 100 by omega)]
  by_cases h3 : w < 1000
  · rw [if_pos h3, if_pos (show w / 100 < 10 by omega)]
  rw [if_neg h3, if_neg (show ¬ w / 100 < 10 by omega)]
  by_cases h4 : w < 10000
  · rw [if_pos h4, if_pos (show w / 100 < 100 by omega)]
  rw [if_neg h4, if_neg (show ¬ w / 100 < 100 by omega)]
  by_cases h5 : w < 100000
  · rw [if_pos h5, if_pos (show w / 100 < 1000 by omega)]
  rw [if_neg h5, if_neg (show ¬ w / 100 < 1000 by omega)]
  by_cases h6 : w < 1000000
  · rw [if_pos h6, if_pos (show w / 100 < 10000 by omega)]
  rw [if_neg h6, if_neg (show ¬ w / 100 < 10000 by omega)]
  by_cases h7 : w < 10000000
  · rw [if_pos h7, if_pos (show w / 100 < 100000 by omega)]
  rw [if_neg h7, if_neg (show ¬ w / 100 < 100000 by omega)]
  by_cases h8 : w < 100000000
  · rw [if_pos h8, if_pos (show w / 100 < 1000000 by omega)]
  rw [if_neg h8, if_neg (show ¬ w / 100 < 1000000 by omega)]
  by_cases h9 : w < 1000000000
  · rw [if_pos h9, if_pos (show w / 100 < 10000000 by omega)]
  rw [if_neg h9, if_neg (show ¬ w / 100 < 10000000 by omega)]
  rw [if_pos (show w / 100 < 100000000 by omega)]
theorem sb_negT {w : Nat} (h : w < 2 ^ 31) : (-nI w).toInt = -(w : Int) := by
  rw [Int32.toInt_neg, nI_toInt h]
  exact Int.bmod_eq_of_le (by omega) (by omega)
theorem sb_nle {a b : Nat} (ha : a < 2 ^ 31) (hb : b < 2 ^ 31) : -nI a ≤ -nI b ↔ b ≤ a := by
  rw [Int32.le_iff_toInt_le, sb_negT ha, sb_negT hb]
  omega
theorem sb_nlt {a b : Nat} (ha : a < 2 ^ 31) (hb : b < 2 ^ 31) : -nI a < -nI b ↔ b < a := by
  rw [Int32.lt_iff_toInt_lt, sb_negT ha, sb_negT hb]
  omega
theorem sb_cmp {A B : Prop} {x : Int32} (v c : Nat) (f : c ≤ v → A) (g : v < c → B) (hv : v < 2 ^ 31) (hx : x = -nI c := by rfl) (hc : c < 2 ^ 31 := by omega) : (-nI v ≤ x → A) ∧ (¬ -nI v ≤ x → B) := by
  subst hx
  rw [sb_nle hv hc]
  exact ⟨f, fun z => g (by omega)⟩
theorem sb_ndiv {w : Nat} (hw : w < 2 ^ 31) : (-nI w) / 100 = -nI (w / 100) := by
  apply Int32.toInt_inj.mp
  have h100 : (100 : Int32).toInt = 100 := by decide
  rw [Int32.toInt_div, sb_negT hw, h100, sb_negT (by omega), Int.neg_tdiv, Int.tdiv_eq_ediv_of_nonneg (by omega), Int.bmod_eq_of_le (by omega) (by omega)]
  omega
theorem sb_nrem {w : Nat} (hw : w < 2 ^ 31) : (-nI (w / 100)) * 100 - (-nI w) = nI (w % 100) := by
  have h := pk_rem (a := w) (d := 100) hw (by decide) (by decide)
  rw [pk_div hw (by decide) (by decide)] at h
  rw [← h]
  show (-nI (w / 100)) * nI 100 - (-nI w) = nI w - nI (w / 100) * nI 100
  rw [Int32.neg_mul, Int32.sub_neg, Int32.add_comm, ← Int32.sub_eq_add_neg]
end
section
/-! rows on bits, shifts and unsigned numbers, to paste: each family out of a closed proof of our own, whole with what it rests on; each by itself clean at Lean in its own claim (generation 39, form 5). Take a family whole -/
/-! ===== Int32 by its bits: bt x i ===== -/
def bt (x : Int32) (i : Nat) : Bool := x.toBitVec.getLsbD i
theorem b_ext {x y : Int32} (h : ∀ i, i < 32 → bt x i = bt y i) : x = y := Int32.toBitVec_inj.mp (BitVec.eq_of_getLsbD_eq (fun i hi => h i hi))
theorem b_or (x y : Int32) (i : Nat) : bt (x ||| y) i = (bt x i || bt y i) := by unfold bt; rw [Int32.toBitVec_or, BitVec.getLsbD_or]
theorem b_and (x y : Int32) (i : Nat) : bt (x &&& y) i = (bt x i && bt y i) := by unfold bt; rw [Int32.toBitVec_and, BitVec.getLsbD_and]
theorem b_xor (x y : Int32) (i : Nat) : bt (x ^^^ y) i = (bt x i ^^ bt y i) := by unfold bt; rw [Int32.toBitVec_xor, BitVec.getLsbD_xor]
theorem b_big {x : Int32} {i : Nat} (h : 32 ≤ i) : bt x i = false := BitVec.getLsbD_of_ge _ _ h
theorem b_255 (i : Nat) : bt 255 i = decide (i < 8) := by
  rcases Nat.lt_or_ge i 32 with h | h
  · exact (by decide +kernel : ∀ i, i < 32 → bt 255 i = decide (i < 8)) i h
  · rw [b_big h, decide_eq_false (by omega)]
theorem b_65535 (i : Nat) : bt 65535 i = decide (i < 16) := by
  rcases Nat.lt_or_ge i 32 with h | h
  · exact (by decide +kernel : ∀ i, i < 32 → bt 65535 i = decide (i < 16)) i h
  · rw [b_big h, decide_eq_false (by omega)]
theorem b_m1 : ∀ i, i < 32 → bt (-1) i = true := by decide +kernel
theorem b_0 (i : Nat) : bt 0 i = false := BitVec.getLsbD_zero
theorem s_l : ∀ n, n < 32 → ((nI n &&& 31).toBitVec.smod 32).toNat = n := by decide +kernel
theorem s_u : ∀ n, n < 32 → (((nI n).toUInt32 &&& Int32.toUInt32 31).toBitVec % 32).toNat = n := by decide +kernel
theorem b_shl (n : Nat) (hn : n < 32) (x : Int32) {i : Nat} (hi : i < 32) : bt (x <<< (nI n &&& 31)) i = (decide (n ≤ i) && bt x (i - n)) := by
  unfold bt
  rw [Int32.toBitVec_shiftLeft]
  show (x.toBitVec <<< ((nI n &&& 31).toBitVec.smod 32).toNat).getLsbD i = _
  rw [s_l n hn, BitVec.getLsbD_shiftLeft]
  rcases Nat.lt_or_ge i n with h | h
  · simp [h, Nat.not_le.mpr h]
  · simp [hi, h, Nat.not_lt.mpr h]
theorem b_ushr (n : Nat) (hn : n < 32) (x : Int32) (i : Nat) : bt ((x.toUInt32 >>> ((nI n).toUInt32 &&& Int32.toUInt32 31)).toInt32) i = bt x (n + i) := by
  show (x.toUInt32 >>> ((nI n).toUInt32 &&& Int32.toUInt32 31)).toBitVec.getLsbD i = x.toUInt32.toBitVec.getLsbD (n + i)
  rw [UInt32.toBitVec_shiftRight]
  show (x.toUInt32.toBitVec >>> (((nI n).toUInt32 &&& Int32.toUInt32 31).toBitVec % 32).toNat).getLsbD i = _
  rw [s_u n hn, BitVec.getLsbD_ushiftRight]
theorem b_sshr (n : Nat) (hn : n < 32) (x : Int32) {i : Nat} (hi : i < 32) : bt (x >>> (nI n &&& 31)) i = if n + i < 32 then bt x (n + i) else bt x 31 := by
  unfold bt
  rw [Int32.toBitVec_shiftRight]
  show (x.toBitVec.sshiftRight ((nI n &&& 31).toBitVec.smod 32).toNat).getLsbD i = _
  rw [s_l n hn, BitVec.getLsbD_sshiftRight, BitVec.msb_eq_getLsbD_last]
  simp [hi]
theorem b_shl8 (x : Int32) {i : Nat} (hi : i < 32) : bt (x <<< ((8 : Int32) &&& 31)) i = (decide (8 ≤ i) && bt x (i - 8)) := b_shl 8 (by omega) x hi
theorem b_shl16 (x : Int32) {i : Nat} (hi : i < 32) : bt (x <<< ((16 : Int32) &&& 31)) i = (decide (16 ≤ i) && bt x (i - 16)) := b_shl 16 (by omega) x hi
theorem b_shl24 (x : Int32) {i : Nat} (hi : i < 32) : bt (x <<< ((24 : Int32) &&& 31)) i = (decide (24 ≤ i) && bt x (i - 24)) := b_shl 24 (by omega) x hi
theorem b_sshr8 (x : Int32) {i : Nat} (hi : i < 32) : bt (x >>> ((8 : Int32) &&& 31)) i = if 8 + i < 32 then bt x (8 + i) else bt x 31 := b_sshr 8 (by omega) x hi
/-! ===== nI under and, xor, >>>, one bit, 65535 ===== -/
theorem nx_and (a b : Nat) : nI a &&& nI b = nI (a &&& b) := by
  apply Int32.toBitVec_inj.1
  show BitVec.ofNat 32 a &&& BitVec.ofNat 32 b = BitVec.ofNat 32 (a &&& b)
  apply BitVec.eq_of_getLsbD_eq
  intro i hi
  simp [hi]
theorem nx_xor (a b : Nat) : nI a ^^^ nI b = nI (a ^^^ b) := by
  apply Int32.toBitVec_inj.1
  show BitVec.ofNat 32 a ^^^ BitVec.ofNat 32 b = BitVec.ofNat 32 (a ^^^ b)
  apply BitVec.eq_of_getLsbD_eq
  intro i hi
  simp [hi]
theorem nx_cnt : ∀ j : Fin 32, (UInt32.ofNat j.val &&& Int32.toUInt32 31).toNat % 32 = j.val := by decide +kernel
theorem nx_ush {k j : Nat} (hk : k < 65536) (hj : j < 32) : ((nI k).toUInt32 >>> ((nI j).toUInt32 &&& Int32.toUInt32 31)).toInt32 = nI (k >>> j) := by
  have hs : k >>> j ≤ k := by
    rw [Nat.shiftRight_eq_div_pow]
    exact Nat.div_le_self _ _
  have e2 : UInt32.ofNat k >>> (UInt32.ofNat j &&& Int32.toUInt32 31) = UInt32.ofNat (k >>> j) := by
    apply UInt32.toNat_inj.1
    have h1 : (UInt32.ofNat k).toNat = k := Nat.mod_eq_of_lt (by omega)
    have h2 : (UInt32.ofNat (k >>> j)).toNat = k >>> j := Nat.mod_eq_of_lt (by omega)
    rw [UInt32.toNat_shiftRight, nx_cnt ⟨j, hj⟩, h1, h2]
  show (UInt32.ofNat k >>> (UInt32.ofNat j &&& Int32.toUInt32 31)).toInt32 = _
  rw [e2]
  rfl
theorem nx_bit {k j : Nat} (hk : k < 65536) (hj : j < 16) : (((nI k).toUInt32 >>> ((nI j).toUInt32 &&& Int32.toUInt32 31)).toInt32 &&& 1) = 0 ↔ k.testBit j = false := by
  rw [nx_ush hk (by omega)]
  show nI (k >>> j) &&& nI 1 = 0 ↔ _
  rw [nx_and, Nat.and_one_is_mod, ← nI_0, nI_eq (by omega) (by omega), Nat.testBit_eq_decide_div_mod_eq, Nat.shiftRight_eq_div_pow, decide_eq_false_iff_not]
  generalize k / 2 ^ j = z
  omega
theorem nx_mod (k : Nat) : nI k &&& 65535 = nI (k % 65536) := by
  show nI k &&& nI 65535 = _
  rw [nx_and, show (65535 : Nat) = 2 ^ 16 - 1 from rfl, Nat.and_two_pow_sub_one_eq_mod]
theorem nx_m16 {k : Nat} (h : k < 65536) : nI k &&& 65535 = nI k := by rw [nx_mod, Nat.mod_eq_of_lt h]
theorem nx_mask (x : Int32) : ∃ k, k < 65536 ∧ x &&& 65535 = nI k := by
  have e : x = nI x.toBitVec.toNat := by
    apply Int32.toBitVec_inj.1
    show x.toBitVec = BitVec.ofNat 32 x.toBitVec.toNat
    simp
  refine ⟨x.toBitVec.toNat % 65536, Nat.mod_lt _ (by omega), ?_⟩
  rw [← nx_mod, ← e]
end
section
/-! ints: iI z = Int32.ofInt z -/
def iI (z : Int) : Int32 := Int32.ofInt z
theorem zi_add (a b : Int) : iI a + iI b = iI (a + b) := (Int32.ofInt_add a b).symm
theorem zi_sub (a b : Int) : iI a - iI b = iI (a - b) := (Int32.ofInt_sub a b).symm
theorem zi_mul (a b : Int) : iI a * iI b = iI (a * b) := (Int32.ofInt_mul a b).symm
theorem zi_neg (a : Int) : -iI a = iI (-a) := (Int32.ofInt_neg a).symm
theorem zi_n (n : Nat) : iI (n : Int) = nI n := Int32.ofInt_eq_ofNat
theorem zi_nn {z : Int} (h : 0 ≤ z) : iI z = nI z.toNat := by
  rw [← zi_n]; exact congrArg iI (by omega)
theorem zi_toInt {z : Int} (h1 : -2147483648 ≤ z) (h2 : z < 2147483648) : (iI z).toInt = z := Int32.toInt_ofInt_of_le h1 h2
theorem zi_lt {a b : Int} (a1 : -2147483648 ≤ a) (a2 : a < 2147483648) (b1 : -2147483648 ≤ b) (b2 : b < 2147483648) : iI a < iI b ↔ a < b := by
  rw [Int32.lt_iff_toInt_lt, zi_toInt a1 a2, zi_toInt b1 b2]
theorem zi_le {a b : Int} (a1 : -2147483648 ≤ a) (a2 : a < 2147483648) (b1 : -2147483648 ≤ b) (b2 : b < 2147483648) : iI a ≤ iI b ↔ a ≤ b := by
  rw [Int32.le_iff_toInt_le, zi_toInt a1 a2, zi_toInt b1 b2]
theorem zi_eq {a b : Int} (a1 : -2147483648 ≤ a) (a2 : a < 2147483648) (b1 : -2147483648 ≤ b) (b2 : b < 2147483648) : iI a = iI b ↔ a = b := by
  constructor
  · intro h
    have h2 := congrArg Int32.toInt h
    rwa [zi_toInt a1 a2, zi_toInt b1 b2] at h2
  · intro h; rw [h]
theorem zi_of (x : Int32) : x = iI x.toInt := (Int32.ofInt_toInt x).symm
theorem zi_shr {z : Int} (h1 : -2147483648 ≤ z) (h2 : z < 2147483648) (k : Nat) (hk : k < 32) : iI z >>> (nI k &&& 31) = iI (z / 2 ^ k) := by
  apply Int32.toInt_inj.mp
  rw [pk_shr _ _ k (s_l k hk), zi_toInt h1 h2, Int.shiftRight_eq_div_pow]
  have hp : (0 : Int) < ((2 ^ k : Nat) : Int) := by exact_mod_cast Nat.two_pow_pos k
  have e : ((2 ^ k : Nat) : Int) = 2 ^ k := by simp
  rw [e] at hp ⊢
  have hd1 : -2147483648 ≤ z / 2 ^ k := by
    apply Int.le_ediv_of_mul_le hp
    have : (1 : Int) ≤ 2 ^ k := by omega
    omega
  have hd2 : z / 2 ^ k < 2147483648 := by
    apply Int.ediv_lt_of_lt_mul hp
    have : (1 : Int) ≤ 2 ^ k := by omega
    omega
  rw [zi_toInt hd1 hd2]
theorem zi_un (z : Int) : (iI z).toBitVec.toNat = (z % 4294967296).toNat := by
  show (BitVec.ofInt 32 z).toNat = _
  rw [BitVec.toNat_ofInt]
  rfl
theorem zi_and1 (z : Int) : iI z &&& 1 = iI (z % 2) := by
  rw [pk_and (iI z) (m := 1) 1 (by decide), zi_un, ← zi_n]
  exact congrArg iI (by omega)
/-- a bit as an int -/
def b01 (b : Bool) : Int32 := if b then 1 else 0
theorem zi_bit (x : Int32) (k : Nat) (hk : k < 32) : (x >>> (nI k &&& 31)) &&& 1 = b01 (decide (x.toBitVec.toNat / 2 ^ k % 2 = 1)) := by
  rw [pk_and _ (m := 1) 1 (by decide)]
  have h0 := b_sshr k hk x (i := 0) (by omega)
  unfold bt at h0
  rw [if_pos (by omega), Nat.add_zero] at h0
  have e1 : (x >>> (nI k &&& 31)).toBitVec.getLsbD 0 = decide ((x >>> (nI k &&& 31)).toBitVec.toNat % 2 = 1) := by
    show Nat.testBit _ 0 = _
    rw [Nat.testBit_zero]
  have e2 : x.toBitVec.getLsbD k = decide (x.toBitVec.toNat / 2 ^ k % 2 = 1) := by
    show Nat.testBit _ k = _
    rw [Nat.testBit_eq_decide_div_mod_eq]
  rw [e1, e2] at h0
  rw [← h0]
  unfold b01
  by_cases h : (x >>> (nI k &&& 31)).toBitVec.toNat % 2 = 1
  · rw [decide_eq_true h]
    show nI (_ % 2) = 1
    rw [h]; rfl
  · rw [decide_eq_false h]
    have : (x >>> (nI k &&& 31)).toBitVec.toNat % 2 = 0 := by omega
    show nI (_ % 2) = 0
    rw [this]; rfl
theorem nx_or (a b : Nat) : nI a ||| nI b = nI (a ||| b) := by
  apply Int32.toBitVec_inj.1
  show BitVec.ofNat 32 a ||| BitVec.ofNat 32 b = BitVec.ofNat 32 (a ||| b)
  apply BitVec.eq_of_getLsbD_eq
  intro i hi
  simp [hi]
theorem zi_shlN {n k : Nat} (hk : k < 32) (h : n * 2 ^ k < 2 ^ 32) : nI n <<< (nI k &&& 31) = nI (n * 2 ^ k) := pk_shlN _ k (s_l k hk) h
theorem zi_shrN {n k : Nat} (hn : n < 2 ^ 31) (hk : k < 32) : nI n >>> (nI k &&& 31) = nI (n / 2 ^ k) := pk_shrN hn _ k (s_l k hk)
theorem zi_1shl {k : Nat} (hk : k < 31) : (1 : Int32) <<< (nI k &&& 31) = nI (2 ^ k) := by
  have h := zi_shlN (n := 1) (k := k) (by omega) (by rw [Nat.one_mul]; exact Nat.pow_lt_pow_right (by decide) (by omega))
  rw [Nat.one_mul] at h
  exact h
theorem zi_orlo {a b k : Nat} (hb : b < 2 ^ k) : nI (a * 2 ^ k) ||| nI b = nI (a * 2 ^ k + b) := by
  rw [nx_or, Nat.mul_comm a, Nat.two_pow_add_eq_or_of_lt hb]
theorem zi_m1 (z : Int) : iI z + (-1) = iI (z - 1) := by
  show iI z + iI (-1) = _
  rw [zi_add]; exact congrArg iI (by omega)
theorem zi_m1lt {n : Nat} (h : n < 2 ^ 31) : ¬ nI n = -1 := by
  intro e
  have e2 : iI (n : Int) = iI (-1) := by rw [zi_n]; exact e
  rw [zi_eq (by omega) (by omega) (by omega) (by omega)] at e2
  omega
end
section
/-! pure: differences, folds, costs, the lowest parameter -/
def dI (x : Nat → Int) : Nat → Nat → Int
  | 0, t => x t
  | o + 1, t => dI x o t - dI x o (t - 1)
theorem dI_bd {x : Nat → Int} {n : Nat} (h : ∀ t, t < n → -4096 < x t ∧ x t < 4096) : ∀ o t, o ≤ t → t < n → -(4096 * 2 ^ o) < dI x o t ∧ dI x o t < 4096 * 2 ^ o := by
  intro o
  induction o with
  | zero => intro t _ ht; have := h t ht; simp only [dI]; omega
  | succ o ih =>
    intro t h1 h2
    have a := ih t (by omega) h2
    have b := ih (t - 1) (by omega) (by omega)
    simp only [dI]
    rw [Int.pow_succ]
    generalize (2 : Int) ^ o = q at a b ⊢
    omega
theorem dI_bd4 {x : Nat → Int} {n : Nat} (h : ∀ t, t < n → -4096 < x t ∧ x t < 4096) {o t : Nat} (ho : o ≤ 4) (ht : o ≤ t) (hn : t < n) : -65536 < dI x o t ∧ dI x o t < 65536 := by
  have a := dI_bd h o t ht hn
  have : (2 : Int) ^ o ≤ 16 := by
    have : o = 0 ∨ o = 1 ∨ o = 2 ∨ o = 3 ∨ o = 4 := by omega
    rcases this with rfl | rfl | rfl | rfl | rfl <;> decide
  omega
def fo (z : Int) : Nat := if z < 0 then (-2 * z - 1).toNat else (2 * z).toNat
theorem fo_lt {z : Int} (h : -65536 < z ∧ z < 65536) : fo z < 131072 := by
  unfold fo; split <;> omega
def ps (U : Nat → Nat) (k a : Nat) : Nat → Nat
  | 0 => 0
  | c + 1 => ps U k a c + (U (a + c) / 2 ^ k + 1 + k)
theorem ps_lt {U : Nat → Nat} {k a : Nat} (hk : k ≤ 14) : ∀ c, (∀ i, i < c → U (a + i) < 131072) → ps U k a c ≤ c * 131087 := by
  intro c
  induction c with
  | zero => intro _; simp [ps]
  | succ c ih =>
    intro h
    have h1 := ih (fun i hi => h i (by omega))
    have h2 := h c (by omega)
    have h3 : U (a + c) / 2 ^ k ≤ U (a + c) := Nat.div_le_self _ _
    simp only [ps]
    rw [Nat.succ_mul]
    omega
theorem ps_cvx (U : Nat → Nat) (k a : Nat) : ∀ c, 2 * ps U (k + 1) a c ≤ ps U k a c + ps U (k + 2) a c := by
  intro c
  induction c with
  | zero => simp [ps]
  | succ c ih =>
    simp only [ps]
    have e1 : U (a + c) / 2 ^ (k + 1) = U (a + c) / 2 ^ k / 2 := by rw [Nat.pow_succ, Nat.div_div_eq_div_mul]
    have e2 : U (a + c) / 2 ^ (k + 2) = U (a + c) / 2 ^ k / 2 / 2 := by
      rw [Nat.pow_succ, Nat.pow_succ, Nat.div_div_eq_div_mul, Nat.div_div_eq_div_mul, Nat.mul_assoc]
    rw [e1, e2]
    generalize U (a + c) / 2 ^ k = m
    omega
/-- the lowest of 0 .. m with the least c -/
def kb (c : Nat → Nat) : Nat → Nat
  | 0 => 0
  | m + 1 => if c (m + 1) < c (kb c m) then m + 1 else kb c m
theorem kb_le (c : Nat → Nat) : ∀ m, kb c m ≤ m := by
  intro m
  induction m with
  | zero => simp [kb]
  | succ m ih => simp only [kb]; split <;> omega
theorem kb_min (c : Nat → Nat) : ∀ m j, j ≤ m → c (kb c m) ≤ c j := by
  intro m
  induction m with
  | zero => intro j hj; have : j = 0 := by omega
            rw [this]; simp [kb]
  | succ m ih =>
    intro j hj
    simp only [kb]
    by_cases h : c (m + 1) < c (kb c m)
    · rw [if_pos h]
      by_cases e : j = m + 1
      · rw [e]; exact Nat.le_refl _
      · have := ih j (by omega); omega
    · rw [if_neg h]
      by_cases e : j = m + 1
      · rw [e]; omega
      · exact ih j (by omega)
theorem kb_go {c : Nat → Nat} {k : Nat} (h : kb c k = k) (h2 : c (k + 1) < c k) : kb c (k + 1) = k + 1 := by
  simp only [kb]; rw [h, if_pos h2]
theorem kb_stop {c : Nat → Nat} (hc : ∀ k, 2 * c (k + 1) ≤ c k + c (k + 2)) {k : Nat} (h : kb c k = k) (h2 : c k ≤ c (k + 1)) : ∀ m, kb c (k + m) = k := by
  have mono : ∀ m, c (k + m) ≤ c (k + m + 1) := by
    intro m
    induction m with
    | zero => exact h2
    | succ m ih =>
      have := hc (k + m)
      rw [show k + (m + 1) = k + m + 1 from rfl]
      rw [show k + m + 2 = k + m + 1 + 1 from rfl] at this
      omega
  have low : ∀ m, c k ≤ c (k + m) := by
    intro m
    induction m with
    | zero => exact Nat.le_refl _
    | succ m ih => have := mono m; rw [show k + (m + 1) = k + m + 1 from rfl]; omega
  intro m
  induction m with
  | zero => exact h
  | succ m ih =>
    rw [show k + (m + 1) = k + m + 1 from rfl]
    simp only [kb]
    rw [ih, if_neg]
    have := low (m + 1)
    rw [show k + (m + 1) = k + m + 1 from rfl] at this
    omega
/-! signals and plans -/
def sg (l r : Nat → Int) (s t : Nat) : Int := if s = 0 then l t else if s = 1 then r t else if s = 2 then (l t + r t) / 2 else l t - r t
def wd (b s : Nat) : Nat := if s = 3 then b + 1 else b
def uu (l r : Nat → Int) (s o t : Nat) : Nat := fo (dI (sg l r s) o t)
def pfr (n o p j : Nat) : Nat := if j = 0 then o else j * (n / 2 ^ p)
def pc (l r : Nat → Int) (n s o p j k : Nat) : Nat := 4 + ps (uu l r s o) k (pfr n o p j) ((j + 1) * (n / 2 ^ p) - pfr n o p j)
def kk (l r : Nat → Int) (n s o p j : Nat) : Nat := kb (pc l r n s o p j) 14
def sps (l r : Nat → Int) (n s o p : Nat) : Nat → Nat
  | 0 => 0
  | j + 1 => sps l r n s o p j + pc l r n s o p j (kk l r n s o p j)
def tb (b : Nat) (l r : Nat → Int) (n s ty p : Nat) : Option Nat :=
  if ty = 0 then (if p = 0 ∧ ∀ t, t < n → sg l r s t = sg l r s 0 then some (3 + wd b s) else none)
  else if ty = 1 then (if p = 0 then some (3 + n * wd b s) else none)
  else (if n % 2 ^ p = 0 ∧ ty - 2 ≤ n / 2 ^ p then some (3 + (ty - 2) * wd b s + 2 + sps l r n s (ty - 2) p (2 ^ p)) else none)
def oI : Option Nat → Int32
  | none => -1
  | some m => nI m
/-- in range: b bits, n pairs -/
def rng (b : Nat) (l r : Nat → Int) (n : Nat) : Prop := ∀ t, t < n → (-(2 ^ (b - 1)) ≤ l t ∧ l t < 2 ^ (b - 1)) ∧ (-(2 ^ (b - 1)) ≤ r t ∧ r t < 2 ^ (b - 1))
theorem rng_pw {b : Nat} (h1 : 4 ≤ b) (h2 : b ≤ 12) : (8 : Int) ≤ 2 ^ (b - 1) ∧ (2 : Int) ^ (b - 1) ≤ 2048 := by
  have : b = 4 ∨ b = 5 ∨ b = 6 ∨ b = 7 ∨ b = 8 ∨ b = 9 ∨ b = 10 ∨ b = 11 ∨ b = 12 := by omega
  rcases this with rfl | rfl | rfl | rfl | rfl | rfl | rfl | rfl | rfl <;> decide
theorem rng_sg {b : Nat} {l r : Nat → Int} {n : Nat} (h1 : 4 ≤ b) (h2 : b ≤ 12) (h : rng b l r n) (s : Nat) : ∀ t, t < n → -4096 < sg l r s t ∧ sg l r s t < 4096 := by
  intro t ht
  have a := h t ht
  have c := rng_pw h1 h2
  unfold sg
  split
  · omega
  · split
    · omega
    · split <;> omega
theorem rng_w {b : Nat} {l r : Nat → Int} {n : Nat} (h1 : 4 ≤ b) (h2 : b ≤ 12) (h : rng b l r n) {s : Nat} (hs : s < 4) : ∀ t, t < n → -(2 ^ (wd b s - 1)) ≤ sg l r s t ∧ sg l r s t < 2 ^ (wd b s - 1) := by
  intro t ht
  have a := h t ht
  have e : (2 : Int) ^ (b + 1 - 1) = 2 ^ (b - 1) * 2 := by
    rw [← Int.pow_succ]; congr 1; omega
  have c := rng_pw h1 h2
  unfold sg wd
  by_cases s3 : s = 3
  · rw [if_pos s3, e, if_neg (by omega), if_neg (by omega), if_neg (by omega)]
    omega
  · rw [if_neg s3]
    by_cases s0 : s = 0
    · rw [if_pos s0]; omega
    · rw [if_neg s0]
      by_cases s1 : s = 1
      · rw [if_pos s1]; omega
      · rw [if_neg s1]
        by_cases s2 : s = 2
        · rw [if_pos s2]; omega
        · omega
end
section
/-! bounds of the costs, the scan for the best coding, the plan -/
section
variable {b : Nat} {l r : Nat → Int} {n : Nat}
theorem uu_lt (h1 : 4 ≤ b) (h2 : b ≤ 12) (h : rng b l r n) {s o t : Nat} (ho : o ≤ 4) (ht : o ≤ t) (hn : t < n) : uu l r s o t < 131072 :=
  fo_lt (dI_bd4 (rng_sg h1 h2 h s) ho ht hn)
theorem pfr_ge {o p j : Nat} (hof : o ≤ n / 2 ^ p) : o ≤ pfr n o p j := by
  unfold pfr
  split
  · exact Nat.le_refl _
  · rename_i h
    have : 1 * (n / 2 ^ p) ≤ j * (n / 2 ^ p) := Nat.mul_le_mul_right _ (by omega)
    omega
theorem pto_le {p j : Nat} (hj : j < 2 ^ p) : (j + 1) * (n / 2 ^ p) ≤ n := by
  have a : (j + 1) * (n / 2 ^ p) ≤ 2 ^ p * (n / 2 ^ p) := Nat.mul_le_mul_right _ (by omega)
  have c : 2 ^ p * (n / 2 ^ p) ≤ n := Nat.mul_div_le _ _
  omega
theorem pfr_le {o p j : Nat} (hof : o ≤ n / 2 ^ p) : pfr n o p j ≤ (j + 1) * (n / 2 ^ p) := by
  unfold pfr
  split
  · rename_i h; rw [h]; omega
  · rw [Nat.succ_mul]; omega
theorem pc_lt (h1 : 4 ≤ b) (h2 : b ≤ 12) (h : rng b l r n) (hn : n ≤ 16) {s o p j k : Nat} (ho : o ≤ 4) (hof : o ≤ n / 2 ^ p) (hj : j < 2 ^ p) (hk : k ≤ 14) : pc l r n s o p j k ≤ 2097396 := by
  unfold pc
  have h3 := pto_le (n := n) hj
  have h4 := pfr_ge (n := n) (p := p) (j := j) hof
  have h5 := ps_lt (U := uu l r s o) (a := pfr n o p j) hk ((j + 1) * (n / 2 ^ p) - pfr n o p j) (fun i hi => uu_lt h1 h2 h ho (by omega) (by omega))
  have h6 : ((j + 1) * (n / 2 ^ p) - pfr n o p j) * 131087 ≤ 16 * 131087 := Nat.mul_le_mul_right _ (by omega)
  omega
theorem pc_ge {s o p j k : Nat} : 4 ≤ pc l r n s o p j k := by unfold pc; omega
theorem pc_cvx {s o p j : Nat} (k : Nat) : 2 * pc l r n s o p j (k + 1) ≤ pc l r n s o p j k + pc l r n s o p j (k + 2) := by
  unfold pc
  have := ps_cvx (uu l r s o) k (pfr n o p j) ((j + 1) * (n / 2 ^ p) - pfr n o p j)
  omega
theorem kk_le {s o p j : Nat} : kk l r n s o p j ≤ 14 := kb_le _ _
theorem sps_lt (h1 : 4 ≤ b) (h2 : b ≤ 12) (h : rng b l r n) (hn : n ≤ 16) {s o p : Nat} (ho : o ≤ 4) (hof : o ≤ n / 2 ^ p) : ∀ J, J ≤ 2 ^ p → sps l r n s o p J ≤ J * 2097396 := by
  intro J
  induction J with
  | zero => intro _; simp [sps]
  | succ J ih =>
    intro hJ
    have a := ih (by omega)
    have c := pc_lt h1 h2 h hn (s := s) ho hof (j := J) (by omega) (kk_le (l := l) (r := r) (n := n) (s := s) (o := o) (p := p) (j := J))
    simp only [sps]
    rw [Nat.succ_mul]; omega
theorem sps_ge {s o p : Nat} : ∀ J, J * 4 ≤ sps l r n s o p J := by
  intro J
  induction J with
  | zero => simp
  | succ J ih =>
    simp only [sps]
    have := pc_ge (l := l) (r := r) (n := n) (s := s) (o := o) (p := p) (j := J) (k := kk l r n s o p J)
    rw [Nat.succ_mul]; omega
theorem wd_bd (h1 : 4 ≤ b) (h2 : b ≤ 12) (s : Nat) : 4 ≤ wd b s ∧ wd b s ≤ 13 := by
  unfold wd; split <;> omega
theorem p4 {p : Nat} (hp : p ≤ 2) : 1 ≤ 2 ^ p ∧ 2 ^ p ≤ 4 := by
  have : p = 0 ∨ p = 1 ∨ p = 2 := by omega
  rcases this with rfl | rfl | rfl <;> decide
theorem tb_bd (h1 : 4 ≤ b) (h2 : b ≤ 12) (h : rng b l r n) (hn0 : 1 ≤ n) (hn : n ≤ 16) {s ty p m : Nat} (hty : ty ≤ 6) (hp : p ≤ 2) (e : tb b l r n s ty p = some m) : 7 ≤ m ∧ m ≤ 9000000 := by
  have w := wd_bd h1 h2 s
  unfold tb at e
  split at e
  · split at e
    · cases e; omega
    · cases e
  · split at e
    · split at e
      · cases e
        have a : 1 * wd b s ≤ n * wd b s := Nat.mul_le_mul_right _ hn0
        have c : n * wd b s ≤ 16 * 13 := Nat.mul_le_mul hn w.2
        omega
      · cases e
    · split at e
      · rename_i hof
        cases e
        have a := sps_lt h1 h2 h hn (s := s) (o := ty - 2) (by omega) hof.2 (2 ^ p) (Nat.le_refl _)
        have c := sps_ge (l := l) (r := r) (n := n) (s := s) (o := ty - 2) (p := p) (2 ^ p)
        have d := p4 hp
        have f : (ty - 2) * wd b s ≤ 4 * 13 := Nat.mul_le_mul (by omega) w.2
        have g : 2 ^ p * 2097396 ≤ 4 * 2097396 := Nat.mul_le_mul_right _ d.2
        omega
      · cases e
end
/-! the scan -/
def st1 (v : Option Nat) (ty p : Nat) (a : Option (Nat × Nat × Nat)) : Option (Nat × Nat × Nat) :=
  match v with
  | none => a
  | some m => match a with
    | none => some (m, ty, p)
    | some (m0, t0, p0) => if m < m0 then some (m, ty, p) else some (m0, t0, p0)
def sc2 (f : Nat → Nat → Option Nat) (ty : Nat) (a : Option (Nat × Nat × Nat)) : Nat → Option (Nat × Nat × Nat)
  | 0 => a
  | p + 1 => st1 (f ty p) ty p (sc2 f ty a p)
def sc1 (f : Nat → Nat → Option Nat) : Nat → Option (Nat × Nat × Nat)
  | 0 => none
  | ty + 1 => sc2 f ty (sc1 f ty) 3
def sok (f : Nat → Nat → Option Nat) (a : Option (Nat × Nat × Nat)) : Prop := ∀ m t p, a = some (m, t, p) → f t p = some m ∧ t ≤ 6 ∧ p ≤ 2
def sle (a : Option (Nat × Nat × Nat)) (M : Nat) : Prop := ∃ m t p, a = some (m, t, p) ∧ m ≤ M
theorem sok_st {f : Nat → Nat → Option Nat} {a : Option (Nat × Nat × Nat)} {ty p : Nat} (h : sok f a) (ht : ty ≤ 6) (hp : p ≤ 2) : sok f (st1 (f ty p) ty p a) := by
  intro m t q e
  unfold st1 at e
  split at e
  · exact h m t q e
  · rename_i m1 em
    split at e
    · cases e; exact ⟨em, ht, hp⟩
    · split at e
      · cases e; exact ⟨em, ht, hp⟩
      · exact h m t q e
theorem sle_st {v : Option Nat} {a : Option (Nat × Nat × Nat)} {ty p M : Nat} (h : sle a M) : sle (st1 v ty p a) M := by
  obtain ⟨m, t, q, rfl, hm⟩ := h
  unfold st1
  split
  · exact ⟨m, t, q, rfl, hm⟩
  · rename_i m1
    dsimp only
    split
    · exact ⟨m1, ty, p, rfl, by omega⟩
    · exact ⟨m, t, q, rfl, hm⟩
theorem sle_new {a : Option (Nat × Nat × Nat)} {ty p M : Nat} : sle (st1 (some M) ty p a) M := by
  unfold st1
  dsimp only
  split
  · exact ⟨M, ty, p, rfl, Nat.le_refl _⟩
  · split
    · exact ⟨M, ty, p, rfl, Nat.le_refl _⟩
    · rename_i m0 t0 p0 h
      exact ⟨m0, t0, p0, rfl, by omega⟩
theorem sok_2 {f : Nat → Nat → Option Nat} {a : Option (Nat × Nat × Nat)} {ty : Nat} (h : sok f a) (ht : ty ≤ 6) : ∀ p, p ≤ 3 → sok f (sc2 f ty a p) := by
  intro p
  induction p with
  | zero => intro _; exact h
  | succ p ih => intro hp; exact sok_st (ih (by omega)) ht (by omega)
theorem sle_2 {f : Nat → Nat → Option Nat} {a : Option (Nat × Nat × Nat)} {ty M : Nat} (h : sle a M) : ∀ p, sle (sc2 f ty a p) M := by
  intro p
  induction p with
  | zero => exact h
  | succ p ih => exact sle_st ih
theorem sok_1 (f : Nat → Nat → Option Nat) : ∀ ty, ty ≤ 7 → sok f (sc1 f ty) := by
  intro ty
  induction ty with
  | zero => intro _ m t p e; cases e
  | succ ty ih => intro ht; exact sok_2 (ih (by omega)) (by omega) 3 (Nat.le_refl _)
theorem sc_fin (f : Nat → Nat → Option Nat) {v : Nat} (hv : f 1 0 = some v) : ∃ m t p, sc1 f 7 = some (m, t, p) ∧ f t p = some m ∧ t ≤ 6 ∧ p ≤ 2 ∧ m ≤ v := by
  have h2 : sle (sc1 f 2) v := by
    show sle (st1 (f 1 2) 1 2 (st1 (f 1 1) 1 1 (st1 (f 1 0) 1 0 (sc1 f 1)))) v
    rw [hv]
    exact sle_st (sle_st sle_new)
  have h7 : sle (sc1 f 7) v := sle_2 (sle_2 (sle_2 (sle_2 (sle_2 h2 3) 3) 3) 3) 3
  obtain ⟨m, t, p, e, hm⟩ := h7
  have k := sok_1 f 7 (Nat.le_refl _) m t p e
  exact ⟨m, t, p, e, k.1, k.2.1, k.2.2, hm⟩
def bco (b : Nat) (l r : Nat → Int) (n s : Nat) : Nat × Nat × Nat := (sc1 (tb b l r n s) 7).getD (0, 0, 0)
def bB (b : Nat) (l r : Nat → Int) (n s : Nat) : Nat := (bco b l r n s).1
def bT (b : Nat) (l r : Nat → Int) (n s : Nat) : Nat := (bco b l r n s).2.1
def bP (b : Nat) (l r : Nat → Int) (n s : Nat) : Nat := (bco b l r n s).2.2
theorem bco_sc (b : Nat) (l r : Nat → Int) (n s : Nat) : sc1 (tb b l r n s) 7 = some (bB b l r n s, bT b l r n s, bP b l r n s) ∧ tb b l r n s (bT b l r n s) (bP b l r n s) = some (bB b l r n s) ∧ bT b l r n s ≤ 6 ∧ bP b l r n s ≤ 2 ∧ bB b l r n s ≤ 3 + n * wd b s := by
  obtain ⟨m, t, p, e, h1, h2, h3, h4⟩ := sc_fin (tb b l r n s) (v := 3 + n * wd b s) rfl
  have q : bco b l r n s = (m, t, p) := by unfold bco; rw [e]; rfl
  unfold bB bT bP
  rw [q]
  exact ⟨e, h1, h2, h3, h4⟩
def sgO (f c : Nat) : Nat := if c = 0 then (if f = 2 then 3 else if f = 3 then 2 else 0) else (if f = 0 then 1 else if f = 2 then 1 else 3)
theorem sgO_lt (f c : Nat) : sgO f c < 4 := by
  unfold sgO
  split
  · split
    · omega
    · split <;> omega
  · split
    · omega
    · split <;> omega
def fbt (b : Nat) (l r : Nat → Int) (n f : Nat) : Nat := bB b l r n (sgO f 0) + bB b l r n (sgO f 1)
def bfm (b : Nat) (l r : Nat → Int) (n : Nat) : Nat := kb (fbt b l r n) 3
def prm (b : Nat) (l r : Nat → Int) (n s j : Nat) : Int32 := if 2 ≤ bT b l r n s ∧ j < 2 ^ bP b l r n s then nI (kk l r n s (bT b l r n s - 2) (bP b l r n s) j) else -1
section
variable {b : Nat} {l r : Nat → Int} {n : Nat}
theorem bB_bd (h1 : 4 ≤ b) (h2 : b ≤ 12) (h : rng b l r n) (hn0 : 1 ≤ n) (hn : n ≤ 16) (s : Nat) : 7 ≤ bB b l r n s ∧ bB b l r n s ≤ 211 := by
  obtain ⟨_, e, ht, hp, hm⟩ := bco_sc b l r n s
  have a := tb_bd h1 h2 h hn0 hn ht hp e
  have c : n * wd b s ≤ 16 * 13 := Nat.mul_le_mul hn (wd_bd h1 h2 s).2
  omega
theorem fbt_bd (h1 : 4 ≤ b) (h2 : b ≤ 12) (h : rng b l r n) (hn0 : 1 ≤ n) (hn : n ≤ 16) (f : Nat) : 14 ≤ fbt b l r n f ∧ fbt b l r n f ≤ 422 := by
  unfold fbt
  have a := bB_bd h1 h2 h hn0 hn (sgO f 0)
  have c := bB_bd h1 h2 h hn0 hn (sgO f 1)
  omega
theorem bfm_le : bfm b l r n ≤ 3 := kb_le _ _
end
end
section
/-! bit lists, seven to a byte -/
def bN (w : Nat) : Nat → List Bool
  | 0 => []
  | m + 1 => decide (w / 2 ^ m % 2 = 1) :: bN w m
theorem bN_len (w : Nat) : ∀ m, (bN w m).length = m := by
  intro m
  induction m with
  | zero => rfl
  | succ m ih => simp only [bN, List.length_cons, ih]
def uz (z : Int) : Nat := (z % 4294967296).toNat
def eV (x : Nat → Int) (w : Nat) : Nat → Nat → List Bool
  | _, 0 => []
  | a, c + 1 => bN (uz (x a)) w ++ eV x w (a + 1) c
def eR (u k : Nat) : List Bool := List.replicate (u / 2 ^ k) false ++ (true :: bN u k)
def eP (U : Nat → Nat) (k : Nat) : Nat → Nat → List Bool
  | _, 0 => []
  | a, c + 1 => eR (U a) k ++ eP U k (a + 1) c
def eQ (U : Nat → Nat) (K : Nat → Nat) (n o p : Nat) : Nat → Nat → List Bool
  | _, 0 => []
  | j, c + 1 => bN (K j) 4 ++ (eP U (K j) (pfr n o p j) ((j + 1) * (n / 2 ^ p) - pfr n o p j) ++ eQ U K n o p (j + 1) c)
def eF (x : Nat → Int) (w n o p : Nat) (K : Nat → Nat) : List Bool := eV x w 0 o ++ (bN p 2 ++ eQ (fun t => fo (dI x o t)) K n o p 0 (2 ^ p))
def eS (x : Nat → Int) (w n ty p : Nat) (K : Nat → Nat) : List Bool :=
  bN ty 3 ++ (if ty = 0 then bN (uz (x 0)) w else if ty = 1 then eV x w 0 n else eF x w n (ty - 2) p K)
theorem eV_len (x : Nat → Int) (w : Nat) : ∀ c a, (eV x w a c).length = c * w := by
  intro c
  induction c with
  | zero => intro a; simp [eV]
  | succ c ih => intro a; simp only [eV, List.length_append, ih, bN_len]; rw [Nat.succ_mul]; omega
theorem eR_len (u k : Nat) : (eR u k).length = u / 2 ^ k + 1 + k := by
  simp only [eR, List.length_append, List.length_replicate, List.length_cons, bN_len]; omega
theorem ps_front (U : Nat → Nat) (k : Nat) : ∀ c a, ps U k a (c + 1) = (U a / 2 ^ k + 1 + k) + ps U k (a + 1) c := by
  intro c
  induction c with
  | zero => intro a; simp [ps]
  | succ c ih =>
    intro a
    have h1 : ps U k a (c + 1 + 1) = ps U k a (c + 1) + (U (a + (c + 1)) / 2 ^ k + 1 + k) := rfl
    have h2 : ps U k (a + 1) (c + 1) = ps U k (a + 1) c + (U (a + 1 + c) / 2 ^ k + 1 + k) := rfl
    rw [h1, h2, ih a, show a + (c + 1) = a + 1 + c from by omega]
    omega
theorem eP_len (U : Nat → Nat) (k : Nat) : ∀ c a, (eP U k a c).length = ps U k a c := by
  intro c
  induction c with
  | zero => intro a; rfl
  | succ c ih => intro a; rw [ps_front]; simp only [eP, List.length_append, ih, eR_len]
theorem eQ_len {l r : Nat → Int} {n s o p : Nat} {K : Nat → Nat} : ∀ c j, (∀ i, i < j + c → K i = kk l r n s o p i) → sps l r n s o p j + (eQ (uu l r s o) K n o p j c).length = sps l r n s o p (j + c) := by
  intro c
  induction c with
  | zero => intro j _; simp [eQ]
  | succ c ih =>
    intro j h
    have h1 := ih (j + 1) (fun i hi => h i (by omega))
    have h2 : sps l r n s o p (j + 1) = sps l r n s o p j + pc l r n s o p j (kk l r n s o p j) := rfl
    rw [show j + (c + 1) = j + 1 + c from by omega, ← h1, h2]
    simp only [eQ, List.length_append, bN_len, eP_len]
    rw [h j (by omega)]
    unfold pc
    omega
theorem eS_len {b : Nat} {l r : Nat → Int} {n s ty p m : Nat} {K : Nat → Nat} (hK : 2 ≤ ty → ∀ i, i < 2 ^ p → K i = kk l r n s (ty - 2) p i) (e : tb b l r n s ty p = some m) : (eS (sg l r s) (wd b s) n ty p K).length = m := by
  unfold tb at e
  unfold eS
  rw [List.length_append, bN_len]
  by_cases t0 : ty = 0
  · rw [if_pos t0] at e ⊢
    split at e
    · cases e; rw [bN_len]
    · cases e
  · rw [if_neg t0] at e ⊢
    by_cases t1 : ty = 1
    · rw [if_pos t1] at e ⊢
      split at e
      · cases e; rw [eV_len]
      · cases e
    · rw [if_neg t1] at e ⊢
      split at e
      · cases e
        have h := eQ_len (l := l) (r := r) (n := n) (s := s) (o := ty - 2) (p := p) (K := K) (2 ^ p) 0 (fun i hi => hK (by omega) i (by omega))
        rw [Nat.zero_add] at h
        rw [← h]
        unfold eF
        rw [List.length_append, List.length_append, eV_len, bN_len]
        show 3 + ((ty - 2) * wd b s + (2 + (eQ (uu l r s (ty - 2)) K n (ty - 2) p 0 (2 ^ p)).length)) = _
        simp only [sps]
        omega
      · cases e
/-! packing -/
def gb (W : List Bool) (i : Nat) : Nat := if W[i]?.getD false = true then 1 else 0
theorem gb_le (W : List Bool) (i : Nat) : gb W i ≤ 1 := by unfold gb; split <;> omega
theorem gb_app (W : List Bool) (c : Bool) (i : Nat) : gb (W ++ [c]) i = if i < W.length then gb W i else if i = W.length then (if c = true then 1 else 0) else 0 := by
  unfold gb
  by_cases h : i < W.length
  · rw [if_pos h, List.getElem?_append_left h]
  · rw [if_neg h, List.getElem?_append_right (by omega)]
    by_cases e : i = W.length
    · rw [if_pos e, show i - W.length = 0 from by omega]
      simp
    · rw [if_neg e]
      obtain ⟨d, hd⟩ : ∃ d, i - W.length = d + 1 := ⟨i - W.length - 1, by omega⟩
      rw [hd]
      simp
theorem gb_out {W : List Bool} {i : Nat} (h : W.length ≤ i) : gb W i = 0 := by
  unfold gb
  rw [List.getElem?_eq_none h]
  simp
def pk7 (W : List Bool) (i : Nat) : Nat := gb W (7 * i) * 64 + gb W (7 * i + 1) * 32 + gb W (7 * i + 2) * 16 + gb W (7 * i + 3) * 8 + gb W (7 * i + 4) * 4 + gb W (7 * i + 5) * 2 + gb W (7 * i + 6)
theorem pk7_lt (W : List Bool) (i : Nat) : pk7 W i < 128 := by
  unfold pk7
  have h0 := gb_le W (7 * i)
  have h1 := gb_le W (7 * i + 1)
  have h2 := gb_le W (7 * i + 2)
  have h3 := gb_le W (7 * i + 3)
  have h4 := gb_le W (7 * i + 4)
  have h5 := gb_le W (7 * i + 5)
  have h6 := gb_le W (7 * i + 6)
  omega
theorem pk7_nil (i : Nat) : pk7 [] i = 0 := by
  unfold pk7
  simp only [gb_out (W := []) (Nat.zero_le _)]
theorem pk7_false (W : List Bool) (i : Nat) : pk7 (W ++ [false]) i = pk7 W i := by
  have h : ∀ i, gb (W ++ [false]) i = gb W i := by
    intro i
    rw [gb_app]
    split
    · rfl
    · rw [gb_out (by omega)]; simp
  unfold pk7
  simp only [h]
theorem pk7_other (W : List Bool) (c : Bool) {i : Nat} (h : i ≠ W.length / 7) : pk7 (W ++ [c]) i = pk7 W i := by
  have g : ∀ j, j < 7 → gb (W ++ [c]) (7 * i + j) = gb W (7 * i + j) := by
    intro j hj
    rw [gb_app]
    by_cases h1 : 7 * i + j < W.length
    · rw [if_pos h1]
    · rw [if_neg h1, if_neg (by omega), gb_out (by omega)]
  unfold pk7
  have g0 := g 0 (by omega)
  rw [Nat.add_zero] at g0
  rw [g0, g 1 (by omega), g 2 (by omega), g 3 (by omega), g 4 (by omega), g 5 (by omega), g 6 (by omega)]
theorem or_top {x m : Nat} (h : x % 2 ^ (m + 1) = 0) : x ||| 2 ^ m = x + 2 ^ m := by
  obtain ⟨y, rfl⟩ : ∃ y, x = 2 ^ (m + 1) * y := ⟨x / 2 ^ (m + 1), by have := Nat.div_add_mod x (2 ^ (m + 1)); omega⟩
  rw [Nat.two_pow_add_eq_or_of_lt (Nat.pow_lt_pow_right (by decide) (by omega))]
theorem gT_lt {W : List Bool} {i : Nat} (h : i < W.length) : gb (W ++ [true]) i = gb W i := by rw [gb_app, if_pos h]
theorem gT_eq {W : List Bool} {i : Nat} (h : i = W.length) : gb (W ++ [true]) i = 1 := by rw [gb_app, if_neg (by omega), if_pos h, if_pos rfl]
theorem gT_gt {W : List Bool} {i : Nat} (h : W.length < i) : gb (W ++ [true]) i = 0 := by rw [gb_app, if_neg (by omega), if_neg (by omega)]
theorem pk7_t0 (W : List Bool) {q : Nat} (h : W.length = 7 * q) : pk7 (W ++ [true]) q = pk7 W q ||| 2 ^ 6 := by
  have m : pk7 W q % 2 ^ (6 + 1) = 0 := by
    unfold pk7
    rw [gb_out (W := W) (i := 7 * q) (by omega), gb_out (W := W) (i := 7 * q + 1) (by omega), gb_out (W := W) (i := 7 * q + 2) (by omega), gb_out (W := W) (i := 7 * q + 3) (by omega), gb_out (W := W) (i := 7 * q + 4) (by omega), gb_out (W := W) (i := 7 * q + 5) (by omega), gb_out (W := W) (i := 7 * q + 6) (by omega)]
  rw [or_top m]
  unfold pk7
  rw [gT_eq (W := W) (i := 7 * q) (by omega), gT_gt (W := W) (i := 7 * q + 1) (by omega), gT_gt (W := W) (i := 7 * q + 2) (by omega), gT_gt (W := W) (i := 7 * q + 3) (by omega), gT_gt (W := W) (i := 7 * q + 4) (by omega), gT_gt (W := W) (i := 7 * q + 5) (by omega), gT_gt (W := W) (i := 7 * q + 6) (by omega)]
  rw [gb_out (W := W) (i := 7 * q) (by omega), gb_out (W := W) (i := 7 * q + 1) (by omega), gb_out (W := W) (i := 7 * q + 2) (by omega), gb_out (W := W) (i := 7 * q + 3) (by omega), gb_out (W := W) (i := 7 * q + 4) (by omega), gb_out (W := W) (i := 7 * q + 5) (by omega), gb_out (W := W) (i := 7 * q + 6) (by omega)]
theorem pk7_t1 (W : List Bool) {q : Nat} (h : W.length = 7 * q + 1) : pk7 (W ++ [true]) q = pk7 W q ||| 2 ^ 5 := by
  have m : pk7 W q % 2 ^ (5 + 1) = 0 := by
    unfold pk7
    rw [gb_out (W := W) (i := 7 * q + 1) (by omega), gb_out (W := W) (i := 7 * q + 2) (by omega), gb_out (W := W) (i := 7 * q + 3) (by omega), gb_out (W := W) (i := 7 * q + 4) (by omega), gb_out (W := W) (i := 7 * q + 5) (by omega), gb_out (W := W) (i := 7 * q + 6) (by omega)]
    show _ % 64 = 0
    omega
  rw [or_top m]
  unfold pk7
  rw [gT_lt (W := W) (i := 7 * q) (by omega), gT_eq (W := W) (i := 7 * q + 1) (by omega), gT_gt (W := W) (i := 7 * q + 2) (by omega), gT_gt (W := W) (i := 7 * q + 3) (by omega), gT_gt (W := W) (i := 7 * q + 4) (by omega), gT_gt (W := W) (i := 7 * q + 5) (by omega), gT_gt (W := W) (i := 7 * q + 6) (by omega)]
  rw [gb_out (W := W) (i := 7 * q + 1) (by omega), gb_out (W := W) (i := 7 * q + 2) (by omega), gb_out (W := W) (i := 7 * q + 3) (by omega), gb_out (W := W) (i := 7 * q + 4) (by omega), gb_out (W := W) (i := 7 * q + 5) (by omega), gb_out (W := W) (i := 7 * q + 6) (by omega)]
theorem pk7_t2 (W : List Bool) {q : Nat} (h : W.length = 7 * q + 2) : pk7 (W ++ [true]) q = pk7 W q ||| 2 ^ 4 := by
  have m : pk7 W q % 2 ^ (4 + 1) = 0 := by
    unfold pk7
    rw [gb_out (W := W) (i := 7 * q + 2) (by omega), gb_out (W := W) (i := 7 * q + 3) (by omega), gb_out (W := W) (i := 7 * q + 4) (by omega), gb_out (W := W) (i := 7 * q + 5) (by omega), gb_out (W := W) (i := 7 * q + 6) (by omega)]
    show _ % 32 = 0
    omega
  rw [or_top m]
  unfold pk7
  rw [gT_lt (W := W) (i := 7 * q) (by omega), gT_lt (W := W) (i := 7 * q + 1) (by omega), gT_eq (W := W) (i := 7 * q + 2) (by omega), gT_gt (W := W) (i := 7 * q + 3) (by omega), gT_gt (W := W) (i := 7 * q + 4) (by omega), gT_gt (W := W) (i := 7 * q + 5) (by omega), gT_gt (W := W) (i := 7 * q + 6) (by omega)]
  rw [gb_out (W := W) (i := 7 * q + 2) (by omega), gb_out (W := W) (i := 7 * q + 3) (by omega), gb_out (W := W) (i := 7 * q + 4) (by omega), gb_out (W := W) (i := 7 * q + 5) (by omega), gb_out (W := W) (i := 7 * q + 6) (by omega)]
theorem pk7_t3 (W : List Bool) {q : Nat} (h : W.length = 7 * q + 3) : pk7 (W ++ [true]) q = pk7 W q ||| 2 ^ 3 := by
  have m : pk7 W q % 2 ^ (3 + 1) = 0 := by
    unfold pk7
    rw [gb_out (W := W) (i := 7 * q + 3) (by omega), gb_out (W := W) (i := 7 * q + 4) (by omega), gb_out (W := W) (i := 7 * q + 5) (by omega), gb_out (W := W) (i := 7 * q + 6) (by omega)]
    show _ % 16 = 0
    omega
  rw [or_top m]
  unfold pk7
  rw [gT_lt (W := W) (i := 7 * q) (by omega), gT_lt (W := W) (i := 7 * q + 1) (by omega), gT_lt (W := W) (i := 7 * q + 2) (by omega), gT_eq (W := W) (i := 7 * q + 3) (by omega), gT_gt (W := W) (i := 7 * q + 4) (by omega), gT_gt (W := W) (i := 7 * q + 5) (by omega), gT_gt (W := W) (i := 7 * q + 6) (by omega)]
  rw [gb_out (W := W) (i := 7 * q + 3) (by omega), gb_out (W := W) (i := 7 * q + 4) (by omega), gb_out (W := W) (i := 7 * q + 5) (by omega), gb_out (W := W) (i := 7 * q + 6) (by omega)]
theorem pk7_t4 (W : List Bool) {q : Nat} (h : W.length = 7 * q + 4) : pk7 (W ++ [true]) q = pk7 W q ||| 2 ^ 2 := by
  have m : pk7 W q % 2 ^ (2 + 1) = 0 := by
    unfold pk7
    rw [gb_out (W := W) (i := 7 * q + 4) (by omega), gb_out (W := W) (i := 7 * q + 5) (by omega), gb_out (W := W) (i := 7 * q + 6) (by omega)]
    show _ % 8 = 0
    omega
  rw [or_top m]
  unfold pk7
  rw [gT_lt (W := W) (i := 7 * q) (by omega), gT_lt (W := W) (i := 7 * q + 1) (by omega), gT_lt (W := W) (i := 7 * q + 2) (by omega), gT_lt (W := W) (i := 7 * q + 3) (by omega), gT_eq (W := W) (i := 7 * q + 4) (by omega), gT_gt (W := W) (i := 7 * q + 5) (by omega), gT_gt (W := W) (i := 7 * q + 6) (by omega)]
  rw [gb_out (W := W) (i := 7 * q + 4) (by omega), gb_out (W := W) (i := 7 * q + 5) (by omega), gb_out (W := W) (i := 7 * q + 6) (by omega)]
theorem pk7_t5 (W : List Bool) {q : Nat} (h : W.length = 7 * q + 5) : pk7 (W ++ [true]) q = pk7 W q ||| 2 ^ 1 := by
  have m : pk7 W q % 2 ^ (1 + 1) = 0 := by
    unfold pk7
    rw [gb_out (W := W) (i := 7 * q + 5) (by omega), gb_out (W := W) (i := 7 * q + 6) (by omega)]
    show _ % 4 = 0
    omega
  rw [or_top m]
  unfold pk7
  rw [gT_lt (W := W) (i := 7 * q) (by omega), gT_lt (W := W) (i := 7 * q + 1) (by omega), gT_lt (W := W) (i := 7 * q + 2) (by omega), gT_lt (W := W) (i := 7 * q + 3) (by omega), gT_lt (W := W) (i := 7 * q + 4) (by omega), gT_eq (W := W) (i := 7 * q + 5) (by omega), gT_gt (W := W) (i := 7 * q + 6) (by omega)]
  rw [gb_out (W := W) (i := 7 * q + 5) (by omega), gb_out (W := W) (i := 7 * q + 6) (by omega)]
theorem pk7_t6 (W : List Bool) {q : Nat} (h : W.length = 7 * q + 6) : pk7 (W ++ [true]) q = pk7 W q ||| 2 ^ 0 := by
  have m : pk7 W q % 2 ^ (0 + 1) = 0 := by
    unfold pk7
    rw [gb_out (W := W) (i := 7 * q + 6) (by omega)]
    show _ % 2 = 0
    omega
  rw [or_top m]
  unfold pk7
  rw [gT_lt (W := W) (i := 7 * q) (by omega), gT_lt (W := W) (i := 7 * q + 1) (by omega), gT_lt (W := W) (i := 7 * q + 2) (by omega), gT_lt (W := W) (i := 7 * q + 3) (by omega), gT_lt (W := W) (i := 7 * q + 4) (by omega), gT_lt (W := W) (i := 7 * q + 5) (by omega), gT_eq (W := W) (i := 7 * q + 6) (by omega)]
  rw [gb_out (W := W) (i := 7 * q + 6) (by omega)]
theorem pk7_true (W : List Bool) : pk7 (W ++ [true]) (W.length / 7) = pk7 W (W.length / 7) ||| 2 ^ (6 - W.length % 7) := by
  have hr : W.length % 7 = 0 ∨ W.length % 7 = 1 ∨ W.length % 7 = 2 ∨ W.length % 7 = 3 ∨ W.length % 7 = 4 ∨ W.length % 7 = 5 ∨ W.length % 7 = 6 := by omega
  rcases hr with hr | hr | hr | hr | hr | hr | hr
  · rw [hr]; exact pk7_t0 W (by omega)
  · rw [hr]; exact pk7_t1 W (by omega)
  · rw [hr]; exact pk7_t2 W (by omega)
  · rw [hr]; exact pk7_t3 W (by omega)
  · rw [hr]; exact pk7_t4 W (by omega)
  · rw [hr]; exact pk7_t5 W (by omega)
  · rw [hr]; exact pk7_t6 W (by omega)
theorem and_pow (x m : Nat) : x &&& 2 ^ m = if x / 2 ^ m % 2 = 1 then 2 ^ m else 0 := by
  apply Nat.eq_of_testBit_eq
  intro i
  rw [Nat.testBit_and, Nat.testBit_two_pow]
  by_cases e : m = i
  · subst e
    rw [decide_eq_true rfl, Bool.and_true, Nat.testBit_eq_decide_div_mod_eq]
    by_cases h : x / 2 ^ m % 2 = 1
    · rw [if_pos h, decide_eq_true h, Nat.testBit_two_pow, decide_eq_true rfl]
    · rw [if_neg h, decide_eq_false h, Nat.zero_testBit]
  · rw [decide_eq_false e, Bool.and_false]
    split
    · rw [Nat.testBit_two_pow, decide_eq_false e]
    · rw [Nat.zero_testBit]
theorem pk7_get (W : List Bool) {q j : Nat} (hj : j < 7) : pk7 W q / 2 ^ (6 - j) % 2 = gb W (7 * q + j) := by
  have h0 := gb_le W (7 * q)
  have h1 := gb_le W (7 * q + 1)
  have h2 := gb_le W (7 * q + 2)
  have h3 := gb_le W (7 * q + 3)
  have h4 := gb_le W (7 * q + 4)
  have h5 := gb_le W (7 * q + 5)
  have h6 := gb_le W (7 * q + 6)
  unfold pk7
  have hr : j = 0 ∨ j = 1 ∨ j = 2 ∨ j = 3 ∨ j = 4 ∨ j = 5 ∨ j = 6 := by omega
  rcases hr with rfl | rfl | rfl | rfl | rfl | rfl | rfl
  · rw [show (2 : Nat) ^ (6 - 0) = 64 from rfl, show 7 * q + 0 = 7 * q from rfl]; omega
  · rw [show (2 : Nat) ^ (6 - 1) = 32 from rfl]; omega
  · rw [show (2 : Nat) ^ (6 - 2) = 16 from rfl]; omega
  · rw [show (2 : Nat) ^ (6 - 3) = 8 from rfl]; omega
  · rw [show (2 : Nat) ^ (6 - 4) = 4 from rfl]; omega
  · rw [show (2 : Nat) ^ (6 - 5) = 2 from rfl]; omega
  · rw [show (2 : Nat) ^ (6 - 6) = 1 from rfl]; omega
theorem pk7_and (W : List Bool) (a : Nat) : pk7 W (a / 7) &&& 2 ^ (6 - a % 7) = 0 ↔ gb W a = 0 := by
  rw [and_pow, pk7_get W (Nat.mod_lt _ (by decide)), show 7 * (a / 7) + a % 7 = a from Nat.div_add_mod a 7]
  have := gb_le W a
  have hp := Nat.two_pow_pos (6 - a % 7)
  split <;> omega
theorem gb_drop {P : List Bool} {a : Nat} {c : Bool} {w : List Bool} (h : P.drop a = c :: w) : gb P a = if c = true then 1 else 0 := by
  unfold gb
  have e : P[a]? = some c := by
    have := List.getElem?_drop (xs := P) (i := a) (j := 0)
    rw [h] at this
    simpa using this.symm
  rw [e]
  rfl
theorem drop_lt {P : List Bool} {a : Nat} {w1 w2 : List Bool} (h : P.drop a = w1 ++ w2) : P.length - a = w1.length + w2.length := by
  have := congrArg List.length h
  rw [List.length_drop, List.length_append] at this
  exact this
theorem drop_on {P : List Bool} {a : Nat} {w1 w2 : List Bool} (h : P.drop a = w1 ++ w2) : P.drop (a + w1.length) = w2 := by
  rw [← List.drop_drop, h, List.drop_left]
/-- the stream with the bits of W in bytes s .. e-1 -/
def st7 (A : Nat → Int32) (s e : Nat) (W : List Bool) : Nat → Int32 := fun i => if s ≤ i ∧ i < e then nI (pk7 W (i - s)) else A i
theorem st7_false (A : Nat → Int32) (s e : Nat) (W : List Bool) : st7 A s e (W ++ [false]) = st7 A s e W := by
  funext i
  unfold st7
  rw [pk7_false]
theorem st7_true (A : Nat → Int32) (s e : Nat) (W : List Bool) (h : s + W.length / 7 < e) : upd (st7 A s e W) (s + W.length / 7) (st7 A s e W (s + W.length / 7) ||| nI (2 ^ (6 - W.length % 7))) = st7 A s e (W ++ [true]) := by
  funext i
  by_cases hi : i = s + W.length / 7
  · rw [hi, pk_us]
    unfold st7
    rw [if_pos ⟨by omega, h⟩, if_pos ⟨by omega, h⟩, show s + W.length / 7 - s = W.length / 7 from by omega, nx_or, pk7_true]
  · rw [pk_un hi]
    unfold st7
    split
    · rename_i hh
      rw [pk7_other]
      omega
    · rfl
end
section
/-! the two check sums: a register of w bits, a step a bit; a step is one to one -/
def cS (w q r : Nat) : Nat := if r < 2 ^ (w - 1) then 2 * r else (2 * r) ^^^ q
/-- q is a fit polynomial: odd, its bit w set, none above -/
def cQ (w q : Nat) : Prop := 1 ≤ w ∧ q % 2 = 1 ∧ 2 ^ w ≤ q ∧ q < 2 ^ (w + 1)
theorem xor_par (a c : Nat) : (a ^^^ c) % 2 = (a % 2 + c % 2) % 2 := by
  have h := Nat.testBit_xor a c 0
  rw [Nat.testBit_zero, Nat.testBit_zero, Nat.testBit_zero] at h
  have ha : a % 2 = 0 ∨ a % 2 = 1 := by omega
  have hc : c % 2 = 0 ∨ c % 2 = 1 := by omega
  have hx : (a ^^^ c) % 2 = 0 ∨ (a ^^^ c) % 2 = 1 := by omega
  rcases ha with ha | ha <;> rcases hc with hc | hc <;> rcases hx with hx | hx <;> simp [ha, hc, hx] at h ⊢
theorem xor_can {a b c : Nat} (h : a ^^^ c = b ^^^ c) : a = b := by
  have := congrArg (fun z => z ^^^ c) h
  simp only [Nat.xor_assoc, Nat.xor_self, Nat.xor_zero] at this
  exact this
theorem xor_canl {a b c : Nat} (h : c ^^^ a = c ^^^ b) : a = b := by
  rw [Nat.xor_comm c a, Nat.xor_comm c b] at h
  exact xor_can h
theorem xor_ne0 {a m : Nat} (h : m ≠ 0) : a ^^^ m ≠ a := by
  intro e
  apply h
  have : a ^^^ m = a ^^^ 0 := by rw [Nat.xor_zero]; exact e
  exact xor_canl this
theorem cS_lt {w q r : Nat} (hq : cQ w q) (hr : r < 2 ^ w) : cS w q r < 2 ^ w := by
  obtain ⟨hw, _, hq1, hq2⟩ := hq
  obtain ⟨v, rfl⟩ : ∃ v, w = v + 1 := ⟨w - 1, by omega⟩
  unfold cS
  rw [Nat.add_sub_cancel]
  split
  · rw [Nat.pow_succ] at *; omega
  · rename_i h
    apply Nat.lt_pow_two_of_testBit
    intro i hi
    rw [Nat.testBit_xor]
    by_cases e : i = v + 1
    · subst e
      have e1 : (2 * r).testBit (v + 1) = true := by
        rw [Nat.testBit_eq_decide_div_mod_eq, decide_eq_true_eq]
        rw [Nat.pow_succ, Nat.mul_comm (2 ^ v) 2, ← Nat.div_div_eq_div_mul, Nat.mul_div_cancel_left _ (by decide : 0 < 2)]
        have h3 : r / 2 ^ v = 1 := by
          rw [Nat.div_eq_iff (Nat.two_pow_pos v)]
          rw [Nat.pow_succ] at hr
          omega
        rw [h3]
      have e2 : q.testBit (v + 1) = true := by
        rw [Nat.testBit_eq_decide_div_mod_eq, decide_eq_true_eq]
        have h3 : q / 2 ^ (v + 1) = 1 := by
          rw [Nat.div_eq_iff (Nat.two_pow_pos (v + 1))]
          rw [Nat.pow_succ 2 (v + 1)] at hq2
          omega
        rw [h3]
      rw [e1, e2]; rfl
    · have hp : 2 ^ (v + 1 + 1) ≤ 2 ^ i := Nat.pow_le_pow_right (by decide) (by omega)
      rw [Nat.testBit_lt_two_pow (x := 2 * r) (i := i) (by rw [Nat.pow_succ 2 (v + 1)] at hp; omega), Nat.testBit_lt_two_pow (x := q) (i := i) (by omega)]
      rfl
theorem cS_inj {w q a c : Nat} (hq : cQ w q) (h : cS w q a = cS w q c) : a = c := by
  have ho := hq.2.1
  unfold cS at h
  split at h
  · split at h
    · omega
    · have := congrArg (· % 2) h
      rw [xor_par] at this
      omega
  · split at h
    · have := congrArg (· % 2) h
      rw [xor_par] at this
      omega
    · have := xor_can h
      omega
def cN (w q : Nat) : Nat → Nat → Nat
  | 0, r => r
  | m + 1, r => cN w q m (cS w q r)
theorem cN_lt {w q : Nat} (hq : cQ w q) : ∀ m r, r < 2 ^ w → cN w q m r < 2 ^ w := by
  intro m
  induction m with
  | zero => intro r h; exact h
  | succ m ih => intro r h; exact ih _ (cS_lt hq h)
theorem cN_inj {w q : Nat} (hq : cQ w q) : ∀ m a c, cN w q m a = cN w q m c → a = c := by
  intro m
  induction m with
  | zero => intro a c h; exact h
  | succ m ih => intro a c h; exact cS_inj hq (ih _ _ h)
/-- the sum over c bytes from a, begun with register r; z: the place of a byte in the register -/
def cR (w q z : Nat) (B : Nat → Nat) : Nat → Nat → Nat → Nat
  | _, 0, r => r
  | a, c + 1, r => cR w q z B (a + 1) c (cN w q 8 (r ^^^ (B a * 2 ^ z)))
theorem cR_lt {w q z : Nat} {B : Nat → Nat} (hq : cQ w q) (hw : w = z + 8) : ∀ c a r, (∀ i, i < c → B (a + i) < 256) → r < 2 ^ w → cR w q z B a c r < 2 ^ w := by
  intro c
  induction c with
  | zero => intro a r _ h; exact h
  | succ c ih =>
    intro a r hB h
    refine ih _ _ (fun i hi => by rw [show a + 1 + i = a + (i + 1) from by omega]; exact hB _ (by omega)) (cN_lt hq 8 _ (Nat.xor_lt_two_pow h ?_))
    have := hB 0 (by omega)
    rw [hw, Nat.pow_add, Nat.mul_comm (2 ^ z)]
    exact Nat.mul_lt_mul_of_pos_right this (Nat.two_pow_pos z)
theorem cR_cong {w q z : Nat} {B O : Nat → Nat} : ∀ c a r, (∀ i, i < c → B (a + i) = O (a + i)) → cR w q z B a c r = cR w q z O a c r := by
  intro c
  induction c with
  | zero => intro a r _; rfl
  | succ c ih =>
    intro a r h
    simp only [cR]
    have h0 := h 0 (by omega)
    rw [Nat.add_zero] at h0
    rw [h0]
    exact ih _ _ (fun i hi => by rw [show a + 1 + i = a + (i + 1) from by omega]; exact h _ (by omega))
theorem cR_ne {w q z : Nat} {B : Nat → Nat} (hq : cQ w q) : ∀ c a r r', r ≠ r' → cR w q z B a c r ≠ cR w q z B a c r' := by
  intro c
  induction c with
  | zero => intro a r r' h; exact h
  | succ c ih =>
    intro a r r' h
    simp only [cR]
    refine ih _ _ _ (fun e => h ?_)
    exact xor_can (cN_inj hq 8 _ _ e)
theorem cR_diff {w q z : Nat} {B O : Nat → Nat} (hq : cQ w q) : ∀ c a r d, d < c → B (a + d) ≠ O (a + d) → (∀ i, i < c → i ≠ d → B (a + i) = O (a + i)) → cR w q z B a c r ≠ cR w q z O a c r := by
  intro c
  induction c with
  | zero => intro a r d h; omega
  | succ c ih =>
    intro a r d hd hne heq
    simp only [cR]
    by_cases d0 : d = 0
    · subst d0
      rw [Nat.add_zero] at hne
      rw [cR_cong (B := B) (O := O) c (a + 1) _ (fun i hi => by rw [show a + 1 + i = a + (i + 1) from by omega]; exact heq _ (by omega) (by omega))]
      refine cR_ne hq c (a + 1) _ _ (fun e => hne ?_)
      have e2 := xor_canl (cN_inj hq 8 _ _ e)
      exact Nat.eq_of_mul_eq_mul_right (Nat.two_pow_pos z) e2
    · have h0 := heq 0 (by omega) (by omega)
      rw [Nat.add_zero] at h0
      rw [h0]
      refine ih (a + 1) _ (d - 1) (by omega) ?_ (fun i hi hi2 => ?_)
      · rw [show a + 1 + (d - 1) = a + d from by omega]; exact hne
      · rw [show a + 1 + i = a + (i + 1) from by omega]; exact heq _ (by omega) (by omega)
theorem q8 : cQ 8 263 := ⟨by decide, by decide, by decide, by decide⟩
theorem q16 : cQ 16 98309 := ⟨by decide, by decide, by decide, by decide⟩
def c8 (B : Nat → Nat) (a c : Nat) : Nat := cR 8 263 0 B a c 0
def c16 (B : Nat → Nat) (a c : Nat) : Nat := cR 16 98309 8 B a c 0
theorem c8_lt {B : Nat → Nat} {a c : Nat} (h : ∀ i, i < c → B (a + i) < 256) : c8 B a c < 256 := cR_lt q8 rfl c a 0 h (by decide)
theorem c16_lt {B : Nat → Nat} {a c : Nat} (h : ∀ i, i < c → B (a + i) < 256) : c16 B a c < 65536 := cR_lt q16 rfl c a 0 h (by decide)
theorem cS_i32 {w q r : Nat} (hw : 1 ≤ w) (hw2 : w ≤ 20) (hr : r < 2 ^ w) (hq : q < 2 ^ 30) : (nI r <<< ((1 : Int32) &&& 31) = nI (2 * r)) ∧ ((nI (2 * r) &&& nI (2 ^ w) = 0) ↔ r < 2 ^ (w - 1)) ∧ nI (2 * r) ^^^ nI q = nI ((2 * r) ^^^ q) := by
  have hp : 2 ^ w ≤ 2 ^ 20 := Nat.pow_le_pow_right (by decide) hw2
  refine ⟨?_, ?_, nx_xor _ _⟩
  · have := zi_shlN (n := r) (k := 1) (by decide) (by omega)
    rw [show r * 2 ^ 1 = 2 * r from by omega] at this
    exact this
  · obtain ⟨v, rfl⟩ : ∃ v, w = v + 1 := ⟨w - 1, by omega⟩
    rw [nx_and, and_pow, Nat.add_sub_cancel]
    have hp0 := Nat.two_pow_pos (v + 1)
    have h3 : 2 * r / 2 ^ (v + 1) = r / 2 ^ v := by
      rw [Nat.pow_succ, Nat.mul_comm (2 ^ v) 2, ← Nat.div_div_eq_div_mul, Nat.mul_div_cancel_left _ (by decide : 0 < 2)]
    rw [h3]
    by_cases h : r < 2 ^ v
    · rw [Nat.div_eq_of_lt h, if_neg (by decide)]
      exact ⟨fun _ => h, fun _ => rfl⟩
    · have h4 : r / 2 ^ v = 1 := by
        rw [Nat.div_eq_iff (Nat.two_pow_pos v)]
        rw [Nat.pow_succ] at hr
        omega
      rw [h4, if_pos (by decide)]
      constructor
      · intro e
        exact absurd e (nI_ne0 hp0 (by omega))
      · intro e; exact absurd e h
end
section
/-! frames in the stream: an altered byte is always seen -/
def FH (O : Nat → Nat) (s z : Nat) : Prop := 12 ≤ z ∧ z < 128 ∧ O s = 255 ∧ O (s + 1) = 248 ∧ O (s + 3) = z ∧ (∀ i, 2 ≤ i → i < z → O (s + i) < 128) ∧ O (s + 5) * 128 + O (s + 6) = c8 O s 5 ∧ O (s + (z - 3)) * 16384 + O (s + (z - 3) + 1) * 128 + O (s + (z - 3) + 2) = c16 O s (z - 3)
def isF (B : Nat → Nat) (L k : Nat) : Prop := k + 11 ≤ L ∧ B k = 255 ∧ B (k + 1) = 248 ∧ (∀ i, 2 ≤ i → i < 7 → B (k + i) < 128) ∧ B (k + 5) * 128 + B (k + 6) = c8 B k 5 ∧ 11 ≤ B (k + 3) ∧ k + B (k + 3) ≤ L ∧ (∀ i, 7 ≤ i → i < B (k + 3) → B (k + i) < 128) ∧ B (k + (B (k + 3) - 3)) * 16384 + B (k + (B (k + 3) - 3) + 1) * 128 + B (k + (B (k + 3) - 3) + 2) = c16 B k (B (k + 3) - 3)
/-- q lies in frame f -/
def inF (S N : Nat → Nat) (f q : Nat) : Prop := S f ≤ q ∧ q < S f + N f
def und (S N M : Nat → Nat) (f : Nat) : Prop := ∀ q, inF S N f q → M q = 0
/-- at most one altered byte a frame -/
def alt1 (S N M : Nat → Nat) (f : Nat) (x : Int32) : Prop := (x = -1 ∧ und S N M f) ∨ (∃ a, inF S N f a ∧ x = nI a ∧ M a ≠ 0 ∧ ∀ q, inF S N f q → q ≠ a → M q = 0)
def LY (own : Nat → Int32) (alt : Nat → Int32) (M O : Nat → Nat) (L fc : Nat) (S N : Nat → Nat) : Prop :=
  (∀ f, f < fc → FH O (S f) (N f) ∧ S f + N f ≤ L) ∧
  (∀ f g, f < g → g < fc → S f + N f ≤ S g) ∧
  (∀ q, q < L → (own q = -1 ∧ M q = 0 ∧ O q < 128 ∧ ∀ f, f < fc → ¬ inF S N f q) ∨ (∃ f, f < fc ∧ own q = nI f ∧ inF S N f q)) ∧
  (∀ q, q < L → M q < 256 ∧ O q < 256) ∧
  (∀ f, f < fc → alt1 S N M f (alt f))
theorem isF_of_FH {B : Nat → Nat} {L s z : Nat} (h : FH B s z) (hl : s + z ≤ L) : isF B L s := by
  obtain ⟨h1, h2, h3, h4, h5, h6, h7, h8⟩ := h
  unfold isF
  rw [h5]
  exact ⟨by omega, h3, h4, fun i a c => h6 i a (by omega), h7, by omega, hl, fun i a c => h6 i (by omega) c, h8⟩
theorem FH_cong {B O : Nat → Nat} {s z : Nat} (h : FH O s z) (e : ∀ i, i < z → B (s + i) = O (s + i)) : FH B s z := by
  obtain ⟨h1, h2, h3, h4, h5, h6, h7, h8⟩ := h
  have e0 := e 0 (by omega)
  rw [Nat.add_zero] at e0
  refine ⟨h1, h2, by rw [e0]; exact h3, by rw [e 1 (by omega)]; exact h4, by rw [e 3 (by omega)]; exact h5, fun i a c => by rw [e i c]; exact h6 i a c, ?_, ?_⟩
  · rw [e 5 (by omega), e 6 (by omega), h7]
    exact (cR_cong 5 s 0 (fun i hi => e i (by omega))).symm
  · have a1 := e (z - 3) (by omega)
    have a2 := e (z - 3 + 1) (by omega)
    have a3 := e (z - 3 + 2) (by omega)
    rw [← Nat.add_assoc] at a2 a3
    rw [a1, a2, a3, h8]
    exact (cR_cong (z - 3) s 0 (fun i hi => e i (by omega))).symm
theorem xor_lt256 {a m : Nat} (ha : a < 256) (hm : m < 256) : a ^^^ m < 256 := Nat.xor_lt_two_pow (n := 8) ha hm
section
variable {own alt : Nat → Int32} {M O B S N : Nat → Nat} {L fc : Nat}
theorem ly_ne {q : Nat} (hB : B q = O q ^^^ M q) (hM : M q ≠ 0) : B q ≠ O q := by
  rw [hB]; exact xor_ne0 hM
theorem ly_eq {q : Nat} (hB : B q = O q ^^^ M q) (hM : M q = 0) : B q = O q := by
  rw [hB, hM, Nat.xor_zero]
theorem ly_alt {f : Nat} {x : Int32} (h : alt1 S N M f x) : und S N M f ∨ ∃ a, inF S N f a ∧ M a ≠ 0 ∧ ∀ q, inF S N f q → q ≠ a → M q = 0 := by
  rcases h with ⟨_, h⟩ | ⟨a, h1, _, h2, h3⟩
  · exact Or.inl h
  · exact Or.inr ⟨a, h1, h2, h3⟩
theorem ly_dam {f : Nat} (hF : FH O (S f) (N f)) (hB : ∀ q, q < L → B q = O q ^^^ M q) (hl : S f + N f ≤ L) (hM : ∀ q, q < L → M q < 256 ∧ O q < 256) {a : Nat} (ha : inF S N f a) (hm : M a ≠ 0) (ho : ∀ q, inF S N f q → q ≠ a → M q = 0) : ¬ isF B L (S f) := by
  intro I
  obtain ⟨i1, i2, i3, i4, i5, i6, i7, i8, i9⟩ := I
  obtain ⟨h1, h2, h3, h4, h5, h6, h7, h8⟩ := hF
  obtain ⟨d, rfl⟩ : ∃ d, a = S f + d := ⟨a - S f, by have := ha.1; omega⟩
  have hd : d < N f := by have := ha.2; omega
  have ne : B (S f + d) ≠ O (S f + d) := ly_ne (hB _ (by omega)) hm
  have eq : ∀ i, i < N f → i ≠ d → B (S f + i) = O (S f + i) := fun i hi hid => ly_eq (hB _ (by omega)) (ho _ ⟨by omega, by omega⟩ (by omega))
  by_cases d0 : d = 0
  · subst d0; rw [Nat.add_zero] at ne; omega
  by_cases d1 : d = 1
  · subst d1; omega
  by_cases d5 : d < 5
  · have e5 := eq 5 (by omega) (by omega)
    have e6 := eq 6 (by omega) (by omega)
    have := cR_diff q8 (z := 0) (B := B) (O := O) 5 (S f) 0 d d5 ne (fun i hi => eq i (by omega))
    rw [e5, e6, h7] at i5
    exact this i5.symm
  by_cases d7 : d < 7
  · have e : c8 B (S f) 5 = c8 O (S f) 5 := cR_cong 5 (S f) 0 (fun i hi => eq i (by omega) (by omega))
    have l5 := i4 5 (by omega) (by omega)
    have l6 := i4 6 (by omega) (by omega)
    have m5 := h6 5 (by omega) (by omega)
    have m6 := h6 6 (by omega) (by omega)
    rw [e, ← h7] at i5
    have : d = 5 ∨ d = 6 := by omega
    rcases this with rfl | rfl <;> omega
  · have e3 := eq 3 (by omega) (by omega)
    rw [e3, h5] at i9 i8
    by_cases dt : d < N f - 3
    · have := cR_diff q16 (z := 8) (B := B) (O := O) (N f - 3) (S f) 0 d dt ne (fun i hi => eq i (by omega))
      have a1 := eq (N f - 3) (by omega) (by omega)
      have a2 := eq (N f - 3 + 1) (by omega) (by omega)
      have a3 := eq (N f - 3 + 2) (by omega) (by omega)
      rw [← Nat.add_assoc] at a2 a3
      rw [a1, a2, a3, h8] at i9
      exact this i9.symm
    · have e : c16 B (S f) (N f - 3) = c16 O (S f) (N f - 3) := cR_cong (N f - 3) (S f) 0 (fun i hi => eq i (by omega) (by omega))
      rw [e, ← h8] at i9
      have l1 := i8 (N f - 3) (by omega) (by omega)
      have l2 := i8 (N f - 3 + 1) (by omega) (by omega)
      have l3 := i8 (N f - 3 + 2) (by omega) (by omega)
      have m1 := h6 (N f - 3) (by omega) (by omega)
      have m2 := h6 (N f - 3 + 1) (by omega) (by omega)
      have m3 := h6 (N f - 3 + 2) (by omega) (by omega)
      rw [← Nat.add_assoc] at l2 l3 m2 m3
      have : d = N f - 3 ∨ d = N f - 3 + 1 ∨ d = N f - 3 + 2 := by omega
      rcases this with e | e | e
      · rw [e] at ne; omega
      · rw [e, ← Nat.add_assoc] at ne; omega
      · rw [e, ← Nat.add_assoc] at ne; omega
theorem isF_iff (h : LY own alt M O L fc S N) (hB : ∀ q, q < L → B q = O q ^^^ M q) {k : Nat} : isF B L k ↔ ∃ f, f < fc ∧ S f = k ∧ und S N M f := by
  obtain ⟨hf, hord, hown, hby, halt⟩ := h
  constructor
  · intro I
    have I0 := I
    obtain ⟨i1, i2, i3, i4, _⟩ := I
    rcases hown k (by omega) with ⟨_, m0, o0, _⟩ | ⟨f, hfc, _, hin⟩
    · have := ly_eq (hB k (by omega)) m0
      omega
    · obtain ⟨hF, hl⟩ := hf f hfc
      have hF0 := hF
      obtain ⟨h1, h2, h3, h4, h5, h6, h7, h8⟩ := hF
      rcases ly_alt (halt f hfc) with u | ⟨a, ha, hm, ho⟩
      · by_cases e : S f = k
        · exact ⟨f, hfc, e, u⟩
        · exfalso
          have e1 := ly_eq (hB k (by omega)) (u k hin)
          obtain ⟨d, rfl⟩ : ∃ d, k = S f + d := ⟨k - S f, by have := hin.1; omega⟩
          have hd := hin.2
          by_cases d1 : d = 1
          · subst d1; omega
          · have := h6 d (by omega) (by omega); omega
      · exfalso
        by_cases e : S f = k
        · subst e
          exact ly_dam hF0 hB hl hby ha hm ho I0
        · obtain ⟨d, rfl⟩ : ∃ d, k = S f + d := ⟨k - S f, by have := hin.1; omega⟩
          have hd := hin.2
          have hak : a = S f + d := by
            by_cases x : a = S f + d
            · exact x
            · exfalso
              have e1 := ly_eq (hB _ (by omega)) (ho _ hin (fun y => x y.symm))
              by_cases d1 : d = 1
              · subst d1; omega
              · have := h6 d (by omega) (by omega); omega
          subst hak
          by_cases last : d + 1 < N f
          · have e1 := ly_eq (hB (S f + d + 1) (by omega)) (ho _ ⟨by omega, by omega⟩ (by omega))
            have := h6 (d + 1) (by omega) last
            rw [← Nat.add_assoc] at this
            omega
          · rcases hown (S f + d + 1) (by omega) with ⟨_, m0, o0, _⟩ | ⟨g, hgc, _, hing⟩
            · have := ly_eq (hB (S f + d + 1) (by omega)) m0
              omega
            · obtain ⟨hG, hgl⟩ := hf g hgc
              obtain ⟨g1, g2, g3, g4, g5, g6, g7, g8⟩ := hG
              have hgf : f < g := by
                rcases Nat.lt_trichotomy f g with x | x | x
                · exact x
                · subst x; have := hing.2; omega
                · have := hord g f x hfc; have := hing.2; omega
              have hs := hord f g hgf hgc
              have hsg : S g = S f + d + 1 := by have := hing.1; omega
              rcases ly_alt (halt g hgc) with u | ⟨a2, ha2, hm2, ho2⟩
              · have := ly_eq (hB (S f + d + 1) (by omega)) (u _ hing)
                rw [← hsg] at this i3
                omega
              · have ea : a2 = S g := by
                  by_cases x : a2 = S g
                  · exact x
                  · exfalso
                    have e1 := ly_eq (hB (S g) (by omega)) (ho2 _ ⟨by omega, by omega⟩ (fun y => x y.symm))
                    rw [← hsg] at i3
                    omega
                have e1 := ly_eq (hB (S g + 1) (by omega)) (ho2 _ ⟨by omega, by omega⟩ (by omega))
                have := i4 2 (by omega) (by omega)
                rw [show S f + d + 2 = S g + 1 from by omega] at this
                omega
  · rintro ⟨f, hfc, rfl, u⟩
    obtain ⟨hF, hl⟩ := hf f hfc
    exact isF_of_FH (FH_cong hF (fun i hi => ly_eq (hB _ (by omega)) (u _ ⟨by omega, by omega⟩))) hl
end
end
section
/-! X: costs -/
def DF (D : Nat → Int32) (l r : Nat → Int) (n : Nat) : Prop := ∀ s o t, s < 4 → o ≤ 4 → o ≤ t → t < n → D ((s * 5 + o) * 16 + t) = iI (dI (sg l r s) o t)
theorem cell_i (s o t : Nat) : ((nI s * 5 + nI o) * 16) + nI t = nI ((s * 5 + o) * 16 + t) := by
  show ((nI s * nI 5 + nI o) * nI 16) + nI t = _
  rw [pk_mul, nI_add, pk_mul, nI_add]
theorem fo_i {z : Int} (hz : -65536 < z ∧ z < 65536) : (z < 0 → ((-2) * iI z) - 1 = nI (fo z)) ∧ (¬ z < 0 → 2 * iI z = nI (fo z)) := by
  constructor
  · intro h
    show iI (-2) * iI z - iI 1 = _
    rw [zi_mul, zi_sub, zi_nn (by omega)]
    unfold fo
    rw [if_pos h]
  · intro h
    show iI 2 * iI z = _
    rw [zi_mul, zi_nn (by omega)]
    unfold fo
    rw [if_neg h]
theorem zi_lt0 {z : Int} (hz : -65536 < z ∧ z < 65536) : iI z < 0 ↔ z < 0 := by
  show iI z < iI 0 ↔ _
  exact zi_lt (by omega) (by omega) (by omega) (by omega)
section
variable {f_blockLimit f_sampleBits f_capacity f_count f_nextFrame f_planned f_bestForm f_length f_frameCount f_writeByte f_writeMask f_readByte f_readMask f_readEnd f_decodedType0 f_decodedType1 f_position f_skipped f_held f_heldNumber f_heldSize f_heldForm f_heldType0 f_heldType1 f_heldMissing : Int32}
variable {a_differences a_bestBits a_bestType a_bestPartition a_bestParameter a_stream a_masks a_owner a_starts a_lengths a_alteredByte a_decoded a_heldSamples : Nat → Int32}
variable {post : Int32 → Prop}
theorem xcell {s o t : Nat} (h : post (nI ((s * 5 + o) * 16 + t))) : wpX_cell post (f_blockLimit, f_sampleBits, f_capacity, f_count, f_nextFrame, f_planned, f_bestForm, f_length, f_frameCount, f_writeByte, f_writeMask, f_readByte, f_readMask, f_readEnd, f_decodedType0, f_decodedType1, f_position, f_skipped, f_held, f_heldNumber, f_heldSize, f_heldForm, f_heldType0, f_heldType1, f_heldMissing, a_differences, a_bestBits, a_bestType, a_bestPartition, a_bestParameter, a_stream, a_masks, a_owner, a_starts, a_lengths, a_alteredByte, a_decoded, a_heldSamples) (nI s) (nI o) (nI t) := by
  unfold wpX_cell
  dsimp only
  rw [cell_i]
  exact h
theorem xfold {z : Int} (hz : -65536 < z ∧ z < 65536) (h : post (nI (fo z))) : wpX_fold post (f_blockLimit, f_sampleBits, f_capacity, f_count, f_nextFrame, f_planned, f_bestForm, f_length, f_frameCount, f_writeByte, f_writeMask, f_readByte, f_readMask, f_readEnd, f_decodedType0, f_decodedType1, f_position, f_skipped, f_held, f_heldNumber, f_heldSize, f_heldForm, f_heldType0, f_heldType1, f_heldMissing, a_differences, a_bestBits, a_bestType, a_bestPartition, a_bestParameter, a_stream, a_masks, a_owner, a_starts, a_lengths, a_alteredByte, a_decoded, a_heldSamples) (iI z) := by
  unfold wpX_fold
  dsimp only
  rw [zi_lt0 hz]
  exact ⟨fun c => by rw [(fo_i hz).1 c]; exact h, fun c => by rw [(fo_i hz).2 c]; exact h⟩
theorem xwidth {b s : Nat} (hs : s < 4) (h : post (nI (wd b s))) : wpX_width post (f_blockLimit, nI b, f_capacity, f_count, f_nextFrame, f_planned, f_bestForm, f_length, f_frameCount, f_writeByte, f_writeMask, f_readByte, f_readMask, f_readEnd, f_decodedType0, f_decodedType1, f_position, f_skipped, f_held, f_heldNumber, f_heldSize, f_heldForm, f_heldType0, f_heldType1, f_heldMissing, a_differences, a_bestBits, a_bestType, a_bestPartition, a_bestParameter, a_stream, a_masks, a_owner, a_starts, a_lengths, a_alteredByte, a_decoded, a_heldSamples) (nI s) := by
  unfold wpX_width
  dsimp only
  unfold wd at h
  refine pk_eq s 3 (fun e => ?_) (fun e => ?_)
  · rw [nI_1]; rw [if_pos e] at h; exact h
  · rw [if_neg e] at h; exact h
variable {b n : Nat} {l r : Nat → Int}
theorem xpfrom {o p j : Nat} (hn : n ≤ 16) (hp : p ≤ 2) (hj : j < 4) (h : post (nI (pfr n o p j))) : wpX_partitionFrom post (f_blockLimit, f_sampleBits, f_capacity, nI n, f_nextFrame, f_planned, f_bestForm, f_length, f_frameCount, f_writeByte, f_writeMask, f_readByte, f_readMask, f_readEnd, f_decodedType0, f_decodedType1, f_position, f_skipped, f_held, f_heldNumber, f_heldSize, f_heldForm, f_heldType0, f_heldType1, f_heldMissing, a_differences, a_bestBits, a_bestType, a_bestPartition, a_bestParameter, a_stream, a_masks, a_owner, a_starts, a_lengths, a_alteredByte, a_decoded, a_heldSamples) (nI o) (nI p) (nI j) := by
  unfold wpX_partitionFrom
  dsimp only
  unfold pfr at h
  refine pk_eq j 0 (fun e => ?_) (fun e => ?_)
  · rw [if_pos e] at h; exact h
  · rw [if_neg e] at h
    rw [zi_shrN (by omega) (by omega), pk_mul]
    exact h
theorem xpc_loop (h1 : 4 ≤ b) (h2 : b ≤ 12) (hr : rng b l r n) (hn : n ≤ 16) (D : DF a_differences l r n) {s o k : Nat} (hs : s < 4) (ho : o ≤ 4) (hk : k ≤ 14) : ∀ c m t acc e, c < m → o ≤ t → t + c = e → e ≤ n → acc + c * 131087 < 2147483648 → post (nI (acc + ps (uu l r s o) k t c)) → wX_partitionCost_39 post (nI k) (nI e) (nI ((s * 5 + o) * 16)) f_blockLimit f_sampleBits f_capacity f_count f_nextFrame f_planned f_bestForm f_length f_frameCount f_writeByte f_writeMask f_readByte f_readMask f_readEnd f_decodedType0 f_decodedType1 f_position f_skipped f_held f_heldNumber f_heldSize f_heldForm f_heldType0 f_heldType1 f_heldMissing a_differences a_bestBits a_bestType a_bestPartition a_bestParameter a_stream a_masks a_owner a_starts a_lengths a_alteredByte a_decoded a_heldSamples m (nI acc) (nI t) := by
  intro c
  induction c with
  | zero =>
    intro m t acc e0 hm h3 h4 h4b h5 h
    obtain ⟨m, rfl⟩ : ∃ q, m = q + 1 := ⟨m - 1, by omega⟩
    exact br_t (nI_le (by omega) (by omega)) h
  | succ c ih =>
    intro m t acc e0 hm h3 h4 h4b h5 h
    obtain ⟨m, rfl⟩ : ∃ q, m = q + 1 := ⟨m - 1, by omega⟩
    have bd := dI_bd4 (rng_sg h1 h2 hr s) ho h3 (t := t) (by omega)
    have ul : uu l r s o t < 131072 := fo_lt bd
    have dv : uu l r s o t / 2 ^ k ≤ uu l r s o t := Nat.div_le_self _ _
    have e : a_differences (nI ((s * 5 + o) * 16) + nI t).toNatClampNeg = iI (dI (sg l r s) o t) := by
      rw [nI_add, nI_clamp (by omega)]
      exact D s o t hs ho h3 (by omega)
    refine br_f (nI_ge (by omega) (by omega)) ⟨pk_in ((s * 5 + o) * 16 + t) 320 (by omega) (nI_add _ _), ?_⟩
    rw [e]
    refine xfold bd ?_
    refine nm_r (e' := nI (acc + (uu l r s o t / 2 ^ k + 1 + k))) ?_ ?_
    · rw [zi_shrN (by show uu l r s o t < _; omega) (by omega), nI_1, nI_add, nI_add]
      rfl
    · refine nm_r (nI_1 t) ?_
      refine ih m (t + 1) _ e0 (by omega) (by omega) (by omega) h4b (by omega) ?_
      rw [ps_front] at h
      rw [Nat.add_assoc]
      exact h
theorem xpcost (h1 : 4 ≤ b) (h2 : b ≤ 12) (hr : rng b l r n) (hn : n ≤ 16) (D : DF a_differences l r n) {s o p j k : Nat} (hs : s < 4) (ho : o ≤ 4) (hp : p ≤ 2) (hof : o ≤ n / 2 ^ p) (hj : j < 2 ^ p) (hk : k ≤ 14) (h : post (nI (pc l r n s o p j k))) : wpX_partitionCost post (f_blockLimit, f_sampleBits, f_capacity, nI n, f_nextFrame, f_planned, f_bestForm, f_length, f_frameCount, f_writeByte, f_writeMask, f_readByte, f_readMask, f_readEnd, f_decodedType0, f_decodedType1, f_position, f_skipped, f_held, f_heldNumber, f_heldSize, f_heldForm, f_heldType0, f_heldType1, f_heldMissing, a_differences, a_bestBits, a_bestType, a_bestPartition, a_bestParameter, a_stream, a_masks, a_owner, a_starts, a_lengths, a_alteredByte, a_decoded, a_heldSamples) (nI s) (nI o) (nI p) (nI j) (nI k) := by
  have p4 := p4 hp
  unfold wpX_partitionCost
  dsimp only
  refine xpfrom hn hp (by omega) ?_
  refine nm_r (e' := nI ((j + 1) * (n / 2 ^ p))) ?_ ?_
  · rw [zi_shrN (by omega) (by omega), nI_1, pk_mul]
  · refine xcell (t := 0) ?_
    have a1 := pfr_ge (n := n) (p := p) (j := j) hof
    have a2 := pfr_le (n := n) (p := p) (j := j) hof
    have a3 := pto_le (n := n) hj
    exact ⟨_, xpc_loop h1 h2 hr hn D hs ho hk ((j + 1) * (n / 2 ^ p) - pfr n o p j) ((j + 1) * (n / 2 ^ p) - pfr n o p j + 1) (pfr n o p j) 4 _ (by omega) a1 (by omega) a3 (by omega) h⟩
theorem xrice_loop (h1 : 4 ≤ b) (h2 : b ≤ 12) (hr : rng b l r n) (hn : n ≤ 16) (D : DF a_differences l r n) {s o p j : Nat} (hs : s < 4) (ho : o ≤ 4) (hp : p ≤ 2) (hof : o ≤ n / 2 ^ p) (hj : j < 2 ^ p) (h : post (nI (kk l r n s o p j))) : ∀ d m k, d + k = 14 → d < m → kb (pc l r n s o p j) k = k → wX_riceParameter_18 post (nI s) (nI o) (nI p) (nI j) f_blockLimit f_sampleBits f_capacity (nI n) f_nextFrame f_planned f_bestForm f_length f_frameCount f_writeByte f_writeMask f_readByte f_readMask f_readEnd f_decodedType0 f_decodedType1 f_position f_skipped f_held f_heldNumber f_heldSize f_heldForm f_heldType0 f_heldType1 f_heldMissing a_differences a_bestBits a_bestType a_bestPartition a_bestParameter a_stream a_masks a_owner a_starts a_lengths a_alteredByte a_decoded a_heldSamples m (nI k) (nI (pc l r n s o p j k)) (nI (k + 1)) := by
  intro d
  induction d with
  | zero =>
    intro m k hd hm hk
    obtain ⟨m, rfl⟩ : ∃ q, m = q + 1 := ⟨m - 1, by omega⟩
    refine br_t (nI_lt (a := 14) (by omega) (by omega)) ?_
    have e : kk l r n s o p j = k := by unfold kk; rw [show (14 : Nat) = k from by omega]; exact hk
    rw [e] at h
    exact h
  | succ d ih =>
    intro m k hd hm hk
    obtain ⟨m, rfl⟩ : ∃ q, m = q + 1 := ⟨m - 1, by omega⟩
    refine br_f (nI_nlt (a := 14) (by omega) (by omega)) ?_
    have c1 := pc_lt h1 h2 hr hn (s := s) ho hof hj (k := k) (by omega)
    have c2 := pc_lt h1 h2 hr hn (s := s) ho hof hj (k := k + 1) (by omega)
    refine xpcost h1 h2 hr hn D hs ho hp hof hj (by omega) ?_
    refine pk_lt (pc l r n s o p j (k + 1)) (pc l r n s o p j k) (fun lt => ?_) (fun ge => ?_)
    · refine nm_r (nI_1 (k + 1)) ?_
      exact ih m (k + 1) (by omega) (by omega) (kb_go hk lt)
    · have e := kb_stop (fun q => pc_cvx q) hk ge (14 - k)
      have e2 : kk l r n s o p j = k := by unfold kk; rw [show k + (14 - k) = 14 from by omega] at e; exact e
      rw [e2] at h
      exact h
theorem xrice (h1 : 4 ≤ b) (h2 : b ≤ 12) (hr : rng b l r n) (hn : n ≤ 16) (D : DF a_differences l r n) {s o p j : Nat} (hs : s < 4) (ho : o ≤ 4) (hp : p ≤ 2) (hof : o ≤ n / 2 ^ p) (hj : j < 2 ^ p) (h : post (nI (kk l r n s o p j))) : wpX_riceParameter post (f_blockLimit, f_sampleBits, f_capacity, nI n, f_nextFrame, f_planned, f_bestForm, f_length, f_frameCount, f_writeByte, f_writeMask, f_readByte, f_readMask, f_readEnd, f_decodedType0, f_decodedType1, f_position, f_skipped, f_held, f_heldNumber, f_heldSize, f_heldForm, f_heldType0, f_heldType1, f_heldMissing, a_differences, a_bestBits, a_bestType, a_bestPartition, a_bestParameter, a_stream, a_masks, a_owner, a_starts, a_lengths, a_alteredByte, a_decoded, a_heldSamples) (nI s) (nI o) (nI p) (nI j) := by
  unfold wpX_riceParameter
  dsimp only
  refine xpcost (k := 0) h1 h2 hr hn D hs ho hp hof hj (by omega) ?_
  exact ⟨15, xrice_loop h1 h2 hr hn D hs ho hp hof hj h 14 15 0 (by omega) (by omega) rfl⟩
theorem xsub_loop (h1 : 4 ≤ b) (h2 : b ≤ 12) (hr : rng b l r n) (hn : n ≤ 16) (D : DF a_differences l r n) {s o p base : Nat} (hs : s < 4) (ho : o ≤ 4) (hp : p ≤ 2) (hof : o ≤ n / 2 ^ p) (hb : base ≤ 100) (h : post (nI (base + sps l r n s o p (2 ^ p)))) : ∀ d m j, j + d = 2 ^ p → d < m → wX_subframeBits_84 post (nI s) (nI p) (nI o) f_blockLimit f_sampleBits f_capacity (nI n) f_nextFrame f_planned f_bestForm f_length f_frameCount f_writeByte f_writeMask f_readByte f_readMask f_readEnd f_decodedType0 f_decodedType1 f_position f_skipped f_held f_heldNumber f_heldSize f_heldForm f_heldType0 f_heldType1 f_heldMissing a_differences a_bestBits a_bestType a_bestPartition a_bestParameter a_stream a_masks a_owner a_starts a_lengths a_alteredByte a_decoded a_heldSamples m (nI (base + sps l r n s o p j)) (nI j) := by
  have p4 := p4 hp
  intro d
  induction d with
  | zero =>
    intro m j hd hm
    obtain ⟨m, rfl⟩ : ∃ q, m = q + 1 := ⟨m - 1, by omega⟩
    refine br_t ?_ ?_
    · rw [zi_1shl (by omega)]; exact nI_le (by omega) (by omega)
    · rw [show 2 ^ p = j from by omega] at h; exact h
  | succ d ih =>
    intro m j hd hm
    obtain ⟨m, rfl⟩ : ∃ q, m = q + 1 := ⟨m - 1, by omega⟩
    refine br_f ?_ ?_
    · rw [zi_1shl (by omega)]; exact nI_ge (by omega) (by omega)
    · refine xrice h1 h2 hr hn D hs ho hp hof (by omega) ?_
      refine xpcost h1 h2 hr hn D hs ho hp hof (by omega) kk_le ?_
      refine nm_r (e' := nI (base + sps l r n s o p (j + 1))) ?_ ?_
      · rw [nI_add]; exact congrArg nI (by simp only [sps]; omega)
      · refine nm_r (nI_1 j) ?_
        exact ih m (j + 1) (by omega) (by omega)
theorem xfixed {o p : Nat} (hn : n ≤ 16) (hp : p ≤ 2) (ho : o ≤ 4) (h : post (if n % 2 ^ p = 0 ∧ o ≤ n / 2 ^ p then 1 else 0)) : wpX_fixedOffered post (f_blockLimit, f_sampleBits, f_capacity, nI n, f_nextFrame, f_planned, f_bestForm, f_length, f_frameCount, f_writeByte, f_writeMask, f_readByte, f_readMask, f_readEnd, f_decodedType0, f_decodedType1, f_position, f_skipped, f_held, f_heldNumber, f_heldSize, f_heldForm, f_heldType0, f_heldType1, f_heldMissing, a_differences, a_bestBits, a_bestType, a_bestPartition, a_bestParameter, a_stream, a_masks, a_owner, a_starts, a_lengths, a_alteredByte, a_decoded, a_heldSamples) (nI o) (nI p) := by
  unfold wpX_fixedOffered
  dsimp only
  have em : nI n &&& (((1 : Int32) <<< (nI p &&& 31)) - 1) = nI (n % 2 ^ p) := by
    rw [zi_1shl (by omega)]
    have : p = 0 ∨ p = 1 ∨ p = 2 := by omega
    rcases this with rfl | rfl | rfl
    · exact pk_andN (by omega) 0 (by decide)
    · exact pk_andN (by omega) 1 (by decide)
    · exact pk_andN (by omega) 2 (by decide)
  have hml : n % 2 ^ p ≤ n := Nat.mod_le _ _
  have hdl : n / 2 ^ p ≤ n := Nat.div_le_self _ _
  rw [em, zi_shrN (by omega) (by omega)]
  refine pk_eq (n % 2 ^ p) 0 (fun e => ?_) (fun e => ?_)
  · refine pk_lt (n / 2 ^ p) o (fun c => ?_) (fun c => ?_)
    · rw [if_neg (fun z => by omega)] at h; exact h
    · rw [if_pos ⟨e, c⟩] at h; exact h
  · rw [if_neg (fun z => e z.1)] at h; exact h
theorem xconst_loop (h1 : 4 ≤ b) (h2 : b ≤ 12) (hr : rng b l r n) (hn : n ≤ 16) (D : DF a_differences l r n) {s : Nat} (hs : s < 4) (h : post (if ∀ t, t < n → sg l r s t = sg l r s 0 then 1 else 0)) : ∀ d m t, 1 ≤ t → t + d = (if n = 0 then 1 else n) → d < m → (∀ i, i < t → sg l r s i = sg l r s 0) → wX_isConstant_10 post (nI ((s * 5 + 1) * 16)) f_blockLimit f_sampleBits f_capacity (nI n) f_nextFrame f_planned f_bestForm f_length f_frameCount f_writeByte f_writeMask f_readByte f_readMask f_readEnd f_decodedType0 f_decodedType1 f_position f_skipped f_held f_heldNumber f_heldSize f_heldForm f_heldType0 f_heldType1 f_heldMissing a_differences a_bestBits a_bestType a_bestPartition a_bestParameter a_stream a_masks a_owner a_starts a_lengths a_alteredByte a_decoded a_heldSamples m (nI t) := by
  intro d
  induction d with
  | zero =>
    intro m t h3 hd hm hc
    obtain ⟨m, rfl⟩ : ∃ q, m = q + 1 := ⟨m - 1, by omega⟩
    refine br_t (nI_le (by split at hd <;> omega) (by split at hd <;> omega)) ?_
    rw [if_pos (fun i hi => hc i (by split at hd <;> omega))] at h
    exact h
  | succ d ih =>
    intro m t h3 hd hm hc
    obtain ⟨m, rfl⟩ : ∃ q, m = q + 1 := ⟨m - 1, by omega⟩
    have htn : t < n := by split at hd <;> omega
    refine br_f (nI_ge htn (by omega)) ⟨pk_in ((s * 5 + 1) * 16 + t) 320 (by omega) (nI_add _ _), ?_⟩
    have e : a_differences (nI ((s * 5 + 1) * 16) + nI t).toNatClampNeg = iI (sg l r s t - sg l r s (t - 1)) := by
      rw [nI_add, nI_clamp (by omega)]
      exact D s 1 t hs (by omega) h3 htn
    rw [e]
    have b1 := rng_sg h1 h2 hr s t htn
    have b2 := rng_sg h1 h2 hr s (t - 1) (by omega)
    have q := hc (t - 1) (by omega)
    have ez : iI (sg l r s t - sg l r s (t - 1)) = 0 ↔ sg l r s t - sg l r s (t - 1) = 0 := zi_eq (b := 0) (by omega) (by omega) (by omega) (by omega)
    rw [ez]
    refine br_c (fun c => ?_) (fun c => ?_)
    · refine nm_r (nI_1 t) ?_
      refine ih m (t + 1) (by omega) (by omega) (by omega) (fun i hi => ?_)
      by_cases x : i = t
      · rw [x]; omega
      · exact hc i (by omega)
    · rw [if_neg (fun z => by have := z t htn; omega)] at h
      exact h
theorem xconst (h1 : 4 ≤ b) (h2 : b ≤ 12) (hr : rng b l r n) (hn : n ≤ 16) (D : DF a_differences l r n) {s : Nat} (hs : s < 4) (h : post (if ∀ t, t < n → sg l r s t = sg l r s 0 then 1 else 0)) : wpX_isConstant post (f_blockLimit, f_sampleBits, f_capacity, nI n, f_nextFrame, f_planned, f_bestForm, f_length, f_frameCount, f_writeByte, f_writeMask, f_readByte, f_readMask, f_readEnd, f_decodedType0, f_decodedType1, f_position, f_skipped, f_held, f_heldNumber, f_heldSize, f_heldForm, f_heldType0, f_heldType1, f_heldMissing, a_differences, a_bestBits, a_bestType, a_bestPartition, a_bestParameter, a_stream, a_masks, a_owner, a_starts, a_lengths, a_alteredByte, a_decoded, a_heldSamples) (nI s) := by
  unfold wpX_isConstant
  dsimp only
  refine xcell (o := 1) (t := 0) ?_
  refine ⟨_, xconst_loop h1 h2 hr hn D hs h ((if n = 0 then 1 else n) - 1) ((if n = 0 then 1 else n) - 1 + 1) 1 (by omega) (by split <;> omega) (by omega) (fun i hi => ?_)⟩
  rw [show i = 0 from by omega]
theorem xsubbits (h1 : 4 ≤ b) (h2 : b ≤ 12) (hr : rng b l r n) (hn : n ≤ 16) (D : DF a_differences l r n) {s ty p : Nat} (hs : s < 4) (hty : ty ≤ 6) (hp : p ≤ 2) (h : post (oI (tb b l r n s ty p))) : wpX_subframeBits post (f_blockLimit, nI b, f_capacity, nI n, f_nextFrame, f_planned, f_bestForm, f_length, f_frameCount, f_writeByte, f_writeMask, f_readByte, f_readMask, f_readEnd, f_decodedType0, f_decodedType1, f_position, f_skipped, f_held, f_heldNumber, f_heldSize, f_heldForm, f_heldType0, f_heldType1, f_heldMissing, a_differences, a_bestBits, a_bestType, a_bestPartition, a_bestParameter, a_stream, a_masks, a_owner, a_starts, a_lengths, a_alteredByte, a_decoded, a_heldSamples) (nI s) (nI ty) (nI p) := by
  unfold wpX_subframeBits
  dsimp only
  refine xwidth hs ?_
  unfold tb at h
  have w := wd_bd h1 h2 s
  refine pk_eq ty 0 (fun e => ?_) (fun e => ?_)
  · rw [if_pos e] at h
    refine pk_eq p 0 (fun e2 => ?_) (fun e2 => ?_)
    · refine xconst h1 h2 hr hn D hs ?_
      by_cases c : ∀ t, t < n → sg l r s t = sg l r s 0
      · rw [if_pos c]
        rw [if_pos ⟨e2, c⟩] at h
        refine br_f (by decide) ?_
        have : (3 : Int32) + nI (wd b s) = nI (3 + wd b s) := nI_add 3 (wd b s)
        rw [this]
        exact h
      · rw [if_neg c]
        rw [if_neg (fun z => c z.2)] at h
        exact br_t rfl h
    · rw [if_neg (fun z => e2 z.1)] at h; exact h
  · rw [if_neg e] at h
    refine pk_eq ty 1 (fun e1 => ?_) (fun e1 => ?_)
    · rw [if_pos e1] at h
      refine pk_eq p 0 (fun e2 => ?_) (fun e2 => ?_)
      · rw [if_pos e2] at h
        have : (3 : Int32) + nI n * nI (wd b s) = nI (3 + n * wd b s) := by
          rw [pk_mul]; exact nI_add 3 _
        rw [this]
        exact h
      · rw [if_neg e2] at h; exact h
    · rw [if_neg e1] at h
      refine nm_r (e' := nI (ty - 2)) (pk_sub (b := 2) (by omega)) ?_
      refine xfixed hn hp (by omega) ?_
      by_cases c : n % 2 ^ p = 0 ∧ ty - 2 ≤ n / 2 ^ p
      · rw [if_pos c] at h ⊢
        refine br_f (by decide) ?_
        have f : (ty - 2) * wd b s ≤ 4 * 13 := Nat.mul_le_mul (by omega) w.2
        refine nm_r (e' := nI (3 + (ty - 2) * wd b s + 2)) ?_ ?_
        · rw [pk_mul]
          show nI 3 + nI _ + nI 2 = _
          rw [nI_add, nI_add]
        · exact ⟨_, xsub_loop h1 h2 hr hn D hs (o := ty - 2) (base := 3 + (ty - 2) * wd b s + 2) (by omega) hp c.2 (by omega) h (2 ^ p) (2 ^ p + 1) 0 (by omega) (by omega)⟩
      · rw [if_neg c] at h ⊢
        exact br_t rfl h
end
end
section
/-! X: plan -/
theorem tb_off {b : Nat} {l r : Nat → Int} {n s ty p m : Nat} (h : tb b l r n s ty p = some m) (ht : 2 ≤ ty) : n % 2 ^ p = 0 ∧ ty - 2 ≤ n / 2 ^ p := by
  unfold tb at h
  rw [if_neg (by omega), if_neg (by omega)] at h
  split at h
  · assumption
  · cases h
def lz (a : Option (Nat × Nat × Nat)) : Int32 := match a with
  | none => -1
  | some q => nI q.1
def FB (s : Nat) (a : Option (Nat × Nat × Nat)) (BT BP BT0 BP0 : Nat → Int32) : Prop := (∀ m t p, a = some (m, t, p) → BT s = nI t ∧ BP s = nI p) ∧ (∀ i, i ≠ s → BT i = BT0 i ∧ BP i = BP0 i)
def PLs (b : Nat) (l r : Nat → Int) (n : Nat) (BB BT BP BK : Nat → Int32) (s : Nat) : Prop := BB s = nI (bB b l r n s) ∧ BT s = nI (bT b l r n s) ∧ BP s = nI (bP b l r n s) ∧ ∀ j, j < 4 → BK (s * 4 + j) = prm b l r n s j
def PLo (s : Nat) (BB BT BP BK BB0 BT0 BP0 BK0 : Nat → Int32) : Prop := ∀ i, i ≠ s → BB i = BB0 i ∧ BT i = BT0 i ∧ BP i = BP0 i ∧ ∀ j, j < 4 → BK (i * 4 + j) = BK0 (i * 4 + j)
def PLN (b : Nat) (l r : Nat → Int) (n : Nat) (form : Int32) (BB BT BP BK : Nat → Int32) : Prop := (∀ s, s < 4 → PLs b l r n BB BT BP BK s) ∧ form = nI (bfm b l r n)
section
variable {f_blockLimit f_sampleBits f_capacity f_count f_nextFrame f_planned f_bestForm f_length f_frameCount f_writeByte f_writeMask f_readByte f_readMask f_readEnd f_decodedType0 f_decodedType1 f_position f_skipped f_held f_heldNumber f_heldSize f_heldForm f_heldType0 f_heldType1 f_heldMissing : Int32}
variable {a_differences a_bestBits a_bestType a_bestPartition a_bestParameter a_stream a_masks a_owner a_starts a_lengths a_alteredByte a_decoded a_heldSamples : Nat → Int32}
variable {post : SX → Prop} {b n : Nat} {l r : Nat → Int}
theorem xchan {post : Int32 → Prop} {f c : Nat} (hf : f < 1000) (hc : c < 1000) (h : post (nI (sgO f c))) : wpX_channelSignal post (f_blockLimit, f_sampleBits, f_capacity, f_count, f_nextFrame, f_planned, f_bestForm, f_length, f_frameCount, f_writeByte, f_writeMask, f_readByte, f_readMask, f_readEnd, f_decodedType0, f_decodedType1, f_position, f_skipped, f_held, f_heldNumber, f_heldSize, f_heldForm, f_heldType0, f_heldType1, f_heldMissing, a_differences, a_bestBits, a_bestType, a_bestPartition, a_bestParameter, a_stream, a_masks, a_owner, a_starts, a_lengths, a_alteredByte, a_decoded, a_heldSamples) (nI f) (nI c) := by
  unfold wpX_channelSignal
  dsimp only
  unfold sgO at h
  refine pk_eq c 0 (fun e => ?_) (fun e => ?_)
  · rw [if_pos e] at h
    refine pk_eq f 2 (fun e2 => ?_) (fun e2 => ?_)
    · rw [if_pos e2] at h; exact h
    · rw [if_neg e2] at h
      refine pk_eq f 3 (fun e3 => ?_) (fun e3 => ?_)
      · rw [if_pos e3] at h; exact h
      · rw [if_neg e3] at h; exact h
  · rw [if_neg e] at h
    refine pk_eq f 0 (fun e2 => ?_) (fun e2 => ?_)
    · rw [if_pos e2] at h; exact h
    · rw [if_neg e2] at h
      refine pk_eq f 2 (fun e3 => ?_) (fun e3 => ?_)
      · rw [if_pos e3] at h; exact h
      · rw [if_neg e3] at h; exact h
theorem xformbits {post : Int32 → Prop} {f : Nat} (hf : f < 1000) (hB : ∀ s, s < 4 → a_bestBits s = nI (bB b l r n s)) (h : post (nI (fbt b l r n f))) : wpX_formBits post (f_blockLimit, f_sampleBits, f_capacity, f_count, f_nextFrame, f_planned, f_bestForm, f_length, f_frameCount, f_writeByte, f_writeMask, f_readByte, f_readMask, f_readEnd, f_decodedType0, f_decodedType1, f_position, f_skipped, f_held, f_heldNumber, f_heldSize, f_heldForm, f_heldType0, f_heldType1, f_heldMissing, a_differences, a_bestBits, a_bestType, a_bestPartition, a_bestParameter, a_stream, a_masks, a_owner, a_starts, a_lengths, a_alteredByte, a_decoded, a_heldSamples) (nI f) := by
  unfold wpX_formBits
  dsimp only
  refine xchan (c := 0) hf (by omega) ?_
  refine xchan (c := 1) hf (by omega) ?_
  have c0 := sgO_lt f 0
  have c1 := sgO_lt f 1
  refine ⟨vp_in_nI c0 (by omega), vp_in_nI c1 (by omega), ?_⟩
  rw [nI_clamp (by omega), nI_clamp (by omega), hB _ c0, hB _ c1, nI_add]
  exact h
theorem xfp52 {J17 : Int32 → (Nat → Int32) → (Nat → Int32) → (Nat → Int32) → (Nat → Int32) → (Nat → Int32) → (Nat → Int32) → (Nat → Int32) → (Nat → Int32) → (Nat → Int32) → (Nat → Int32) → (Nat → Int32) → (Nat → Int32) → (Nat → Int32) → Prop} {x2 x3 v : Int32} {s q : Nat} (hs : s < 4) (hq : q < 4) (h : J17 (nI (q + 1)) a_differences a_bestBits a_bestType a_bestPartition (upd a_bestParameter (s * 4 + q) v) a_stream a_masks a_owner a_starts a_lengths a_alteredByte a_decoded a_heldSamples) : wX_findParameters_52 post J17 (nI s) x2 x3 (nI q) v f_blockLimit f_sampleBits f_capacity f_count f_nextFrame f_planned f_bestForm f_length f_frameCount f_writeByte f_writeMask f_readByte f_readMask f_readEnd f_decodedType0 f_decodedType1 f_position f_skipped f_held f_heldNumber f_heldSize f_heldForm f_heldType0 f_heldType1 f_heldMissing a_differences a_bestBits a_bestType a_bestPartition a_bestParameter a_stream a_masks a_owner a_starts a_lengths a_alteredByte a_decoded a_heldSamples := by
  have e : nI s * 4 + nI q = nI (s * 4 + q) := by
    show nI s * nI 4 + nI q = _
    rw [pk_mul, nI_add]
  unfold wX_findParameters_52
  rw [e, nI_clamp (by omega)]
  exact ⟨vp_in_nI (by omega) (by omega), nm_e (nm_r (nI_1 q) h)⟩
theorem xfp_loop (h1 : 4 ≤ b) (h2 : b ≤ 12) (hr : rng b l r n) (hn : n ≤ 16) (D : DF a_differences l r n) {s : Nat} (hs : s < 4) {BK0 : Nat → Int32} (K : ∀ BK, (∀ j, j < 4 → BK (s * 4 + j) = prm b l r n s j) → (∀ i, i < s * 4 ∨ s * 4 + 4 ≤ i → BK i = BK0 i) → post (f_blockLimit, nI b, f_capacity, nI n, f_nextFrame, f_planned, f_bestForm, f_length, f_frameCount, f_writeByte, f_writeMask, f_readByte, f_readMask, f_readEnd, f_decodedType0, f_decodedType1, f_position, f_skipped, f_held, f_heldNumber, f_heldSize, f_heldForm, f_heldType0, f_heldType1, f_heldMissing, a_differences, a_bestBits, a_bestType, a_bestPartition, BK, a_stream, a_masks, a_owner, a_starts, a_lengths, a_alteredByte, a_decoded, a_heldSamples)) : ∀ d m q BK, q + d = 4 → d < m → (∀ j, j < q → BK (s * 4 + j) = prm b l r n s j) → (∀ i, i < s * 4 ∨ s * 4 + 4 ≤ i → BK i = BK0 i) → wX_findParameters_17 post (nI s) (nI (bT b l r n s)) (nI (bP b l r n s)) f_blockLimit (nI b) f_capacity (nI n) f_nextFrame f_planned f_bestForm f_length f_frameCount f_writeByte f_writeMask f_readByte f_readMask f_readEnd f_decodedType0 f_decodedType1 f_position f_skipped f_held f_heldNumber f_heldSize f_heldForm f_heldType0 f_heldType1 f_heldMissing m (nI q) a_differences a_bestBits a_bestType a_bestPartition BK a_stream a_masks a_owner a_starts a_lengths a_alteredByte a_decoded a_heldSamples := by
  obtain ⟨_, tbe, ht, hp, _⟩ := bco_sc b l r n s
  have p4 := p4 hp
  intro d
  induction d with
  | zero =>
    intro m q BK hd hm g1 g2
    obtain ⟨m, rfl⟩ : ∃ z, m = z + 1 := ⟨m - 1, by omega⟩
    exact br_t (nI_le (a := 4) (by omega) (by omega)) (K BK (fun j hj => g1 j (by omega)) g2)
  | succ d ih =>
    intro m q BK hd hm g1 g2
    obtain ⟨m, rfl⟩ : ∃ z, m = z + 1 := ⟨m - 1, by omega⟩
    have step : ∀ v, v = prm b l r n s q → wX_findParameters_52 post (wX_findParameters_17 post (nI s) (nI (bT b l r n s)) (nI (bP b l r n s)) f_blockLimit (nI b) f_capacity (nI n) f_nextFrame f_planned f_bestForm f_length f_frameCount f_writeByte f_writeMask f_readByte f_readMask f_readEnd f_decodedType0 f_decodedType1 f_position f_skipped f_held f_heldNumber f_heldSize f_heldForm f_heldType0 f_heldType1 f_heldMissing m) (nI s) (nI (bT b l r n s)) (nI (bP b l r n s)) (nI q) v f_blockLimit (nI b) f_capacity (nI n) f_nextFrame f_planned f_bestForm f_length f_frameCount f_writeByte f_writeMask f_readByte f_readMask f_readEnd f_decodedType0 f_decodedType1 f_position f_skipped f_held f_heldNumber f_heldSize f_heldForm f_heldType0 f_heldType1 f_heldMissing a_differences a_bestBits a_bestType a_bestPartition BK a_stream a_masks a_owner a_starts a_lengths a_alteredByte a_decoded a_heldSamples := by
      intro v hv
      refine xfp52 hs (by omega) ?_
      refine ih m (q + 1) _ (by omega) (by omega) (fun j hj => ?_) (fun i hi => ?_)
      · by_cases e : j = q
        · rw [e, pk_us]; exact hv
        · rw [pk_un (by omega)]; exact g1 j (by omega)
      · rw [pk_un (by omega)]; exact g2 i hi
    refine br_f (nI_ge (b := 4) (by omega) (by omega)) ?_
    refine pk_lt (bT b l r n s) 2 (fun c => ?_) (fun c => ?_)
    · refine step _ ?_
      unfold prm; rw [if_neg (fun z => by omega)]
    · rw [zi_1shl (by omega)]
      refine pk_le (2 ^ bP b l r n s) q (fun c2 => ?_) (fun c2 => ?_)
      · refine step _ ?_
        unfold prm; rw [if_neg (fun z => by omega)]
      · have of := tb_off tbe c
        rw [show nI (bT b l r n s) - 2 = nI (bT b l r n s - 2) from pk_sub (b := 2) (by omega)]
        refine xrice h1 h2 hr hn D hs (by omega) hp of.2 c2 ?_
        refine step _ ?_
        unfold prm; rw [if_pos ⟨c, c2⟩]
theorem xfindpar (h1 : 4 ≤ b) (h2 : b ≤ 12) (hr : rng b l r n) (hn : n ≤ 16) (D : DF a_differences l r n) {s : Nat} (hs : s < 4) (eT : a_bestType s = nI (bT b l r n s)) (eP : a_bestPartition s = nI (bP b l r n s)) (K : ∀ BK, (∀ j, j < 4 → BK (s * 4 + j) = prm b l r n s j) → (∀ i, i < s * 4 ∨ s * 4 + 4 ≤ i → BK i = a_bestParameter i) → post (f_blockLimit, nI b, f_capacity, nI n, f_nextFrame, f_planned, f_bestForm, f_length, f_frameCount, f_writeByte, f_writeMask, f_readByte, f_readMask, f_readEnd, f_decodedType0, f_decodedType1, f_position, f_skipped, f_held, f_heldNumber, f_heldSize, f_heldForm, f_heldType0, f_heldType1, f_heldMissing, a_differences, a_bestBits, a_bestType, a_bestPartition, BK, a_stream, a_masks, a_owner, a_starts, a_lengths, a_alteredByte, a_decoded, a_heldSamples)) : wpX_findParameters post (f_blockLimit, nI b, f_capacity, nI n, f_nextFrame, f_planned, f_bestForm, f_length, f_frameCount, f_writeByte, f_writeMask, f_readByte, f_readMask, f_readEnd, f_decodedType0, f_decodedType1, f_position, f_skipped, f_held, f_heldNumber, f_heldSize, f_heldForm, f_heldType0, f_heldType1, f_heldMissing, a_differences, a_bestBits, a_bestType, a_bestPartition, a_bestParameter, a_stream, a_masks, a_owner, a_starts, a_lengths, a_alteredByte, a_decoded, a_heldSamples) (nI s) := by
  unfold wpX_findParameters
  dsimp only
  refine ⟨vp_in_nI hs (by omega), ?_⟩
  rw [nI_clamp (by omega), eT]
  refine nm_e ⟨vp_in_nI hs (by omega), ?_⟩
  rw [eP]
  refine nm_e ?_
  exact ⟨5, xfp_loop h1 h2 hr hn D hs K 4 5 0 a_bestParameter (by omega) (by omega) (fun j hj => by omega) (fun i _ => rfl)⟩
theorem xfb46 {J4 J13 : Int32 → Int32 → (Nat → Int32) → (Nat → Int32) → (Nat → Int32) → (Nat → Int32) → (Nat → Int32) → (Nat → Int32) → (Nat → Int32) → (Nat → Int32) → (Nat → Int32) → (Nat → Int32) → (Nat → Int32) → (Nat → Int32) → (Nat → Int32) → Prop} {v : Int32} {s ty p : Nat} (hs : s < 4) (h : J13 v (nI (p + 1)) a_differences a_bestBits (upd a_bestType s (nI ty)) (upd a_bestPartition s (nI p)) a_bestParameter a_stream a_masks a_owner a_starts a_lengths a_alteredByte a_decoded a_heldSamples) : wX_findBest_46 post J4 J13 (nI s) (nI ty) (nI p) v f_blockLimit f_sampleBits f_capacity f_count f_nextFrame f_planned f_bestForm f_length f_frameCount f_writeByte f_writeMask f_readByte f_readMask f_readEnd f_decodedType0 f_decodedType1 f_position f_skipped f_held f_heldNumber f_heldSize f_heldForm f_heldType0 f_heldType1 f_heldMissing a_differences a_bestBits a_bestType a_bestPartition a_bestParameter a_stream a_masks a_owner a_starts a_lengths a_alteredByte a_decoded a_heldSamples := by
  unfold wX_findBest_46
  rw [nI_clamp (by omega)]
  exact ⟨vp_in_nI hs (by omega), nm_e ⟨vp_in_nI hs (by omega), nm_e (nm_r (nI_1 p) h)⟩⟩
theorem FB_take {s : Nat} {a : Option (Nat × Nat × Nat)} {BT BP BT0 BP0 : Nat → Int32} {m ty p : Nat} (h : FB s a BT BP BT0 BP0) : FB s (some (m, ty, p)) (upd BT s (nI ty)) (upd BP s (nI p)) BT0 BP0 := by
  refine ⟨fun m' t' p' e => ?_, fun i hi => ?_⟩
  · cases e
    rw [pk_us, pk_us]; exact ⟨rfl, rfl⟩
  · rw [pk_un hi, pk_un hi]; exact h.2 i hi
theorem xfb_in (h1 : 4 ≤ b) (h2 : b ≤ 12) (hr : rng b l r n) (hn0 : 1 ≤ n) (hn : n ≤ 16) (D : DF a_differences l r n) {s ty : Nat} (hs : s < 4) (hty : ty ≤ 6) {J4 : Int32 → Int32 → (Nat → Int32) → (Nat → Int32) → (Nat → Int32) → (Nat → Int32) → (Nat → Int32) → (Nat → Int32) → (Nat → Int32) → (Nat → Int32) → (Nat → Int32) → (Nat → Int32) → (Nat → Int32) → (Nat → Int32) → (Nat → Int32) → Prop} {a0 : Option (Nat × Nat × Nat)} (ok0 : sok (tb b l r n s) a0) {BT0 BP0 : Nat → Int32} (K : ∀ BT BP, FB s (sc2 (tb b l r n s) ty a0 3) BT BP BT0 BP0 → J4 (lz (sc2 (tb b l r n s) ty a0 3)) (nI (ty + 1)) a_differences a_bestBits BT BP a_bestParameter a_stream a_masks a_owner a_starts a_lengths a_alteredByte a_decoded a_heldSamples) : ∀ d m p BT BP, p + d = 3 → d < m → FB s (sc2 (tb b l r n s) ty a0 p) BT BP BT0 BP0 → wX_findBest_13 post J4 (nI s) (nI ty) f_blockLimit (nI b) f_capacity (nI n) f_nextFrame f_planned f_bestForm f_length f_frameCount f_writeByte f_writeMask f_readByte f_readMask f_readEnd f_decodedType0 f_decodedType1 f_position f_skipped f_held f_heldNumber f_heldSize f_heldForm f_heldType0 f_heldType1 f_heldMissing m (lz (sc2 (tb b l r n s) ty a0 p)) (nI p) a_differences a_bestBits BT BP a_bestParameter a_stream a_masks a_owner a_starts a_lengths a_alteredByte a_decoded a_heldSamples := by
  intro d
  induction d with
  | zero =>
    intro m p BT BP hd hm g
    obtain ⟨m, rfl⟩ : ∃ z, m = z + 1 := ⟨m - 1, by omega⟩
    obtain rfl : p = 3 := by omega
    exact br_t (nI_lt (a := 2) (by omega) (by omega)) (nm_r (nI_1 ty) (K BT BP g))
  | succ d ih =>
    intro m p BT BP hd hm g
    obtain ⟨m, rfl⟩ : ∃ z, m = z + 1 := ⟨m - 1, by omega⟩
    have okp := sok_2 ok0 hty p (by omega)
    have sc : sc2 (tb b l r n s) ty a0 (p + 1) = st1 (tb b l r n s ty p) ty p (sc2 (tb b l r n s) ty a0 p) := rfl
    have IH := fun BT BP => ih m (p + 1) BT BP (by omega) (by omega)
    rw [sc] at IH
    refine br_f (nI_nlt (a := 2) (by omega) (by omega)) ?_
    refine xsubbits h1 h2 hr hn D hs hty (by omega) ?_
    generalize hv : tb b l r n s ty p = v at IH
    generalize ha : sc2 (tb b l r n s) ty a0 p = a at IH g okp
    cases v with
    | none =>
      refine br_t rfl (nm_r (nI_1 p) ?_)
      exact IH BT BP g
    | some v =>
      have vb := tb_bd h1 h2 hr hn0 hn hty (by omega) hv
      refine br_f (zi_m1lt (by omega)) ?_
      cases a with
      | none =>
        refine br_t rfl ?_
        exact xfb46 hs (IH _ _ (FB_take g))
      | some w =>
        obtain ⟨m0, t0, p0⟩ := w
        have wb := okp m0 t0 p0 rfl
        have wb2 := tb_bd h1 h2 hr hn0 hn wb.2.1 wb.2.2 wb.1
        have est : st1 (some v) ty p (some (m0, t0, p0)) = if v < m0 then some (v, ty, p) else some (m0, t0, p0) := rfl
        rw [est] at IH
        refine br_f (zi_m1lt (n := m0) (by omega)) ?_
        refine pk_le m0 v (fun c => ?_) (fun c => ?_)
        · rw [if_neg (by omega)] at IH
          exact nm_r (nI_1 p) (IH BT BP g)
        · rw [if_pos c] at IH
          exact xfb46 hs (IH _ _ (FB_take g))
theorem xfb_out (h1 : 4 ≤ b) (h2 : b ≤ 12) (hr : rng b l r n) (hn0 : 1 ≤ n) (hn : n ≤ 16) (D : DF a_differences l r n) {s : Nat} (hs : s < 4) {BT0 BP0 : Nat → Int32} (K : ∀ BB BT BP BK, PLs b l r n BB BT BP BK s → PLo s BB BT BP BK a_bestBits BT0 BP0 a_bestParameter → post (f_blockLimit, nI b, f_capacity, nI n, f_nextFrame, f_planned, f_bestForm, f_length, f_frameCount, f_writeByte, f_writeMask, f_readByte, f_readMask, f_readEnd, f_decodedType0, f_decodedType1, f_position, f_skipped, f_held, f_heldNumber, f_heldSize, f_heldForm, f_heldType0, f_heldType1, f_heldMissing, a_differences, BB, BT, BP, BK, a_stream, a_masks, a_owner, a_starts, a_lengths, a_alteredByte, a_decoded, a_heldSamples)) : ∀ d m ty BT BP, ty + d = 7 → d < m → FB s (sc1 (tb b l r n s) ty) BT BP BT0 BP0 → wX_findBest_4 post (nI s) f_blockLimit (nI b) f_capacity (nI n) f_nextFrame f_planned f_bestForm f_length f_frameCount f_writeByte f_writeMask f_readByte f_readMask f_readEnd f_decodedType0 f_decodedType1 f_position f_skipped f_held f_heldNumber f_heldSize f_heldForm f_heldType0 f_heldType1 f_heldMissing m (lz (sc1 (tb b l r n s) ty)) (nI ty) a_differences a_bestBits BT BP a_bestParameter a_stream a_masks a_owner a_starts a_lengths a_alteredByte a_decoded a_heldSamples := by
  intro d
  induction d with
  | zero =>
    intro m ty BT BP hd hm g
    obtain ⟨m, rfl⟩ : ∃ z, m = z + 1 := ⟨m - 1, by omega⟩
    obtain rfl : ty = 7 := by omega
    obtain ⟨e7, _⟩ := bco_sc b l r n s
    have el : lz (sc1 (tb b l r n s) 7) = nI (bB b l r n s) := by rw [e7]; rfl
    have gs := g.1 _ _ _ e7
    refine br_t (nI_lt (a := 6) (by omega) (by omega)) ⟨vp_in_nI hs (by omega), ?_⟩
    rw [nI_clamp (by omega), el]
    refine nm_e ?_
    refine xfindpar h1 h2 hr hn D hs gs.1 gs.2 (fun BK k1 k2 => ?_)
    refine K _ BT BP BK ⟨pk_us, gs.1, gs.2, k1⟩ (fun i hi => ⟨pk_un hi, (g.2 i hi).1, (g.2 i hi).2, fun j hj => k2 _ (by omega)⟩)
  | succ d ih =>
    intro m ty BT BP hd hm g
    obtain ⟨m, rfl⟩ : ∃ z, m = z + 1 := ⟨m - 1, by omega⟩
    refine br_f (nI_nlt (a := 6) (by omega) (by omega)) ?_
    refine ⟨4, xfb_in h1 h2 hr hn0 hn D hs (by omega) (sok_1 _ ty (by omega)) (fun BT' BP' g' => ?_) 3 4 0 BT BP (by omega) (by omega) g⟩
    exact ih m (ty + 1) BT' BP' (by omega) (by omega) g'
theorem xfindbest (h1 : 4 ≤ b) (h2 : b ≤ 12) (hr : rng b l r n) (hn0 : 1 ≤ n) (hn : n ≤ 16) (D : DF a_differences l r n) {s : Nat} (hs : s < 4) (K : ∀ BB BT BP BK, PLs b l r n BB BT BP BK s → PLo s BB BT BP BK a_bestBits a_bestType a_bestPartition a_bestParameter → post (f_blockLimit, nI b, f_capacity, nI n, f_nextFrame, f_planned, f_bestForm, f_length, f_frameCount, f_writeByte, f_writeMask, f_readByte, f_readMask, f_readEnd, f_decodedType0, f_decodedType1, f_position, f_skipped, f_held, f_heldNumber, f_heldSize, f_heldForm, f_heldType0, f_heldType1, f_heldMissing, a_differences, BB, BT, BP, BK, a_stream, a_masks, a_owner, a_starts, a_lengths, a_alteredByte, a_decoded, a_heldSamples)) : wpX_findBest post (f_blockLimit, nI b, f_capacity, nI n, f_nextFrame, f_planned, f_bestForm, f_length, f_frameCount, f_writeByte, f_writeMask, f_readByte, f_readMask, f_readEnd, f_decodedType0, f_decodedType1, f_position, f_skipped, f_held, f_heldNumber, f_heldSize, f_heldForm, f_heldType0, f_heldType1, f_heldMissing, a_differences, a_bestBits, a_bestType, a_bestPartition, a_bestParameter, a_stream, a_masks, a_owner, a_starts, a_lengths, a_alteredByte, a_decoded, a_heldSamples) (nI s) := by
  unfold wpX_findBest
  dsimp only
  exact ⟨8, xfb_out h1 h2 hr hn0 hn D hs K 7 8 0 a_bestType a_bestPartition (by omega) (by omega) ⟨fun m t p e => (by cases e), fun i _ => ⟨rfl, rfl⟩⟩⟩
theorem xpp_form (h1 : 4 ≤ b) (h2 : b ≤ 12) (hr : rng b l r n) (hn0 : 1 ≤ n) (hn : n ≤ 16) (hB : ∀ s, s < 4 → a_bestBits s = nI (bB b l r n s)) (K : post (f_blockLimit, nI b, f_capacity, nI n, f_nextFrame, 1, nI (bfm b l r n), f_length, f_frameCount, f_writeByte, f_writeMask, f_readByte, f_readMask, f_readEnd, f_decodedType0, f_decodedType1, f_position, f_skipped, f_held, f_heldNumber, f_heldSize, f_heldForm, f_heldType0, f_heldType1, f_heldMissing, a_differences, a_bestBits, a_bestType, a_bestPartition, a_bestParameter, a_stream, a_masks, a_owner, a_starts, a_lengths, a_alteredByte, a_decoded, a_heldSamples)) : ∀ d m k, k + d = 3 → d < m → wX_preparePlan_39 post f_blockLimit (nI b) f_capacity (nI n) f_nextFrame f_planned f_length f_frameCount f_writeByte f_writeMask f_readByte f_readMask f_readEnd f_decodedType0 f_decodedType1 f_position f_skipped f_held f_heldNumber f_heldSize f_heldForm f_heldType0 f_heldType1 f_heldMissing a_differences a_bestBits a_bestType a_bestPartition a_bestParameter a_stream a_masks a_owner a_starts a_lengths a_alteredByte a_decoded a_heldSamples m (nI (fbt b l r n (kb (fbt b l r n) k))) (nI (k + 1)) (nI (kb (fbt b l r n) k)) := by
  intro d
  induction d with
  | zero =>
    intro m k hd hm
    obtain ⟨m, rfl⟩ : ∃ z, m = z + 1 := ⟨m - 1, by omega⟩
    obtain rfl : k = 3 := by omega
    exact br_t (nI_lt (a := 3) (by omega) (by omega)) K
  | succ d ih =>
    intro m k hd hm
    obtain ⟨m, rfl⟩ : ∃ z, m = z + 1 := ⟨m - 1, by omega⟩
    refine br_f (nI_nlt (a := 3) (by omega) (by omega)) ?_
    have IH := ih m (k + 1) (by omega) (by omega)
    have e : kb (fbt b l r n) (k + 1) = if fbt b l r n (k + 1) < fbt b l r n (kb (fbt b l r n) k) then k + 1 else kb (fbt b l r n) k := rfl
    rw [e] at IH
    have b1 := fbt_bd h1 h2 hr hn0 hn (k + 1)
    have b2 := fbt_bd h1 h2 hr hn0 hn (kb (fbt b l r n) k)
    refine xformbits (by omega) hB ?_
    refine pk_le (fbt b l r n (kb (fbt b l r n) k)) (fbt b l r n (k + 1)) (fun c => ?_) (fun c => ?_)
    · rw [if_neg (by omega)] at IH
      exact nm_r (nI_1 (k + 1)) IH
    · rw [if_pos c] at IH
      exact nm_r (nI_1 (k + 1)) IH
theorem xpp_loop (h1 : 4 ≤ b) (h2 : b ≤ 12) (hr : rng b l r n) (hn0 : 1 ≤ n) (hn : n ≤ 16) (D : DF a_differences l r n) (K : ∀ form BB BT BP BK, PLN b l r n form BB BT BP BK → post (f_blockLimit, nI b, f_capacity, nI n, f_nextFrame, 1, form, f_length, f_frameCount, f_writeByte, f_writeMask, f_readByte, f_readMask, f_readEnd, f_decodedType0, f_decodedType1, f_position, f_skipped, f_held, f_heldNumber, f_heldSize, f_heldForm, f_heldType0, f_heldType1, f_heldMissing, a_differences, BB, BT, BP, BK, a_stream, a_masks, a_owner, a_starts, a_lengths, a_alteredByte, a_decoded, a_heldSamples)) : ∀ d m s BB BT BP BK, s + d = 4 → d < m → (∀ i, i < s → PLs b l r n BB BT BP BK i) → wX_preparePlan_10 post m (nI s) f_blockLimit (nI b) f_capacity (nI n) f_nextFrame f_planned f_bestForm f_length f_frameCount f_writeByte f_writeMask f_readByte f_readMask f_readEnd f_decodedType0 f_decodedType1 f_position f_skipped f_held f_heldNumber f_heldSize f_heldForm f_heldType0 f_heldType1 f_heldMissing a_differences BB BT BP BK a_stream a_masks a_owner a_starts a_lengths a_alteredByte a_decoded a_heldSamples := by
  intro d
  induction d with
  | zero =>
    intro m s BB BT BP BK hd hm g
    obtain ⟨m, rfl⟩ : ∃ z, m = z + 1 := ⟨m - 1, by omega⟩
    obtain rfl : s = 4 := by omega
    refine br_t (nI_lt (a := 3) (by omega) (by omega)) ?_
    have hB : ∀ s, s < 4 → BB s = nI (bB b l r n s) := fun s hs => (g s hs).1
    refine xformbits (f := 0) (by omega) hB ?_
    exact ⟨4, xpp_form h1 h2 hr hn0 hn hB (K _ BB BT BP BK ⟨g, rfl⟩) 3 4 0 (by omega) (by omega)⟩
  | succ d ih =>
    intro m s BB BT BP BK hd hm g
    obtain ⟨m, rfl⟩ : ∃ z, m = z + 1 := ⟨m - 1, by omega⟩
    refine br_f (nI_nlt (a := 3) (by omega) (by omega)) ?_
    refine xfindbest h1 h2 hr hn0 hn D (by omega) (fun BB' BT' BP' BK' p o => ?_)
    refine nm_r (nI_1 s) ?_
    refine ih m (s + 1) BB' BT' BP' BK' (by omega) (by omega) (fun i hi => ?_)
    by_cases e : i = s
    · rw [e]; exact p
    · obtain ⟨o1, o2, o3, o4⟩ := o i e
      obtain ⟨g1, g2, g3, g4⟩ := g i (by omega)
      exact ⟨o1.trans g1, o2.trans g2, o3.trans g3, fun j hj => (o4 j hj).trans (g4 j hj)⟩
theorem xprep (h1 : 4 ≤ b) (h2 : b ≤ 12) (hr : rng b l r n) (hn0 : 1 ≤ n) (hn : n ≤ 16) (D : DF a_differences l r n) (hp : f_planned = 0 ∨ (f_planned = 1 ∧ PLN b l r n f_bestForm a_bestBits a_bestType a_bestPartition a_bestParameter)) (K : ∀ form BB BT BP BK, PLN b l r n form BB BT BP BK → post (f_blockLimit, nI b, f_capacity, nI n, f_nextFrame, 1, form, f_length, f_frameCount, f_writeByte, f_writeMask, f_readByte, f_readMask, f_readEnd, f_decodedType0, f_decodedType1, f_position, f_skipped, f_held, f_heldNumber, f_heldSize, f_heldForm, f_heldType0, f_heldType1, f_heldMissing, a_differences, BB, BT, BP, BK, a_stream, a_masks, a_owner, a_starts, a_lengths, a_alteredByte, a_decoded, a_heldSamples)) : wpX_preparePlan post (f_blockLimit, nI b, f_capacity, nI n, f_nextFrame, f_planned, f_bestForm, f_length, f_frameCount, f_writeByte, f_writeMask, f_readByte, f_readMask, f_readEnd, f_decodedType0, f_decodedType1, f_position, f_skipped, f_held, f_heldNumber, f_heldSize, f_heldForm, f_heldType0, f_heldType1, f_heldMissing, a_differences, a_bestBits, a_bestType, a_bestPartition, a_bestParameter, a_stream, a_masks, a_owner, a_starts, a_lengths, a_alteredByte, a_decoded, a_heldSamples) := by
  unfold wpX_preparePlan
  dsimp only
  rcases hp with rfl | ⟨rfl, P⟩
  · exact br_t rfl ⟨5, xpp_loop h1 h2 hr hn0 hn D K 4 5 0 _ _ _ _ (by omega) (by omega) (fun i hi => by omega)⟩
  · exact br_f (by decide) (K _ _ _ _ _ P)
end
end
section
/-! X: bit writer -/
def wB (s : Nat) (W : List Bool) : Int32 := nI (s + W.length / 7)
def wM (W : List Bool) : Int32 := nI (2 ^ (6 - W.length % 7))
theorem wM_pos (a : Nat) : 1 ≤ 2 ^ (6 - a % 7) ∧ 2 ^ (6 - a % 7) ≤ 64 := by
  have : a % 7 = 0 ∨ a % 7 = 1 ∨ a % 7 = 2 ∨ a % 7 = 3 ∨ a % 7 = 4 ∨ a % 7 = 5 ∨ a % 7 = 6 := by omega
  rcases this with e | e | e | e | e | e | e <;> rw [e] <;> decide
theorem wM_shr (a : Nat) : nI (2 ^ (6 - a % 7)) >>> ((1 : Int32) &&& 31) = nI (2 ^ (6 - a % 7) / 2) := by
  have := wM_pos a
  exact zi_shrN (k := 1) (by omega) (by omega)
theorem wM_last {a : Nat} (h : a % 7 = 6) : 2 ^ (6 - a % 7) / 2 = 0 ∧ (a + 1) / 7 = a / 7 + 1 ∧ 2 ^ (6 - (a + 1) % 7) = 64 := by
  refine ⟨by rw [h], by omega, ?_⟩
  rw [show (a + 1) % 7 = 0 from by omega]
theorem wM_mid {a : Nat} (h : a % 7 ≠ 6) : 2 ^ (6 - a % 7) / 2 ≠ 0 ∧ (a + 1) / 7 = a / 7 ∧ 2 ^ (6 - (a + 1) % 7) = 2 ^ (6 - a % 7) / 2 := by
  have hr : a % 7 = 0 ∨ a % 7 = 1 ∨ a % 7 = 2 ∨ a % 7 = 3 ∨ a % 7 = 4 ∨ a % 7 = 5 := by omega
  have h2 : (a + 1) % 7 = a % 7 + 1 := by omega
  rw [h2]
  refine ⟨?_, by omega, ?_⟩
  · rcases hr with e | e | e | e | e | e <;> rw [e] <;> decide
  · rcases hr with e | e | e | e | e | e <;> rw [e] <;> decide
section
variable {f_blockLimit f_sampleBits f_capacity f_count f_nextFrame f_planned f_bestForm f_length f_frameCount f_writeByte f_writeMask f_readByte f_readMask f_readEnd f_decodedType0 f_decodedType1 f_position f_skipped f_held f_heldNumber f_heldSize f_heldForm f_heldType0 f_heldType1 f_heldMissing : Int32}
variable {a_differences a_bestBits a_bestType a_bestPartition a_bestParameter a_stream a_masks a_owner a_starts a_lengths a_alteredByte a_decoded a_heldSamples : Nat → Int32}
variable {post : SX → Prop} {A : Nat → Int32} {s7 e7 : Nat}
theorem xwb38 {W : List Bool} {c : Bool} (h : post (f_blockLimit, f_sampleBits, f_capacity, f_count, f_nextFrame, f_planned, f_bestForm, f_length, f_frameCount, wB s7 (W ++ [c]), wM (W ++ [c]), f_readByte, f_readMask, f_readEnd, f_decodedType0, f_decodedType1, f_position, f_skipped, f_held, f_heldNumber, f_heldSize, f_heldForm, f_heldType0, f_heldType1, f_heldMissing, a_differences, a_bestBits, a_bestType, a_bestPartition, a_bestParameter, st7 A s7 e7 (W ++ [c]), a_masks, a_owner, a_starts, a_lengths, a_alteredByte, a_decoded, a_heldSamples)) (hs : s7 + W.length < 1000000) : wX_writeBit_38 post f_blockLimit f_sampleBits f_capacity f_count f_nextFrame f_planned f_bestForm f_length f_frameCount (wB s7 (W)) (wM (W)) f_readByte f_readMask f_readEnd f_decodedType0 f_decodedType1 f_position f_skipped f_held f_heldNumber f_heldSize f_heldForm f_heldType0 f_heldType1 f_heldMissing a_differences a_bestBits a_bestType a_bestPartition a_bestParameter (st7 A s7 e7 (W ++ [c])) a_masks a_owner a_starts a_lengths a_alteredByte a_decoded a_heldSamples := by
  unfold wX_writeBit_38
  unfold wB wM at *
  rw [List.length_append, show ([c] : List Bool).length = 1 from rfl] at h
  rw [wM_shr]
  have hp := wM_pos W.length
  refine nm_e ?_
  refine pk_eq (2 ^ (6 - W.length % 7) / 2) 0 (fun e => ?_) (fun e => ?_)
  · refine nm_r (nI_1 _) ?_
    have l6 : W.length % 7 = 6 := by
      by_cases x : W.length % 7 = 6
      · exact x
      · exact absurd e (wM_mid x).1
    obtain ⟨_, q1, q2⟩ := wM_last l6
    rw [q1, q2, ← Nat.add_assoc] at h
    exact h
  · have l6 : W.length % 7 ≠ 6 := fun x => e (wM_last x).1
    obtain ⟨_, q1, q2⟩ := wM_mid l6
    rw [q1, q2] at h
    exact h
theorem xwbit (he : e7 ≤ 256) {W : List Bool} {c : Bool} (hW : W.length < 7 * (e7 - s7)) (h : post (f_blockLimit, f_sampleBits, f_capacity, f_count, f_nextFrame, f_planned, f_bestForm, f_length, f_frameCount, wB s7 (W ++ [c]), wM (W ++ [c]), f_readByte, f_readMask, f_readEnd, f_decodedType0, f_decodedType1, f_position, f_skipped, f_held, f_heldNumber, f_heldSize, f_heldForm, f_heldType0, f_heldType1, f_heldMissing, a_differences, a_bestBits, a_bestType, a_bestPartition, a_bestParameter, st7 A s7 e7 (W ++ [c]), a_masks, a_owner, a_starts, a_lengths, a_alteredByte, a_decoded, a_heldSamples)) : wpX_writeBit post (f_blockLimit, f_sampleBits, f_capacity, f_count, f_nextFrame, f_planned, f_bestForm, f_length, f_frameCount, wB s7 (W), wM (W), f_readByte, f_readMask, f_readEnd, f_decodedType0, f_decodedType1, f_position, f_skipped, f_held, f_heldNumber, f_heldSize, f_heldForm, f_heldType0, f_heldType1, f_heldMissing, a_differences, a_bestBits, a_bestType, a_bestPartition, a_bestParameter, st7 A s7 e7 (W), a_masks, a_owner, a_starts, a_lengths, a_alteredByte, a_decoded, a_heldSamples) (b01 c) := by
  have hl : s7 + W.length / 7 < e7 := by omega
  have step := xwb38 h (by omega)
  unfold wpX_writeBit
  dsimp only
  have hc : (wB s7 W).toNatClampNeg = s7 + W.length / 7 := nI_clamp (by omega)
  have hi : vp_in (wB s7 W) 256 := vp_in_nI (by omega) (by omega)
  refine br_f (nI_pos (by omega)) (br_t (nI_lt (b := 256) (by omega) (by omega)) ?_)
  cases c with
  | false =>
    rw [st7_false] at step
    exact br_t rfl step
  | true =>
    refine br_f (by decide) ⟨hi, hi, ?_⟩
    rw [hc]
    exact nm_r (st7_true A s7 e7 W hl) step
theorem xwbits_loop (he : e7 ≤ 256) {x : Int32} : ∀ m fuel W, m < fuel → m ≤ 32 → W.length + m ≤ 7 * (e7 - s7) → post (f_blockLimit, f_sampleBits, f_capacity, f_count, f_nextFrame, f_planned, f_bestForm, f_length, f_frameCount, wB s7 (W ++ bN x.toBitVec.toNat m), wM (W ++ bN x.toBitVec.toNat m), f_readByte, f_readMask, f_readEnd, f_decodedType0, f_decodedType1, f_position, f_skipped, f_held, f_heldNumber, f_heldSize, f_heldForm, f_heldType0, f_heldType1, f_heldMissing, a_differences, a_bestBits, a_bestType, a_bestPartition, a_bestParameter, st7 A s7 e7 (W ++ bN x.toBitVec.toNat m), a_masks, a_owner, a_starts, a_lengths, a_alteredByte, a_decoded, a_heldSamples) → wX_writeBits_4 post x fuel (iI ((m : Int) - 1)) f_blockLimit f_sampleBits f_capacity f_count f_nextFrame f_planned f_bestForm f_length f_frameCount (wB s7 (W)) (wM (W)) f_readByte f_readMask f_readEnd f_decodedType0 f_decodedType1 f_position f_skipped f_held f_heldNumber f_heldSize f_heldForm f_heldType0 f_heldType1 f_heldMissing a_differences a_bestBits a_bestType a_bestPartition a_bestParameter (st7 A s7 e7 (W)) a_masks a_owner a_starts a_lengths a_alteredByte a_decoded a_heldSamples := by
  intro m
  induction m with
  | zero =>
    intro fuel W h1 h2 h3 h
    obtain ⟨fuel, rfl⟩ : ∃ q, fuel = q + 1 := ⟨fuel - 1, by omega⟩
    refine br_t (by decide) ?_
    simp only [bN, List.append_nil] at h
    exact h
  | succ m ih =>
    intro fuel W h1 h2 h3 h
    obtain ⟨fuel, rfl⟩ : ∃ q, fuel = q + 1 := ⟨fuel - 1, by omega⟩
    have e : iI (((m + 1 : Nat) : Int) - 1) = nI m := by rw [← zi_n]; exact congrArg iI (by omega)
    rw [e]
    refine br_f (nI_pos (by omega)) ?_
    rw [zi_bit x m (by omega)]
    refine xwbit he (by omega) ?_
    refine nm_r (e' := iI ((m : Int) - 1)) ?_ ?_
    · rw [← zi_n, zi_m1]
    · refine ih fuel _ (by omega) (by omega) ?_ ?_
      · rw [List.length_append]; show W.length + 1 + m ≤ _; omega
      · rw [List.append_assoc]; exact h
theorem xwbits (he : e7 ≤ 256) {x : Int32} {m : Nat} {W : List Bool} (hm : m ≤ 32) (hW : W.length + m ≤ 7 * (e7 - s7)) (h : post (f_blockLimit, f_sampleBits, f_capacity, f_count, f_nextFrame, f_planned, f_bestForm, f_length, f_frameCount, wB s7 (W ++ bN x.toBitVec.toNat m), wM (W ++ bN x.toBitVec.toNat m), f_readByte, f_readMask, f_readEnd, f_decodedType0, f_decodedType1, f_position, f_skipped, f_held, f_heldNumber, f_heldSize, f_heldForm, f_heldType0, f_heldType1, f_heldMissing, a_differences, a_bestBits, a_bestType, a_bestPartition, a_bestParameter, st7 A s7 e7 (W ++ bN x.toBitVec.toNat m), a_masks, a_owner, a_starts, a_lengths, a_alteredByte, a_decoded, a_heldSamples)) : wpX_writeBits post (f_blockLimit, f_sampleBits, f_capacity, f_count, f_nextFrame, f_planned, f_bestForm, f_length, f_frameCount, wB s7 (W), wM (W), f_readByte, f_readMask, f_readEnd, f_decodedType0, f_decodedType1, f_position, f_skipped, f_held, f_heldNumber, f_heldSize, f_heldForm, f_heldType0, f_heldType1, f_heldMissing, a_differences, a_bestBits, a_bestType, a_bestPartition, a_bestParameter, st7 A s7 e7 (W), a_masks, a_owner, a_starts, a_lengths, a_alteredByte, a_decoded, a_heldSamples) x (nI m) := by
  unfold wpX_writeBits
  dsimp only
  refine nm_r (e' := iI ((m : Int) - 1)) ?_ ⟨m + 1, xwbits_loop he m (m + 1) W (by omega) hm hW h⟩
  rw [← zi_n]
  exact zi_sub _ 1
theorem xwrice_loop (he : e7 ≤ 256) {u k z : Nat} (hk : k ≤ 32) (hz : z < 1000000) (hu : u < 1000000) : ∀ d fuel i W, i + d = z → d < fuel → W.length + (d + 1 + k) ≤ 7 * (e7 - s7) → post (f_blockLimit, f_sampleBits, f_capacity, f_count, f_nextFrame, f_planned, f_bestForm, f_length, f_frameCount, wB s7 (W ++ (List.replicate d false ++ (true :: bN u k))), wM (W ++ (List.replicate d false ++ (true :: bN u k))), f_readByte, f_readMask, f_readEnd, f_decodedType0, f_decodedType1, f_position, f_skipped, f_held, f_heldNumber, f_heldSize, f_heldForm, f_heldType0, f_heldType1, f_heldMissing, a_differences, a_bestBits, a_bestType, a_bestPartition, a_bestParameter, st7 A s7 e7 (W ++ (List.replicate d false ++ (true :: bN u k))), a_masks, a_owner, a_starts, a_lengths, a_alteredByte, a_decoded, a_heldSamples) → wX_writeRice_7 post (nI u) (nI k) (nI z) fuel (nI i) f_blockLimit f_sampleBits f_capacity f_count f_nextFrame f_planned f_bestForm f_length f_frameCount (wB s7 (W)) (wM (W)) f_readByte f_readMask f_readEnd f_decodedType0 f_decodedType1 f_position f_skipped f_held f_heldNumber f_heldSize f_heldForm f_heldType0 f_heldType1 f_heldMissing a_differences a_bestBits a_bestType a_bestPartition a_bestParameter (st7 A s7 e7 (W)) a_masks a_owner a_starts a_lengths a_alteredByte a_decoded a_heldSamples := by
  intro d
  induction d with
  | zero =>
    intro fuel i W h1 h2 h3 h
    obtain ⟨fuel, rfl⟩ : ∃ q, fuel = q + 1 := ⟨fuel - 1, by omega⟩
    refine br_t (nI_le (by omega) (by omega)) ?_
    refine xwbit (c := true) he (by omega) ?_
    refine xwbits he hk ?_ ?_
    · rw [List.length_append]; show W.length + 1 + k ≤ _; omega
    · rw [pk_tn (by omega), List.append_assoc]; exact h
  | succ d ih =>
    intro fuel i W h1 h2 h3 h
    obtain ⟨fuel, rfl⟩ : ∃ q, fuel = q + 1 := ⟨fuel - 1, by omega⟩
    refine br_f (nI_ge (by omega) (by omega)) ?_
    refine xwbit (c := false) he (by omega) ?_
    refine nm_r (nI_1 i) ?_
    refine ih fuel (i + 1) _ (by omega) (by omega) ?_ ?_
    · rw [List.length_append]; show W.length + 1 + _ ≤ _; omega
    · rw [List.append_assoc]; exact h
theorem xwrice (he : e7 ≤ 256) {u k : Nat} {W : List Bool} (hk : k ≤ 14) (hu : u < 1000000) (hW : W.length + (u / 2 ^ k + 1 + k) ≤ 7 * (e7 - s7)) (h : post (f_blockLimit, f_sampleBits, f_capacity, f_count, f_nextFrame, f_planned, f_bestForm, f_length, f_frameCount, wB s7 (W ++ eR u k), wM (W ++ eR u k), f_readByte, f_readMask, f_readEnd, f_decodedType0, f_decodedType1, f_position, f_skipped, f_held, f_heldNumber, f_heldSize, f_heldForm, f_heldType0, f_heldType1, f_heldMissing, a_differences, a_bestBits, a_bestType, a_bestPartition, a_bestParameter, st7 A s7 e7 (W ++ eR u k), a_masks, a_owner, a_starts, a_lengths, a_alteredByte, a_decoded, a_heldSamples)) : wpX_writeRice post (f_blockLimit, f_sampleBits, f_capacity, f_count, f_nextFrame, f_planned, f_bestForm, f_length, f_frameCount, wB s7 (W), wM (W), f_readByte, f_readMask, f_readEnd, f_decodedType0, f_decodedType1, f_position, f_skipped, f_held, f_heldNumber, f_heldSize, f_heldForm, f_heldType0, f_heldType1, f_heldMissing, a_differences, a_bestBits, a_bestType, a_bestPartition, a_bestParameter, st7 A s7 e7 (W), a_masks, a_owner, a_starts, a_lengths, a_alteredByte, a_decoded, a_heldSamples) (nI u) (nI k) := by
  have dv : u / 2 ^ k ≤ u := Nat.div_le_self _ _
  unfold wpX_writeRice
  dsimp only
  refine nm_r (zi_shrN (by omega) (by omega)) ?_
  exact ⟨u / 2 ^ k + 1, xwrice_loop he (by omega) (by omega) hu (u / 2 ^ k) _ 0 W (by omega) (by omega) hW h⟩
variable {b n : Nat} {l r : Nat → Int}
theorem xwp_in (he : e7 ≤ 256) (h1 : 4 ≤ b) (h2 : b ≤ 12) (hr : rng b l r n) (hn : n ≤ 16) (D : DF a_differences l r n) {s o k j : Nat} {x1 x2 x3 : Int32} {J25 : Int32 → Int32 → Int32 → Int32 → Int32 → Int32 → Int32 → Int32 → Int32 → Int32 → Int32 → Int32 → Int32 → Int32 → Int32 → Int32 → Int32 → Int32 → Int32 → Int32 → Int32 → Int32 → Int32 → Int32 → Int32 → Int32 → (Nat → Int32) → (Nat → Int32) → (Nat → Int32) → (Nat → Int32) → (Nat → Int32) → (Nat → Int32) → (Nat → Int32) → (Nat → Int32) → (Nat → Int32) → (Nat → Int32) → (Nat → Int32) → (Nat → Int32) → (Nat → Int32) → Prop} (hs : s < 4) (ho : o ≤ 4) (hk : k ≤ 14) : ∀ c fuel t e W, c < fuel → o ≤ t → t + c = e → e ≤ n → W.length + ps (uu l r s o) k t c ≤ 7 * (e7 - s7) → J25 (nI (j + 1)) f_blockLimit f_sampleBits f_capacity f_count f_nextFrame f_planned f_bestForm f_length f_frameCount (wB s7 (W ++ eP (uu l r s o) k t c)) (wM (W ++ eP (uu l r s o) k t c)) f_readByte f_readMask f_readEnd f_decodedType0 f_decodedType1 f_position f_skipped f_held f_heldNumber f_heldSize f_heldForm f_heldType0 f_heldType1 f_heldMissing a_differences a_bestBits a_bestType a_bestPartition a_bestParameter (st7 A s7 e7 (W ++ eP (uu l r s o) k t c)) a_masks a_owner a_starts a_lengths a_alteredByte a_decoded a_heldSamples → wX_writePartitions_80 post J25 x1 x2 x3 (nI ((s * 5 + o) * 16)) (nI j) (nI k) (nI e) fuel (nI t) f_blockLimit f_sampleBits f_capacity f_count f_nextFrame f_planned f_bestForm f_length f_frameCount (wB s7 (W)) (wM (W)) f_readByte f_readMask f_readEnd f_decodedType0 f_decodedType1 f_position f_skipped f_held f_heldNumber f_heldSize f_heldForm f_heldType0 f_heldType1 f_heldMissing a_differences a_bestBits a_bestType a_bestPartition a_bestParameter (st7 A s7 e7 (W)) a_masks a_owner a_starts a_lengths a_alteredByte a_decoded a_heldSamples := by
  intro c
  induction c with
  | zero =>
    intro fuel t e0 W hm h3 h4 h4b h5 h
    obtain ⟨fuel, rfl⟩ : ∃ q, fuel = q + 1 := ⟨fuel - 1, by omega⟩
    refine br_t (nI_le (by omega) (by omega)) (nm_r (nI_1 j) ?_)
    simp only [eP, List.append_nil] at h
    exact h
  | succ c ih =>
    intro fuel t e0 W hm h3 h4 h4b h5 h
    obtain ⟨fuel, rfl⟩ : ∃ q, fuel = q + 1 := ⟨fuel - 1, by omega⟩
    have bd := dI_bd4 (rng_sg h1 h2 hr s) ho h3 (t := t) (by omega)
    have ul : uu l r s o t < 131072 := fo_lt bd
    have e : a_differences (nI ((s * 5 + o) * 16) + nI t).toNatClampNeg = iI (dI (sg l r s) o t) := by
      rw [nI_add, nI_clamp (by omega)]
      exact D s o t hs ho h3 (by omega)
    rw [ps_front] at h5
    refine br_f (nI_ge (by omega) (by omega)) ⟨pk_in ((s * 5 + o) * 16 + t) 320 (by omega) (nI_add _ _), ?_⟩
    rw [e]
    refine xfold bd ?_
    refine xwrice (u := uu l r s o t) he hk (by omega) (by omega) ?_
    refine nm_r (nI_1 t) ?_
    refine ih fuel (t + 1) e0 _ (by omega) (by omega) (by omega) h4b ?_ ?_
    · rw [List.length_append, eR_len]; omega
    · rw [List.append_assoc]; exact h
theorem xwp_out (he : e7 ≤ 256) (h1 : 4 ≤ b) (h2 : b ≤ 12) (hr : rng b l r n) (hn : n ≤ 16) (D : DF a_differences l r n) {s o p : Nat} {KK : Nat → Nat} (hs : s < 4) (ho : o ≤ 4) (hp : p ≤ 2) (hof : o ≤ n / 2 ^ p) (hK : ∀ j, j < 2 ^ p → a_bestParameter (s * 4 + j) = nI (KK j) ∧ KK j ≤ 14) : ∀ c fuel j W, j + c = 2 ^ p → c < fuel → W.length + (eQ (uu l r s o) KK n o p j c).length ≤ 7 * (e7 - s7) → post (f_blockLimit, f_sampleBits, f_capacity, nI n, f_nextFrame, f_planned, f_bestForm, f_length, f_frameCount, wB s7 (W ++ eQ (uu l r s o) KK n o p j c), wM (W ++ eQ (uu l r s o) KK n o p j c), f_readByte, f_readMask, f_readEnd, f_decodedType0, f_decodedType1, f_position, f_skipped, f_held, f_heldNumber, f_heldSize, f_heldForm, f_heldType0, f_heldType1, f_heldMissing, a_differences, a_bestBits, a_bestType, a_bestPartition, a_bestParameter, st7 A s7 e7 (W ++ eQ (uu l r s o) KK n o p j c), a_masks, a_owner, a_starts, a_lengths, a_alteredByte, a_decoded, a_heldSamples) → wX_writePartitions_25 post (nI s) (nI o) (nI p) (nI ((s * 5 + o) * 16)) fuel (nI j) f_blockLimit f_sampleBits f_capacity (nI n) f_nextFrame f_planned f_bestForm f_length f_frameCount (wB s7 (W)) (wM (W)) f_readByte f_readMask f_readEnd f_decodedType0 f_decodedType1 f_position f_skipped f_held f_heldNumber f_heldSize f_heldForm f_heldType0 f_heldType1 f_heldMissing a_differences a_bestBits a_bestType a_bestPartition a_bestParameter (st7 A s7 e7 (W)) a_masks a_owner a_starts a_lengths a_alteredByte a_decoded a_heldSamples := by
  have p4 := p4 hp
  intro c
  induction c with
  | zero =>
    intro fuel j W hd hm h5 h
    obtain ⟨fuel, rfl⟩ : ∃ q, fuel = q + 1 := ⟨fuel - 1, by omega⟩
    refine br_t ?_ ?_
    · rw [zi_1shl (by omega)]; exact nI_le (by omega) (by omega)
    · simp only [eQ, List.append_nil] at h
      exact h
  | succ c ih =>
    intro fuel j W hd hm h5 h
    obtain ⟨fuel, rfl⟩ : ∃ q, fuel = q + 1 := ⟨fuel - 1, by omega⟩
    obtain ⟨k1, k2⟩ := hK j (by omega)
    have e : nI s * 4 + nI j = nI (s * 4 + j) := by
      show nI s * nI 4 + nI j = _
      rw [pk_mul, nI_add]
    simp only [eQ, List.length_append, bN_len, eP_len] at h5
    refine br_f ?_ ?_
    · rw [zi_1shl (by omega)]; exact nI_ge (by omega) (by omega)
    · rw [e, nI_clamp (by omega), k1]
      refine ⟨vp_in_nI (by omega) (by omega), nm_e ?_⟩
      refine xpfrom hn hp (by omega) ?_
      refine nm_r (e' := nI ((j + 1) * (n / 2 ^ p))) ?_ ?_
      · rw [zi_shrN (by omega) (by omega), nI_1, pk_mul]
      · refine xwbits (m := 4) he (by omega) (by omega) ?_
        rw [pk_tn (by omega)]
        have a1 := pfr_ge (n := n) (p := p) (j := j) hof
        have a2 := pfr_le (n := n) (p := p) (j := j) hof
        have a3 := pto_le (n := n) (p := p) (j := j) (by omega)
        refine ⟨(j + 1) * (n / 2 ^ p) - pfr n o p j + 1, xwp_in he h1 h2 hr hn D hs ho k2 ((j + 1) * (n / 2 ^ p) - pfr n o p j) _ (pfr n o p j) _ _ (by omega) a1 (by omega) a3 ?_ ?_⟩
        · rw [List.length_append, bN_len]; omega
        · refine ih fuel (j + 1) _ (by omega) (by omega) ?_ ?_
          · simp only [List.length_append, bN_len, eP_len]; omega
          · rw [List.append_assoc, List.append_assoc]; exact h
theorem xwparts (he : e7 ≤ 256) (h1 : 4 ≤ b) (h2 : b ≤ 12) (hr : rng b l r n) (hn : n ≤ 16) (D : DF a_differences l r n) {s o p : Nat} {KK : Nat → Nat} {W : List Bool} (hs : s < 4) (ho : o ≤ 4) (hp : p ≤ 2) (hof : o ≤ n / 2 ^ p) (hP : a_bestPartition s = nI p) (hK : ∀ j, j < 2 ^ p → a_bestParameter (s * 4 + j) = nI (KK j) ∧ KK j ≤ 14) (hW : W.length + (2 + (eQ (uu l r s o) KK n o p 0 (2 ^ p)).length) ≤ 7 * (e7 - s7)) (h : post (f_blockLimit, f_sampleBits, f_capacity, nI n, f_nextFrame, f_planned, f_bestForm, f_length, f_frameCount, wB s7 (W ++ (bN p 2 ++ eQ (uu l r s o) KK n o p 0 (2 ^ p))), wM (W ++ (bN p 2 ++ eQ (uu l r s o) KK n o p 0 (2 ^ p))), f_readByte, f_readMask, f_readEnd, f_decodedType0, f_decodedType1, f_position, f_skipped, f_held, f_heldNumber, f_heldSize, f_heldForm, f_heldType0, f_heldType1, f_heldMissing, a_differences, a_bestBits, a_bestType, a_bestPartition, a_bestParameter, st7 A s7 e7 (W ++ (bN p 2 ++ eQ (uu l r s o) KK n o p 0 (2 ^ p))), a_masks, a_owner, a_starts, a_lengths, a_alteredByte, a_decoded, a_heldSamples)) : wpX_writePartitions post (f_blockLimit, f_sampleBits, f_capacity, nI n, f_nextFrame, f_planned, f_bestForm, f_length, f_frameCount, wB s7 (W), wM (W), f_readByte, f_readMask, f_readEnd, f_decodedType0, f_decodedType1, f_position, f_skipped, f_held, f_heldNumber, f_heldSize, f_heldForm, f_heldType0, f_heldType1, f_heldMissing, a_differences, a_bestBits, a_bestType, a_bestPartition, a_bestParameter, st7 A s7 e7 (W), a_masks, a_owner, a_starts, a_lengths, a_alteredByte, a_decoded, a_heldSamples) (nI s) (nI o) := by
  unfold wpX_writePartitions
  dsimp only
  rw [nI_clamp (by omega), hP]
  refine ⟨vp_in_nI hs (by omega), nm_e ?_⟩
  refine xcell (t := 0) ?_
  refine xwbits (m := 2) he (by omega) (by omega) ?_
  rw [pk_tn (by omega)]
  refine ⟨2 ^ p + 1, xwp_out he h1 h2 hr hn D hs ho hp hof hK (2 ^ p) _ 0 _ (by omega) (by omega) ?_ ?_⟩
  · rw [List.length_append, bN_len]; omega
  · rw [List.append_assoc]; exact h
theorem xws_val (D : DF a_differences l r n) {s t : Nat} (hs : s < 4) (ht : t < n) (hn : n ≤ 16) : a_differences (nI ((s * 5 + 0) * 16) + nI t).toNatClampNeg = iI (sg l r s t) := by
  rw [nI_add, nI_clamp (by omega)]
  exact D s 0 t hs (by omega) (by omega) ht
theorem xws55 (he : e7 ≤ 256) (hn : n ≤ 16) (D : DF a_differences l r n) {s w : Nat} (hs : s < 4) (hw : w ≤ 32) : ∀ c fuel t W, t + c = n → c < fuel → W.length + c * w ≤ 7 * (e7 - s7) → post (f_blockLimit, f_sampleBits, f_capacity, nI n, f_nextFrame, f_planned, f_bestForm, f_length, f_frameCount, wB s7 (W ++ eV (sg l r s) w t c), wM (W ++ eV (sg l r s) w t c), f_readByte, f_readMask, f_readEnd, f_decodedType0, f_decodedType1, f_position, f_skipped, f_held, f_heldNumber, f_heldSize, f_heldForm, f_heldType0, f_heldType1, f_heldMissing, a_differences, a_bestBits, a_bestType, a_bestPartition, a_bestParameter, st7 A s7 e7 (W ++ eV (sg l r s) w t c), a_masks, a_owner, a_starts, a_lengths, a_alteredByte, a_decoded, a_heldSamples) → wX_writeSubframe_55 post (nI w) (nI ((s * 5 + 0) * 16)) fuel (nI t) f_blockLimit f_sampleBits f_capacity (nI n) f_nextFrame f_planned f_bestForm f_length f_frameCount (wB s7 (W)) (wM (W)) f_readByte f_readMask f_readEnd f_decodedType0 f_decodedType1 f_position f_skipped f_held f_heldNumber f_heldSize f_heldForm f_heldType0 f_heldType1 f_heldMissing a_differences a_bestBits a_bestType a_bestPartition a_bestParameter (st7 A s7 e7 (W)) a_masks a_owner a_starts a_lengths a_alteredByte a_decoded a_heldSamples := by
  intro c
  induction c with
  | zero =>
    intro fuel t W h3 h4 h5 h
    obtain ⟨fuel, rfl⟩ : ∃ q, fuel = q + 1 := ⟨fuel - 1, by omega⟩
    refine br_t (nI_le (by omega) (by omega)) ?_
    simp only [eV, List.append_nil] at h
    exact h
  | succ c ih =>
    intro fuel t W h3 h4 h5 h
    obtain ⟨fuel, rfl⟩ : ∃ q, fuel = q + 1 := ⟨fuel - 1, by omega⟩
    rw [Nat.succ_mul] at h5
    refine br_f (nI_ge (by omega) (by omega)) ⟨pk_in ((s * 5 + 0) * 16 + t) 320 (by omega) (nI_add _ _), ?_⟩
    rw [xws_val D hs (by omega) hn]
    refine xwbits he hw (by omega) ?_
    rw [zi_un]
    refine nm_r (nI_1 t) ?_
    refine ih fuel (t + 1) _ (by omega) (by omega) ?_ ?_
    · rw [List.length_append, bN_len]; omega
    · rw [List.append_assoc]; exact h
theorem xws96 (he : e7 ≤ 256) (h1 : 4 ≤ b) (h2 : b ≤ 12) (hr : rng b l r n) (hn : n ≤ 16) (D : DF a_differences l r n) {s o p w : Nat} {KK : Nat → Nat} (hs : s < 4) (hw : w ≤ 32) (ho : o ≤ 4) (hp : p ≤ 2) (hof : o ≤ n / 2 ^ p) (hP : a_bestPartition s = nI p) (hK : ∀ j, j < 2 ^ p → a_bestParameter (s * 4 + j) = nI (KK j) ∧ KK j ≤ 14) : ∀ c fuel t W, t + c = o → c < fuel → W.length + c * w + (2 + (eQ (uu l r s o) KK n o p 0 (2 ^ p)).length) ≤ 7 * (e7 - s7) → post (f_blockLimit, f_sampleBits, f_capacity, nI n, f_nextFrame, f_planned, f_bestForm, f_length, f_frameCount, wB s7 (W ++ (eV (sg l r s) w t c ++ (bN p 2 ++ eQ (uu l r s o) KK n o p 0 (2 ^ p)))), wM (W ++ (eV (sg l r s) w t c ++ (bN p 2 ++ eQ (uu l r s o) KK n o p 0 (2 ^ p)))), f_readByte, f_readMask, f_readEnd, f_decodedType0, f_decodedType1, f_position, f_skipped, f_held, f_heldNumber, f_heldSize, f_heldForm, f_heldType0, f_heldType1, f_heldMissing, a_differences, a_bestBits, a_bestType, a_bestPartition, a_bestParameter, st7 A s7 e7 (W ++ (eV (sg l r s) w t c ++ (bN p 2 ++ eQ (uu l r s o) KK n o p 0 (2 ^ p)))), a_masks, a_owner, a_starts, a_lengths, a_alteredByte, a_decoded, a_heldSamples) → wX_writeSubframe_96 post (nI s) (nI w) (nI ((s * 5 + 0) * 16)) (nI o) fuel (nI t) f_blockLimit f_sampleBits f_capacity (nI n) f_nextFrame f_planned f_bestForm f_length f_frameCount (wB s7 (W)) (wM (W)) f_readByte f_readMask f_readEnd f_decodedType0 f_decodedType1 f_position f_skipped f_held f_heldNumber f_heldSize f_heldForm f_heldType0 f_heldType1 f_heldMissing a_differences a_bestBits a_bestType a_bestPartition a_bestParameter (st7 A s7 e7 (W)) a_masks a_owner a_starts a_lengths a_alteredByte a_decoded a_heldSamples := by
  have ho2 : o ≤ n := Nat.le_trans hof (Nat.div_le_self _ _)
  intro c
  induction c with
  | zero =>
    intro fuel t W h3 h4 h5 h
    obtain ⟨fuel, rfl⟩ : ∃ q, fuel = q + 1 := ⟨fuel - 1, by omega⟩
    refine br_t (nI_le (by omega) (by omega)) ?_
    simp only [eV, List.nil_append] at h
    exact xwparts he h1 h2 hr hn D hs ho hp hof hP hK (by omega) h
  | succ c ih =>
    intro fuel t W h3 h4 h5 h
    obtain ⟨fuel, rfl⟩ : ∃ q, fuel = q + 1 := ⟨fuel - 1, by omega⟩
    rw [Nat.succ_mul] at h5
    refine br_f (nI_ge (by omega) (by omega)) ⟨pk_in ((s * 5 + 0) * 16 + t) 320 (by omega) (nI_add _ _), ?_⟩
    rw [xws_val D hs (by omega) hn]
    refine xwbits he hw (by omega) ?_
    rw [zi_un]
    refine nm_r (nI_1 t) ?_
    refine ih fuel (t + 1) _ (by omega) (by omega) ?_ ?_
    · rw [List.length_append, bN_len]; omega
    · rw [List.append_assoc]
      simp only [eV, List.append_assoc] at h
      exact h
theorem xwsub (he : e7 ≤ 256) (h1 : 4 ≤ b) (h2 : b ≤ 12) (hr : rng b l r n) (hn0 : 1 ≤ n) (hn : n ≤ 16) (D : DF a_differences l r n) {s ty p : Nat} {KK : Nat → Nat} {W : List Bool} (hs : s < 4) (hty : ty ≤ 6) (hp : p ≤ 2) (hof : 2 ≤ ty → ty - 2 ≤ n / 2 ^ p) (hT : a_bestType s = nI ty) (hP : a_bestPartition s = nI p) (hK : 2 ≤ ty → ∀ j, j < 2 ^ p → a_bestParameter (s * 4 + j) = nI (KK j) ∧ KK j ≤ 14) (hW : W.length + (eS (sg l r s) (wd b s) n ty p KK).length ≤ 7 * (e7 - s7)) (h : post (f_blockLimit, nI b, f_capacity, nI n, f_nextFrame, f_planned, f_bestForm, f_length, f_frameCount, wB s7 (W ++ eS (sg l r s) (wd b s) n ty p KK), wM (W ++ eS (sg l r s) (wd b s) n ty p KK), f_readByte, f_readMask, f_readEnd, f_decodedType0, f_decodedType1, f_position, f_skipped, f_held, f_heldNumber, f_heldSize, f_heldForm, f_heldType0, f_heldType1, f_heldMissing, a_differences, a_bestBits, a_bestType, a_bestPartition, a_bestParameter, st7 A s7 e7 (W ++ eS (sg l r s) (wd b s) n ty p KK), a_masks, a_owner, a_starts, a_lengths, a_alteredByte, a_decoded, a_heldSamples)) : wpX_writeSubframe post (f_blockLimit, nI b, f_capacity, nI n, f_nextFrame, f_planned, f_bestForm, f_length, f_frameCount, wB s7 (W), wM (W), f_readByte, f_readMask, f_readEnd, f_decodedType0, f_decodedType1, f_position, f_skipped, f_held, f_heldNumber, f_heldSize, f_heldForm, f_heldType0, f_heldType1, f_heldMissing, a_differences, a_bestBits, a_bestType, a_bestPartition, a_bestParameter, st7 A s7 e7 (W), a_masks, a_owner, a_starts, a_lengths, a_alteredByte, a_decoded, a_heldSamples) (nI s) := by
  have w := wd_bd h1 h2 s
  unfold wpX_writeSubframe
  dsimp only
  rw [nI_clamp (by omega), hT]
  refine ⟨vp_in_nI hs (by omega), nm_e ?_⟩
  refine xwidth hs ?_
  refine xcell (o := 0) (t := 0) ?_
  unfold eS at hW h
  rw [List.length_append, bN_len] at hW
  refine xwbits (m := 3) he (by omega) (by omega) ?_
  rw [pk_tn (by omega)]
  rw [← List.append_assoc] at h
  refine pk_eq ty 0 (fun e => ?_) (fun e => ?_)
  · rw [if_pos e] at h hW
    rw [bN_len] at hW
    refine ⟨pk_in ((s * 5 + 0) * 16) 320 (by omega), ?_⟩
    have v := xws_val D hs (t := 0) (by omega) hn
    rw [show nI ((s * 5 + 0) * 16) + nI 0 = nI ((s * 5 + 0) * 16) from nI_add _ 0] at v
    have v2 : a_differences (nI ((s * 5 + 0) * 16 + 0)).toNatClampNeg = iI (sg l r s 0) := v
    dsimp only
    rw [v2]
    refine xwbits he (by omega) ?_ ?_
    · rw [List.length_append, bN_len]; omega
    · rw [zi_un]; exact h
  · rw [if_neg e] at h hW
    refine pk_eq ty 1 (fun e1 => ?_) (fun e1 => ?_)
    · rw [if_pos e1] at h hW
      rw [eV_len] at hW
      refine ⟨n + 1, xws55 he hn D hs (by omega) n _ 0 _ (by omega) (by omega) ?_ h⟩
      rw [List.length_append, bN_len]; omega
    · rw [if_neg e1] at h hW
      unfold eF at h hW
      rw [List.length_append, List.length_append, eV_len, bN_len] at hW
      refine nm_r (e' := nI (ty - 2)) (pk_sub (b := 2) (by omega)) ?_
      refine ⟨ty - 2 + 1, xws96 he h1 h2 hr hn D hs (by omega) (by omega) hp (hof (by omega)) hP (hK (by omega)) (ty - 2) _ 0 _ (by omega) (by omega) ?_ h⟩
      rw [List.length_append, bN_len]
      have : (eQ (uu l r s (ty - 2)) KK n (ty - 2) p 0 (2 ^ p)).length = (eQ (fun t => fo (dI (sg l r s) (ty - 2) t)) KK n (ty - 2) p 0 (2 ^ p)).length := rfl
      omega
end
end
section
/-! X: check sums, claim and writeFrame -/
def rgv (A : Nat → Int32) (a c : Nat) (v : Int32) : Nat → Int32 := fun i => if a ≤ i ∧ i < a + c then v else A i
theorem rgv_0 (A : Nat → Int32) (a : Nat) (v : Int32) : rgv A a 0 v = A := by
  funext i
  unfold rgv
  rw [if_neg (by omega)]
theorem rgv_s (A : Nat → Int32) (a c : Nat) (v : Int32) : upd (rgv A a c v) (a + c) v = rgv A a (c + 1) v := by
  funext i
  unfold upd rgv
  by_cases h : i = a + c
  · rw [if_pos h, if_pos (by omega)]
  · rw [if_neg h]
    by_cases g : a ≤ i ∧ i < a + c
    · rw [if_pos g, if_pos (by omega)]
    · rw [if_neg g, if_neg (by omega)]
theorem rgv_in {A : Nat → Int32} {a c : Nat} {v : Int32} {i : Nat} (h1 : a ≤ i) (h2 : i < a + c) : rgv A a c v i = v := by
  unfold rgv; rw [if_pos ⟨h1, h2⟩]
theorem rgv_out {A : Nat → Int32} {a c : Nat} {v : Int32} {i : Nat} (h : i < a ∨ a + c ≤ i) : rgv A a c v i = A i := by
  unfold rgv; rw [if_neg (by omega)]
def yt (A : Nat → Int32) (i : Nat) : Nat := (A i).toNatClampNeg
theorem yt_of {A : Nat → Int32} {i x : Nat} (h : A i = nI x) (hx : x < 2147483648) : yt A i = x := by
  unfold yt; rw [h, nI_clamp hx]
def isB (A : Nat → Int32) (a e : Nat) : Prop := ∀ i, a ≤ i → i < e → ∃ x, x < 256 ∧ A i = nI x
theorem isB_yt {A : Nat → Int32} {a e : Nat} (h : isB A a e) {i : Nat} (h1 : a ≤ i) (h2 : i < e) : A i = nI (yt A i) ∧ yt A i < 256 := by
  obtain ⟨x, hx, e⟩ := h i h1 h2
  rw [yt_of e (by omega)]
  exact ⟨e, hx⟩
section
variable {f_blockLimit f_sampleBits f_capacity f_count f_nextFrame f_planned f_bestForm f_length f_frameCount f_writeByte f_writeMask f_readByte f_readMask f_readEnd f_decodedType0 f_decodedType1 f_position f_skipped f_held f_heldNumber f_heldSize f_heldForm f_heldType0 f_heldType1 f_heldMissing : Int32}
variable {a_differences a_bestBits a_bestType a_bestPartition a_bestParameter a_stream a_masks a_owner a_starts a_lengths a_alteredByte a_decoded a_heldSamples : Nat → Int32}
variable {post : Int32 → Prop}
theorem xc8_in {J5 : Int32 → Int32 → Prop} {x2 : Int32} {a : Nat} : ∀ d fuel i g, i + d = 8 → d < fuel → g < 256 → J5 (nI (cN 8 263 d g)) (nI (a + 1)) → wX_crc8_24 post J5 x2 (nI a) f_blockLimit f_sampleBits f_capacity f_count f_nextFrame f_planned f_bestForm f_length f_frameCount f_writeByte f_writeMask f_readByte f_readMask f_readEnd f_decodedType0 f_decodedType1 f_position f_skipped f_held f_heldNumber f_heldSize f_heldForm f_heldType0 f_heldType1 f_heldMissing a_differences a_bestBits a_bestType a_bestPartition a_bestParameter a_stream a_masks a_owner a_starts a_lengths a_alteredByte a_decoded a_heldSamples fuel (nI g) (nI i) := by
  intro d
  induction d with
  | zero =>
    intro fuel i g h1 h2 h3 h
    obtain ⟨fuel, rfl⟩ : ∃ q, fuel = q + 1 := ⟨fuel - 1, by omega⟩
    exact br_t (nI_le (a := 8) (by omega) (by omega)) (nm_r (nI_1 a) h)
  | succ d ih =>
    intro fuel i g h1 h2 h3 h
    obtain ⟨fuel, rfl⟩ : ∃ q, fuel = q + 1 := ⟨fuel - 1, by omega⟩
    obtain ⟨s1, s2, s3⟩ := cS_i32 (w := 8) (q := 263) (r := g) (by decide) (by decide) h3 (by decide)
    have s2' : (nI (2 * g) &&& 256 = 0) ↔ g < 2 ^ (8 - 1) := s2
    have h' : J5 (nI (cN 8 263 d (cS 8 263 g))) (nI (a + 1)) := h
    have lt := cS_lt q8 (r := g) h3
    refine br_f (nI_ge (b := 8) (by omega) (by omega)) (nm_r s1 ?_)
    by_cases c : g < 2 ^ (8 - 1)
    · have e : cS 8 263 g = 2 * g := if_pos c
      rw [e] at h' lt
      exact br_t (s2'.mpr c) (nm_r (nI_1 i) (ih fuel (i + 1) _ (by omega) (by omega) lt h'))
    · have e : cS 8 263 g = (2 * g) ^^^ 263 := if_neg c
      rw [e] at h' lt
      exact br_f (fun z => c (s2'.mp z)) (nm_r s3 (nm_r (nI_1 i) (ih fuel (i + 1) _ (by omega) (by omega) lt h')))
theorem xc8_out {B : Nat → Nat} : ∀ c fuel a g e, a + c = e → c < fuel → e ≤ 256 → g < 256 → (∀ i, a ≤ i → i < e → a_stream i = nI (B i) ∧ B i < 256) → post (nI (cR 8 263 0 B a c g)) → wX_crc8_5 post (nI e) f_blockLimit f_sampleBits f_capacity f_count f_nextFrame f_planned f_bestForm f_length f_frameCount f_writeByte f_writeMask f_readByte f_readMask f_readEnd f_decodedType0 f_decodedType1 f_position f_skipped f_held f_heldNumber f_heldSize f_heldForm f_heldType0 f_heldType1 f_heldMissing a_differences a_bestBits a_bestType a_bestPartition a_bestParameter a_stream a_masks a_owner a_starts a_lengths a_alteredByte a_decoded a_heldSamples fuel (nI g) (nI a) := by
  intro c
  induction c with
  | zero =>
    intro fuel a g e h1 h2 h3 h4 h5 h
    obtain ⟨fuel, rfl⟩ : ∃ q, fuel = q + 1 := ⟨fuel - 1, by omega⟩
    exact br_t (nI_le (by omega) (by omega)) h
  | succ c ih =>
    intro fuel a g e h1 h2 h3 h4 h5 h
    obtain ⟨fuel, rfl⟩ : ∃ q, fuel = q + 1 := ⟨fuel - 1, by omega⟩
    obtain ⟨b1, b2⟩ := h5 a (by omega) (by omega)
    refine br_f (nI_ge (by omega) (by omega)) ⟨vp_in_nI (by omega) (by omega), ?_⟩
    rw [nI_clamp (by omega), b1, nx_xor]
    refine nm_e ?_
    have lt : g ^^^ B a < 256 := xor_lt256 h4 b2
    refine ⟨9, xc8_in 8 9 0 _ (by omega) (by omega) lt ?_⟩
    refine ih fuel (a + 1) _ e (by omega) (by omega) h3 (cN_lt q8 8 _ lt) (fun i hi hi2 => h5 i (by omega) hi2) ?_
    simp only [cR, Nat.pow_zero, Nat.mul_one] at h
    exact h
theorem xcrc8 {B : Nat → Nat} {a c : Nat} (h3 : a + c ≤ 256) (h5 : ∀ i, a ≤ i → i < a + c → a_stream i = nI (B i) ∧ B i < 256) (h : post (nI (c8 B a c))) : wpX_crc8 post (f_blockLimit, f_sampleBits, f_capacity, f_count, f_nextFrame, f_planned, f_bestForm, f_length, f_frameCount, f_writeByte, f_writeMask, f_readByte, f_readMask, f_readEnd, f_decodedType0, f_decodedType1, f_position, f_skipped, f_held, f_heldNumber, f_heldSize, f_heldForm, f_heldType0, f_heldType1, f_heldMissing, a_differences, a_bestBits, a_bestType, a_bestPartition, a_bestParameter, a_stream, a_masks, a_owner, a_starts, a_lengths, a_alteredByte, a_decoded, a_heldSamples) (nI a) (nI (a + c)) := by
  unfold wpX_crc8
  dsimp only
  exact ⟨c + 1, xc8_out c _ a 0 _ rfl (by omega) h3 (by omega) h5 h⟩
theorem xc16_in {J5 : Int32 → Int32 → Prop} {x2 : Int32} {a : Nat} : ∀ d fuel i g, i + d = 8 → d < fuel → g < 65536 → J5 (nI (cN 16 98309 d g)) (nI (a + 1)) → wX_crc16_27 post J5 x2 (nI a) f_blockLimit f_sampleBits f_capacity f_count f_nextFrame f_planned f_bestForm f_length f_frameCount f_writeByte f_writeMask f_readByte f_readMask f_readEnd f_decodedType0 f_decodedType1 f_position f_skipped f_held f_heldNumber f_heldSize f_heldForm f_heldType0 f_heldType1 f_heldMissing a_differences a_bestBits a_bestType a_bestPartition a_bestParameter a_stream a_masks a_owner a_starts a_lengths a_alteredByte a_decoded a_heldSamples fuel (nI g) (nI i) := by
  intro d
  induction d with
  | zero =>
    intro fuel i g h1 h2 h3 h
    obtain ⟨fuel, rfl⟩ : ∃ q, fuel = q + 1 := ⟨fuel - 1, by omega⟩
    exact br_t (nI_le (a := 8) (by omega) (by omega)) (nm_r (nI_1 a) h)
  | succ d ih =>
    intro fuel i g h1 h2 h3 h
    obtain ⟨fuel, rfl⟩ : ∃ q, fuel = q + 1 := ⟨fuel - 1, by omega⟩
    obtain ⟨s1, s2, s3⟩ := cS_i32 (w := 16) (q := 98309) (r := g) (by decide) (by decide) h3 (by decide)
    have s2' : (nI (2 * g) &&& 65536 = 0) ↔ g < 2 ^ (16 - 1) := s2
    have h' : J5 (nI (cN 16 98309 d (cS 16 98309 g))) (nI (a + 1)) := h
    have lt := cS_lt q16 (r := g) h3
    refine br_f (nI_ge (b := 8) (by omega) (by omega)) (nm_r s1 ?_)
    by_cases c : g < 2 ^ (16 - 1)
    · have e : cS 16 98309 g = 2 * g := if_pos c
      rw [e] at h' lt
      exact br_t (s2'.mpr c) (nm_r (nI_1 i) (ih fuel (i + 1) _ (by omega) (by omega) lt h'))
    · have e : cS 16 98309 g = (2 * g) ^^^ 98309 := if_neg c
      rw [e] at h' lt
      exact br_f (fun z => c (s2'.mp z)) (nm_r s3 (nm_r (nI_1 i) (ih fuel (i + 1) _ (by omega) (by omega) lt h')))
theorem xc16_out {B : Nat → Nat} : ∀ c fuel a g e, a + c = e → c < fuel → e ≤ 256 → g < 65536 → (∀ i, a ≤ i → i < e → a_stream i = nI (B i) ∧ B i < 256) → post (nI (cR 16 98309 8 B a c g)) → wX_crc16_5 post (nI e) f_blockLimit f_sampleBits f_capacity f_count f_nextFrame f_planned f_bestForm f_length f_frameCount f_writeByte f_writeMask f_readByte f_readMask f_readEnd f_decodedType0 f_decodedType1 f_position f_skipped f_held f_heldNumber f_heldSize f_heldForm f_heldType0 f_heldType1 f_heldMissing a_differences a_bestBits a_bestType a_bestPartition a_bestParameter a_stream a_masks a_owner a_starts a_lengths a_alteredByte a_decoded a_heldSamples fuel (nI g) (nI a) := by
  intro c
  induction c with
  | zero =>
    intro fuel a g e h1 h2 h3 h4 h5 h
    obtain ⟨fuel, rfl⟩ : ∃ q, fuel = q + 1 := ⟨fuel - 1, by omega⟩
    exact br_t (nI_le (by omega) (by omega)) h
  | succ c ih =>
    intro fuel a g e h1 h2 h3 h4 h5 h
    obtain ⟨fuel, rfl⟩ : ∃ q, fuel = q + 1 := ⟨fuel - 1, by omega⟩
    obtain ⟨b1, b2⟩ := h5 a (by omega) (by omega)
    refine br_f (nI_ge (by omega) (by omega)) ⟨vp_in_nI (by omega) (by omega), ?_⟩
    have e1 : nI (B a) <<< ((8 : Int32) &&& 31) = nI (B a * 2 ^ 8) := zi_shlN (k := 8) (by omega) (by omega)
    rw [nI_clamp (by omega), b1, e1, nx_xor]
    refine nm_e ?_
    have lt : g ^^^ (B a * 2 ^ 8) < 65536 := Nat.xor_lt_two_pow (n := 16) h4 (by omega)
    refine ⟨9, xc16_in 8 9 0 _ (by omega) (by omega) lt ?_⟩
    refine ih fuel (a + 1) _ e (by omega) (by omega) h3 (cN_lt q16 8 _ lt) (fun i hi hi2 => h5 i (by omega) hi2) ?_
    exact h
theorem xcrc16 {B : Nat → Nat} {a c : Nat} (h3 : a + c ≤ 256) (h5 : ∀ i, a ≤ i → i < a + c → a_stream i = nI (B i) ∧ B i < 256) (h : post (nI (c16 B a c))) : wpX_crc16 post (f_blockLimit, f_sampleBits, f_capacity, f_count, f_nextFrame, f_planned, f_bestForm, f_length, f_frameCount, f_writeByte, f_writeMask, f_readByte, f_readMask, f_readEnd, f_decodedType0, f_decodedType1, f_position, f_skipped, f_held, f_heldNumber, f_heldSize, f_heldForm, f_heldType0, f_heldType1, f_heldMissing, a_differences, a_bestBits, a_bestType, a_bestPartition, a_bestParameter, a_stream, a_masks, a_owner, a_starts, a_lengths, a_alteredByte, a_decoded, a_heldSamples) (nI a) (nI (a + c)) := by
  unfold wpX_crc16
  dsimp only
  exact ⟨c + 1, xc16_out c _ a 0 _ rfl (by omega) h3 (by omega) h5 h⟩
end
section
variable {f_blockLimit f_sampleBits f_capacity f_count f_nextFrame f_planned f_bestForm f_length f_frameCount f_writeByte f_writeMask f_readByte f_readMask f_readEnd f_decodedType0 f_decodedType1 f_position f_skipped f_held f_heldNumber f_heldSize f_heldForm f_heldType0 f_heldType1 f_heldMissing : Int32}
variable {a_differences a_bestBits a_bestType a_bestPartition a_bestParameter a_stream a_masks a_owner a_starts a_lengths a_alteredByte a_decoded a_heldSamples : Nat → Int32}
variable {post : SX → Prop}
theorem xcl_loop {L z f : Nat} (hf : f < 16) (hL : L + z ≤ 256) (h : post (f_blockLimit, f_sampleBits, f_capacity, f_count, f_nextFrame, f_planned, f_bestForm, nI L, f_frameCount, f_writeByte, f_writeMask, f_readByte, f_readMask, f_readEnd, f_decodedType0, f_decodedType1, f_position, f_skipped, f_held, f_heldNumber, f_heldSize, f_heldForm, f_heldType0, f_heldType1, f_heldMissing, a_differences, a_bestBits, a_bestType, a_bestPartition, a_bestParameter, rgv a_stream L z 0, rgv a_masks L z 0, rgv a_owner L z (nI f), a_starts, a_lengths, a_alteredByte, a_decoded, a_heldSamples)) : ∀ d fuel i, i + d = z → d < fuel → wX_claim_29 post (nI f) (nI z) f_blockLimit f_sampleBits f_capacity f_count f_nextFrame f_planned f_bestForm (nI L) f_frameCount f_writeByte f_writeMask f_readByte f_readMask f_readEnd f_decodedType0 f_decodedType1 f_position f_skipped f_held f_heldNumber f_heldSize f_heldForm f_heldType0 f_heldType1 f_heldMissing fuel (nI (L + i)) a_differences a_bestBits a_bestType a_bestPartition a_bestParameter (rgv a_stream L i 0) (rgv a_masks L i 0) (rgv a_owner L i (nI f)) a_starts a_lengths a_alteredByte a_decoded a_heldSamples := by
  intro d
  induction d with
  | zero =>
    intro fuel i h1 h2
    obtain ⟨fuel, rfl⟩ : ∃ q, fuel = q + 1 := ⟨fuel - 1, by omega⟩
    obtain rfl : i = z := by omega
    refine br_t ?_ h
    rw [nI_add]; exact nI_le (by omega) (by omega)
  | succ d ih =>
    intro fuel i h1 h2
    obtain ⟨fuel, rfl⟩ : ∃ q, fuel = q + 1 := ⟨fuel - 1, by omega⟩
    have hi : vp_in (nI (L + i)) 256 := vp_in_nI (by omega) (by omega)
    refine br_f ?_ ⟨hi, ?_⟩
    · rw [nI_add]; exact nI_ge (by omega) (by omega)
    · rw [nI_clamp (by omega)]
      refine nm_r (rgv_s _ _ _ _) ⟨hi, nm_r (rgv_s _ _ _ _) ⟨hi, nm_r (rgv_s _ _ _ _) (nm_r (nI_1 (L + i)) ?_)⟩⟩
      exact ih fuel (i + 1) (by omega) (by omega)
theorem xclaim {L z f : Nat} (hf : f < 16) (hL : L + z ≤ 256) (h : post (f_blockLimit, f_sampleBits, f_capacity, f_count, f_nextFrame, f_planned, f_bestForm, nI L, f_frameCount, f_writeByte, f_writeMask, f_readByte, f_readMask, f_readEnd, f_decodedType0, f_decodedType1, f_position, f_skipped, f_held, f_heldNumber, f_heldSize, f_heldForm, f_heldType0, f_heldType1, f_heldMissing, a_differences, a_bestBits, a_bestType, a_bestPartition, a_bestParameter, rgv a_stream L z 0, rgv a_masks L z 0, rgv a_owner L z (nI f), upd a_starts f (nI L), upd a_lengths f (nI z), upd a_alteredByte f (-1), a_decoded, a_heldSamples)) : wpX_claim post (f_blockLimit, f_sampleBits, f_capacity, f_count, f_nextFrame, f_planned, f_bestForm, nI L, f_frameCount, f_writeByte, f_writeMask, f_readByte, f_readMask, f_readEnd, f_decodedType0, f_decodedType1, f_position, f_skipped, f_held, f_heldNumber, f_heldSize, f_heldForm, f_heldType0, f_heldType1, f_heldMissing, a_differences, a_bestBits, a_bestType, a_bestPartition, a_bestParameter, a_stream, a_masks, a_owner, a_starts, a_lengths, a_alteredByte, a_decoded, a_heldSamples) (nI f) (nI z) := by
  have hi : vp_in (nI f) 16 := vp_in_nI hf (by omega)
  unfold wpX_claim
  dsimp only
  rw [nI_clamp (by omega)]
  refine ⟨hi, nm_e ⟨hi, nm_e ⟨hi, nm_e ⟨z + 1, ?_⟩⟩⟩⟩
  have k := xcl_loop hf hL h z (z + 1) 0 (by omega) (by omega)
  rw [rgv_0, rgv_0, rgv_0] at k
  exact k
end
/-! what a written frame holds -/
def FWF (str A0 : Nat → Int32) (L z num shape : Nat) (W : List Bool) : Prop := isB str L (L + z) ∧ (∀ i, i < L ∨ L + z ≤ i → str i = A0 i) ∧ FH (yt str) L z ∧ str (L + 2) = nI num ∧ str (L + 4) = nI shape ∧ ∀ i, i < z - 10 → str (L + 7 + i) = nI (pk7 W i)
theorem c16_split {d : Nat} (h : d < 65536) : d / 16384 < 128 ∧ d / 128 % 128 < 128 ∧ d % 128 < 128 ∧ d / 16384 * 16384 + d / 128 % 128 * 128 + d % 128 = d := by omega
theorem FWF_of {A A0 : Nat → Int32} {L z num shape c5 c6 d : Nat} {W : List Bool} (hz : 12 ≤ z) (hz2 : z < 128) (ho : ∀ i, i < L ∨ L + 7 ≤ i → A i = A0 i) (a0 : A L = nI 255) (a1 : A (L + 1) = nI 248) (a2 : A (L + 2) = nI num) (a3 : A (L + 3) = nI z) (a4 : A (L + 4) = nI shape) (a5 : A (L + 5) = nI c5) (a6 : A (L + 6) = nI c6) (n2 : num < 128) (n4 : shape < 128) (n5 : c5 < 128) (n6 : c6 < 128) (hc : c5 * 128 + c6 = c8 (yt A) L 5) (hd : d = c16 (yt (st7 A (L + 7) (L + (z - 3)) W)) L (z - 3)) (hd2 : d < 65536) : FWF (upd (upd (upd (st7 A (L + 7) (L + (z - 3)) W) (L + (z - 3)) (nI (d / 16384))) (L + (z - 3) + 1) (nI (d / 128 % 128))) (L + (z - 3) + 2) (nI (d % 128))) A0 L z num shape W := by
  obtain ⟨d1, d2, d3, d4⟩ := c16_split hd2
  generalize hs : upd (upd (upd (st7 A (L + 7) (L + (z - 3)) W) (L + (z - 3)) (nI (d / 16384))) (L + (z - 3) + 1) (nI (d / 128 % 128))) (L + (z - 3) + 2) (nI (d % 128)) = str
  have t2 : str (L + (z - 3) + 2) = nI (d % 128) := by rw [← hs, pk_us]
  have t1 : str (L + (z - 3) + 1) = nI (d / 128 % 128) := by rw [← hs, pk_un (by omega), pk_us]
  have t0 : str (L + (z - 3)) = nI (d / 16384) := by rw [← hs, pk_un (by omega), pk_un (by omega), pk_us]
  have lo : ∀ i, i < L + (z - 3) → str i = st7 A (L + 7) (L + (z - 3)) W i := fun i hi => by rw [← hs, pk_un (by omega), pk_un (by omega), pk_un (by omega)]
  have hd' : ∀ i, i < L + 7 → str i = A i := fun i hi => by rw [lo i (by omega)]; unfold st7; rw [if_neg (by omega)]
  have pl : ∀ i, i < z - 10 → str (L + 7 + i) = nI (pk7 W i) := fun i hi => by
    rw [lo _ (by omega)]; unfold st7; rw [if_pos (by omega), show L + 7 + i - (L + 7) = i from by omega]
  have v : ∀ {i x}, str i = nI x → x < 256 → yt str i = x := fun h hx => yt_of h (by omega)
  have b0 := hd' L (by omega); rw [a0] at b0
  have b1 := hd' (L + 1) (by omega); rw [a1] at b1
  have b2 := hd' (L + 2) (by omega); rw [a2] at b2
  have b3 := hd' (L + 3) (by omega); rw [a3] at b3
  have b4 := hd' (L + 4) (by omega); rw [a4] at b4
  have b5 := hd' (L + 5) (by omega); rw [a5] at b5
  have b6 := hd' (L + 6) (by omega); rw [a6] at b6
  have low : ∀ i, 2 ≤ i → i < z → ∃ x, x < 128 ∧ str (L + i) = nI x := by
    intro i h1 h2
    by_cases h7 : i < 7
    · have : i = 2 ∨ i = 3 ∨ i = 4 ∨ i = 5 ∨ i = 6 := by omega
      rcases this with rfl | rfl | rfl | rfl | rfl
      · exact ⟨_, n2, b2⟩
      · exact ⟨_, hz2, b3⟩
      · exact ⟨_, n4, b4⟩
      · exact ⟨_, n5, b5⟩
      · exact ⟨_, n6, b6⟩
    · by_cases ht : i < z - 3
      · have := pl (i - 7) (by omega)
        rw [show L + 7 + (i - 7) = L + i from by omega] at this
        exact ⟨_, pk7_lt _ _, this⟩
      · have : i = z - 3 ∨ i = z - 3 + 1 ∨ i = z - 3 + 2 := by omega
        rcases this with e | e | e
        · rw [e]; exact ⟨_, d1, t0⟩
        · rw [e, ← Nat.add_assoc]; exact ⟨_, d2, t1⟩
        · rw [e, ← Nat.add_assoc]; exact ⟨_, d3, t2⟩
  refine ⟨?_, ?_, ?_, b2, b4, pl⟩
  · intro i h1 h2
    by_cases h3 : i = L
    · rw [h3]; exact ⟨255, by omega, b0⟩
    · by_cases h4 : i = L + 1
      · rw [h4]; exact ⟨248, by omega, b1⟩
      · obtain ⟨x, hx, e⟩ := low (i - L) (by omega) (by omega)
        rw [show L + (i - L) = i from by omega] at e
        exact ⟨x, by omega, e⟩
  · intro i hi
    by_cases h3 : i < L
    · rw [hd' i (by omega), ho i (by omega)]
    · rw [← hs, pk_un (by omega), pk_un (by omega), pk_un (by omega)]
      unfold st7
      rw [if_neg (by omega), ho i (by omega)]
  · refine ⟨hz, hz2, v b0 (by omega), v b1 (by omega), v b3 (by omega), fun i h1 h2 => ?_, ?_, ?_⟩
    · obtain ⟨x, hx, e⟩ := low i h1 h2
      rw [v e (by omega)]; exact hx
    · rw [v b5 (by omega), v b6 (by omega), hc]
      refine cR_cong 5 L 0 (fun i hi => ?_)
      unfold yt
      rw [hd' (L + i) (by omega)]
    · rw [v t0 (by omega), v t1 (by omega), v t2 (by omega), d4, hd]
      refine cR_cong (z - 3) L 0 (fun i hi => ?_)
      unfold yt
      rw [lo (L + i) (by omega)]
section
variable {f_blockLimit f_sampleBits f_capacity f_count f_nextFrame f_planned f_bestForm f_length f_frameCount f_writeByte f_writeMask f_readByte f_readMask f_readEnd f_decodedType0 f_decodedType1 f_position f_skipped f_held f_heldNumber f_heldSize f_heldForm f_heldType0 f_heldType1 f_heldMissing : Int32}
variable {a_differences a_bestBits a_bestType a_bestPartition a_bestParameter a_stream a_masks a_owner a_starts a_lengths a_alteredByte a_decoded a_heldSamples : Nat → Int32}
variable {post : SX → Prop} {b n : Nat} {l r : Nat → Int}
theorem xwf_tail {L z : Nat} (hL : L + z ≤ 256) (hz : 12 ≤ z) (hb : isB a_stream L (L + (z - 3))) (h : ∀ d, d = c16 (yt a_stream) L (z - 3) → d < 65536 → post (f_blockLimit, f_sampleBits, f_capacity, f_count, f_nextFrame, f_planned, f_bestForm, f_length, f_frameCount, f_writeByte, f_writeMask, f_readByte, f_readMask, f_readEnd, f_decodedType0, f_decodedType1, f_position, f_skipped, f_held, f_heldNumber, f_heldSize, f_heldForm, f_heldType0, f_heldType1, f_heldMissing, a_differences, a_bestBits, a_bestType, a_bestPartition, a_bestParameter, upd (upd (upd a_stream (L + (z - 3)) (nI (d / 16384))) (L + (z - 3) + 1) (nI (d / 128 % 128))) (L + (z - 3) + 2) (nI (d % 128)), a_masks, a_owner, a_starts, a_lengths, a_alteredByte, a_decoded, a_heldSamples)) (fuel : Nat) : wX_writeFrame_114 post (nI L) (nI z) (fuel + 1) (nI 2) f_blockLimit f_sampleBits f_capacity f_count f_nextFrame f_planned f_bestForm f_length f_frameCount f_writeByte f_writeMask f_readByte f_readMask f_readEnd f_decodedType0 f_decodedType1 f_position f_skipped f_held f_heldNumber f_heldSize f_heldForm f_heldType0 f_heldType1 f_heldMissing a_differences a_bestBits a_bestType a_bestPartition a_bestParameter a_stream a_masks a_owner a_starts a_lengths a_alteredByte a_decoded a_heldSamples := by
  refine br_t (nI_lt (a := 1) (by omega) (by omega)) ?_
  refine nm_r (e' := nI (L + (z - 3))) ?_ ?_
  · rw [nI_add]
    show nI (L + z) - nI 3 = _
    rw [pk_sub (by omega)]; exact congrArg nI (by omega)
  · have lt : c16 (yt a_stream) L (z - 3) < 65536 := c16_lt (fun i hi => (isB_yt hb (by omega) (by omega)).2)
    refine xcrc16 (B := yt a_stream) (by omega) (fun i h1 h2 => isB_yt hb h1 h2) ?_
    have H := h _ rfl lt
    generalize c16 (yt a_stream) L (z - 3) = d at H lt
    have e1 : nI d >>> ((14 : Int32) &&& 31) = nI (d / 16384) := zi_shrN (k := 14) (by omega) (by omega)
    have e2 : nI d >>> ((7 : Int32) &&& 31) = nI (d / 128) := zi_shrN (k := 7) (by omega) (by omega)
    have e3 : nI (d / 128) &&& 127 = nI (d / 128 % 128) := pk_andN (by omega) 7 (by decide)
    have e4 : nI d &&& 127 = nI (d % 128) := pk_andN (by omega) 7 (by decide)
    have i1 : nI (L + (z - 3)) + 1 = nI (L + (z - 3) + 1) := nI_1 _
    have i2 : nI (L + (z - 3)) + 2 = nI (L + (z - 3) + 2) := nI_add _ 2
    rw [e1, e2, e3, e4, i1, i2, nI_clamp (by omega), nI_clamp (by omega), nI_clamp (by omega)]
    exact ⟨vp_in_nI (by omega) (by omega), nm_e ⟨vp_in_nI (by omega) (by omega), nm_e ⟨vp_in_nI (by omega) (by omega), nm_e H⟩⟩⟩
end
end
section
/-! X: writeFrame -/
def enS (b : Nat) (l r : Nat → Int) (n s : Nat) : List Bool := eS (sg l r s) (wd b s) n (bT b l r n s) (bP b l r n s) (kk l r n s (bT b l r n s - 2) (bP b l r n s))
theorem enS_len (b : Nat) (l r : Nat → Int) (n s : Nat) : (enS b l r n s).length = bB b l r n s := by
  obtain ⟨_, e, _⟩ := bco_sc b l r n s
  exact eS_len (fun _ i _ => rfl) e
def enF (b : Nat) (l r : Nat → Int) (n form : Nat) : List Bool := enS b l r n (sgO form 0) ++ enS b l r n (sgO form 1)
theorem enF_len (b : Nat) (l r : Nat → Int) (n form : Nat) : (enF b l r n form).length = fbt b l r n form := by
  unfold enF fbt
  rw [List.length_append, enS_len, enS_len]
theorem st7_isB {A : Nat → Int32} {L s e : Nat} {W : List Bool} (h : isB A L s) : isB (st7 A s e W) L e := by
  intro i i1 i2
  by_cases c : s ≤ i
  · refine ⟨pk7 W (i - s), Nat.lt_trans (pk7_lt _ _) (by omega), ?_⟩
    unfold st7
    rw [if_pos ⟨c, i2⟩]
  · obtain ⟨x, hx, e1⟩ := h i i1 (by omega)
    refine ⟨x, hx, ?_⟩
    unfold st7
    rw [if_neg (by omega)]
    exact e1
section
variable {f_blockLimit f_sampleBits f_capacity f_count f_nextFrame f_planned f_bestForm f_length f_frameCount f_writeByte f_writeMask f_readByte f_readMask f_readEnd f_decodedType0 f_decodedType1 f_position f_skipped f_held f_heldNumber f_heldSize f_heldForm f_heldType0 f_heldType1 f_heldMissing : Int32}
variable {a_differences a_bestBits a_bestType a_bestPartition a_bestParameter a_stream a_masks a_owner a_starts a_lengths a_alteredByte a_decoded a_heldSamples : Nat → Int32}
variable {post : SX → Prop} {b n : Nat} {l r : Nat → Int} {A : Nat → Int32} {s7 e7 : Nat}
theorem xwsubP (he : e7 ≤ 256) (h1 : 4 ≤ b) (h2 : b ≤ 12) (hr : rng b l r n) (hn0 : 1 ≤ n) (hn : n ≤ 16) (D : DF a_differences l r n) {s : Nat} {W : List Bool} (hs : s < 4) (P : PLs b l r n a_bestBits a_bestType a_bestPartition a_bestParameter s) (hW : W.length + (enS b l r n s).length ≤ 7 * (e7 - s7)) (h : post (f_blockLimit, nI b, f_capacity, nI n, f_nextFrame, f_planned, f_bestForm, f_length, f_frameCount, wB s7 (W ++ enS b l r n s), wM (W ++ enS b l r n s), f_readByte, f_readMask, f_readEnd, f_decodedType0, f_decodedType1, f_position, f_skipped, f_held, f_heldNumber, f_heldSize, f_heldForm, f_heldType0, f_heldType1, f_heldMissing, a_differences, a_bestBits, a_bestType, a_bestPartition, a_bestParameter, st7 A s7 e7 (W ++ enS b l r n s), a_masks, a_owner, a_starts, a_lengths, a_alteredByte, a_decoded, a_heldSamples)) : wpX_writeSubframe post (f_blockLimit, nI b, f_capacity, nI n, f_nextFrame, f_planned, f_bestForm, f_length, f_frameCount, wB s7 (W), wM (W), f_readByte, f_readMask, f_readEnd, f_decodedType0, f_decodedType1, f_position, f_skipped, f_held, f_heldNumber, f_heldSize, f_heldForm, f_heldType0, f_heldType1, f_heldMissing, a_differences, a_bestBits, a_bestType, a_bestPartition, a_bestParameter, st7 A s7 e7 (W), a_masks, a_owner, a_starts, a_lengths, a_alteredByte, a_decoded, a_heldSamples) (nI s) := by
  obtain ⟨_, e, t6, p2, _⟩ := bco_sc b l r n s
  obtain ⟨_, P2, P3, P4⟩ := P
  have p4 := p4 p2
  refine xwsub he h1 h2 hr hn0 hn D hs t6 p2 (fun t2 => (tb_off e t2).2) P2 P3 (fun t2 j hj => ⟨?_, kk_le⟩) hW h
  rw [P4 j (by omega)]
  unfold prm
  rw [if_pos ⟨t2, hj⟩]
theorem xwf_body {L z num form : Nat} (h1 : 4 ≤ b) (h2 : b ≤ 12) (hr : rng b l r n) (hn0 : 1 ≤ n) (hn : n ≤ 16) (D : DF a_differences l r n) (hL : L + z ≤ 256) (hz : 12 ≤ z) (hf : form ≤ 3) (P : ∀ s, s < 4 → PLs b l r n a_bestBits a_bestType a_bestPartition a_bestParameter s) (hroom : fbt b l r n form ≤ 7 * (z - 10)) (hAz : ∀ i, L + 7 ≤ i → i < L + (z - 3) → A i = 0) (hAB : isB A L (L + 7)) (K : ∀ d wb wm, d = c16 (yt (st7 A (L + 7) (L + (z - 3)) (enF b l r n form))) L (z - 3) → d < 65536 → post (f_blockLimit, nI b, f_capacity, nI n, nI num, f_planned, nI form, f_length, f_frameCount, wb, wm, f_readByte, f_readMask, f_readEnd, f_decodedType0, f_decodedType1, f_position, f_skipped, f_held, f_heldNumber, f_heldSize, f_heldForm, f_heldType0, f_heldType1, f_heldMissing, a_differences, a_bestBits, a_bestType, a_bestPartition, a_bestParameter, upd (upd (upd (st7 A (L + 7) (L + (z - 3)) (enF b l r n form)) (L + (z - 3)) (nI (d / 16384))) (L + (z - 3) + 1) (nI (d / 128 % 128))) (L + (z - 3) + 2) (nI (d % 128)), a_masks, a_owner, a_starts, a_lengths, a_alteredByte, a_decoded, a_heldSamples)) : ∃ n114, wX_writeFrame_114 post (nI L) (nI z) n114 0 f_blockLimit (nI b) f_capacity (nI n) (nI num) f_planned (nI form) f_length f_frameCount (nI (L + 7)) 64 f_readByte f_readMask f_readEnd f_decodedType0 f_decodedType1 f_position f_skipped f_held f_heldNumber f_heldSize f_heldForm f_heldType0 f_heldType1 f_heldMissing a_differences a_bestBits a_bestType a_bestPartition a_bestParameter A a_masks a_owner a_starts a_lengths a_alteredByte a_decoded a_heldSamples := by
  have hst : st7 A (L + 7) (L + (z - 3)) [] = A := by
    funext i
    unfold st7
    split
    · rename_i q; rw [pk7_nil, hAz i q.1 q.2]; rfl
    · rfl
  obtain ⟨s7, hs7⟩ : ∃ s7, s7 = L + 7 := ⟨_, rfl⟩
  obtain ⟨e7, he7⟩ : ∃ e7, e7 = L + (z - 3) := ⟨_, rfl⟩
  have l0 := enS_len b l r n (sgO form 0)
  have l1 := enS_len b l r n (sgO form 1)
  have lf : fbt b l r n form = bB b l r n (sgO form 0) + bB b l r n (sgO form 1) := rfl
  have key : wX_writeFrame_114 post (nI L) (nI z) 3 (nI 0) f_blockLimit (nI b) f_capacity (nI n) (nI num) f_planned (nI form) f_length f_frameCount (wB s7 (([] : List Bool))) (wM (([] : List Bool))) f_readByte f_readMask f_readEnd f_decodedType0 f_decodedType1 f_position f_skipped f_held f_heldNumber f_heldSize f_heldForm f_heldType0 f_heldType1 f_heldMissing a_differences a_bestBits a_bestType a_bestPartition a_bestParameter (st7 A s7 e7 (([] : List Bool))) a_masks a_owner a_starts a_lengths a_alteredByte a_decoded a_heldSamples := by
    refine br_f (nI_nlt (a := 1) (by omega) (by omega)) ?_
    refine xchan (c := 0) (by omega) (by omega) ?_
    refine xwsubP (by omega) h1 h2 hr hn0 hn D (sgO_lt _ _) (P _ (sgO_lt _ _)) (by rw [l0]; show 0 + _ ≤ _; omega) ?_
    refine nm_r (nI_1 0) ?_
    refine br_f (nI_nlt (a := 1) (by omega) (by omega)) ?_
    refine xchan (c := 1) (by omega) (by omega) ?_
    refine xwsubP (by omega) h1 h2 hr hn0 hn D (sgO_lt _ _) (P _ (sgO_lt _ _)) (by rw [List.nil_append, l0, l1]; omega) ?_
    refine nm_r (nI_1 1) ?_
    subst hs7 he7
    exact xwf_tail hL hz (st7_isB hAB) (fun d e1 e2 => K d _ _ e1 e2) 0
  subst hs7 he7
  rw [hst] at key
  exact ⟨3, key⟩
theorem xwframe {L z num form : Nat} (h1 : 4 ≤ b) (h2 : b ≤ 12) (hr : rng b l r n) (hn0 : 1 ≤ n) (hn : n ≤ 16) (D : DF a_differences l r n) (hL : L + z ≤ 256) (hz : 12 ≤ z) (hz2 : z < 128) (hnum : num < 128) (hf : form ≤ 3) (P : ∀ s, s < 4 → PLs b l r n a_bestBits a_bestType a_bestPartition a_bestParameter s) (hroom : fbt b l r n form ≤ 7 * (z - 10)) (hAz : ∀ i, L + 7 ≤ i → i < L + (z - 3) → a_stream i = 0) (K : ∀ str wb wm, FWF str a_stream L z num (form * 16 + (n - 1)) (enF b l r n form) → post (f_blockLimit, nI b, f_capacity, nI n, nI num, f_planned, nI form, f_length, f_frameCount, wb, wm, f_readByte, f_readMask, f_readEnd, f_decodedType0, f_decodedType1, f_position, f_skipped, f_held, f_heldNumber, f_heldSize, f_heldForm, f_heldType0, f_heldType1, f_heldMissing, a_differences, a_bestBits, a_bestType, a_bestPartition, a_bestParameter, str, a_masks, a_owner, a_starts, a_lengths, a_alteredByte, a_decoded, a_heldSamples)) : wpX_writeFrame post (f_blockLimit, nI b, f_capacity, nI n, nI num, f_planned, nI form, f_length, f_frameCount, f_writeByte, f_writeMask, f_readByte, f_readMask, f_readEnd, f_decodedType0, f_decodedType1, f_position, f_skipped, f_held, f_heldNumber, f_heldSize, f_heldForm, f_heldType0, f_heldType1, f_heldMissing, a_differences, a_bestBits, a_bestType, a_bestPartition, a_bestParameter, a_stream, a_masks, a_owner, a_starts, a_lengths, a_alteredByte, a_decoded, a_heldSamples) (nI L) (nI z) := by
  have i1 : nI L + 1 = nI (L + 1) := nI_1 L
  have i2 : nI L + 2 = nI (L + 2) := nI_add L 2
  have i3 : nI L + 3 = nI (L + 3) := nI_add L 3
  have i4 : nI L + 4 = nI (L + 4) := nI_add L 4
  have i5 : nI L + 5 = nI (L + 5) := nI_add L 5
  have i6 : nI L + 6 = nI (L + 6) := nI_add L 6
  have i7 : nI L + 7 = nI (L + 7) := nI_add L 7
  have ish : (nI form * 16) + (nI n - 1) = nI (form * 16 + (n - 1)) := by
    show (nI form * nI 16) + (nI n - nI 1) = _
    rw [pk_mul, pk_sub hn0, nI_add]
  have v : ∀ j, L + j < 256 → vp_in (nI (L + j)) 256 := fun j hj => vp_in_nI hj (by omega)
  unfold wpX_writeFrame
  dsimp only
  rw [i1, i2, i3, i4, i5, i6, i7, ish, nI_clamp (by omega), nI_clamp (by omega), nI_clamp (by omega), nI_clamp (by omega), nI_clamp (by omega), nI_clamp (by omega), nI_clamp (by omega)]
  refine ⟨v 0 (by omega), fun s0 e0 => ⟨v 1 (by omega), fun s1 e1 => ⟨v 2 (by omega), fun s2 e2 => ⟨v 3 (by omega), fun s3 e3 => ⟨v 4 (by omega), fun s4 e4 => ?_⟩⟩⟩⟩⟩
  have q4 : s4 (L + 4) = nI (form * 16 + (n - 1)) := by rw [e4, pk_us]
  have q3 : s4 (L + 3) = nI z := by rw [e4, pk_un (by omega), e3, pk_us]
  have q2 : s4 (L + 2) = nI num := by rw [e4, pk_un (by omega), e3, pk_un (by omega), e2, pk_us]
  have q1 : s4 (L + 1) = nI 248 := by rw [e4, pk_un (by omega), e3, pk_un (by omega), e2, pk_un (by omega), e1, pk_us]; rfl
  have q0 : s4 L = nI 255 := by rw [e4, pk_un (by omega), e3, pk_un (by omega), e2, pk_un (by omega), e1, pk_un (by omega), e0, pk_us]; rfl
  have qo : ∀ i, i < L ∨ L + 5 ≤ i → s4 i = a_stream i := fun i hi => by
    rw [e4, pk_un (by omega), e3, pk_un (by omega), e2, pk_un (by omega), e1, pk_un (by omega), e0, pk_un (by omega)]
  clear e0 e1 e2 e3 e4 s0 s1 s2 s3
  have B5 : isB s4 L (L + 5) := by
    intro i a1 a2
    have : i = L ∨ i = L + 1 ∨ i = L + 2 ∨ i = L + 3 ∨ i = L + 4 := by omega
    rcases this with rfl | rfl | rfl | rfl | rfl
    · exact ⟨_, by omega, q0⟩
    · exact ⟨_, by omega, q1⟩
    · exact ⟨_, by omega, q2⟩
    · exact ⟨_, by omega, q3⟩
    · exact ⟨_, by omega, q4⟩
  have clt : c8 (yt s4) L 5 < 256 := c8_lt (fun i hi => (isB_yt B5 (by omega) (by omega)).2)
  refine xcrc8 (B := yt s4) (by omega) (fun i a1 a2 => isB_yt B5 a1 a2) ?_
  obtain ⟨c, hc⟩ : ∃ c, c = c8 (yt s4) L 5 := ⟨_, rfl⟩
  rw [← hc] at clt ⊢
  have k1 : nI c >>> ((7 : Int32) &&& 31) = nI (c / 128) := zi_shrN (k := 7) (by omega) (by omega)
  have k2 : nI c &&& 127 = nI (c % 128) := pk_andN (by omega) 7 (by decide)
  rw [k1, k2]
  refine ⟨v 5 (by omega), fun s5 e5 => ⟨v 6 (by omega), fun s6 e6 => nm_e ?_⟩⟩
  have r6 : s6 (L + 6) = nI (c % 128) := by rw [e6, pk_us]
  have r5 : s6 (L + 5) = nI (c / 128) := by rw [e6, pk_un (by omega), e5, pk_us]
  have rl : ∀ i, i ≠ L + 5 → i ≠ L + 6 → s6 i = s4 i := fun i x y => by rw [e6, pk_un y, e5, pk_un x]
  clear e5 e6 s5
  have hc6 : c / 128 * 128 + c % 128 = c8 (yt s6) L 5 := by
    have : c8 (yt s6) L 5 = c8 (yt s4) L 5 := cR_cong 5 L 0 (fun i hi => by unfold yt; rw [rl _ (by omega) (by omega)])
    rw [this, ← hc]; omega
  have B7 : isB s6 L (L + 7) := by
    intro i a1 a2
    by_cases x : i = L + 5
    · rw [x]; exact ⟨_, by omega, r5⟩
    · by_cases y : i = L + 6
      · rw [y]; exact ⟨_, by omega, r6⟩
      · rw [rl i x y]; exact B5 i a1 (by omega)
  refine xwf_body h1 h2 hr hn0 hn D hL hz hf P hroom (fun i a1 a2 => ?_) B7 (fun d wb wm e1 e2 => ?_)
  · rw [rl i (by omega) (by omega), qo i (by omega)]; exact hAz i a1 a2
  · refine K _ wb wm (FWF_of hz hz2 (fun i hi => ?_) ?_ ?_ ?_ ?_ ?_ r5 r6 hnum (by omega) (by omega) (by omega) hc6 e1 e2)
    · rw [rl i (by omega) (by omega), qo i (by omega)]
    · rw [rl _ (by omega) (by omega)]; exact q0
    · rw [rl _ (by omega) (by omega)]; exact q1
    · rw [rl _ (by omega) (by omega)]; exact q2
    · rw [rl _ (by omega) (by omega)]; exact q3
    · rw [rl _ (by omega) (by omega)]; exact q4
end
end
section
/-! X: bit reader -/
def rdB (s a : Nat) : Int32 := nI (s + a / 7)
def rdM (a : Nat) : Int32 := nI (2 ^ (6 - a % 7))
def PB (A : Nat → Int32) (s e : Nat) (P : List Bool) : Prop := P.length ≤ 7 * (e - s) ∧ ∀ i, i < e - s → A (s + i) = nI (pk7 P i)
theorem b01_n {q : Nat} (h : q < 2) : b01 (decide (q = 1)) = nI q := by
  have : q = 0 ∨ q = 1 := by omega
  rcases this with rfl | rfl <;> rfl
theorem uz_mod {w : Nat} {z : Int} (h1 : 4 ≤ w) (h2 : w ≤ 13) (h3 : -(2 ^ (w - 1)) ≤ z) (h4 : z < 2 ^ (w - 1)) : (0 ≤ z → ((uz z % 2 ^ w : Nat) : Int) = z ∧ uz z % 2 ^ w / 2 ^ (w - 1) % 2 = 0) ∧ (z < 0 → ((uz z % 2 ^ w : Nat) : Int) = z + 2 ^ w ∧ uz z % 2 ^ w / 2 ^ (w - 1) % 2 = 1) := by
  have : w = 4 ∨ w = 5 ∨ w = 6 ∨ w = 7 ∨ w = 8 ∨ w = 9 ∨ w = 10 ∨ w = 11 ∨ w = 12 ∨ w = 13 := by omega
  unfold uz
  rcases this with rfl | rfl | rfl | rfl | rfl | rfl | rfl | rfl | rfl | rfl
  all_goals
    simp only [Nat.reduceSub, Nat.reducePow, Int.reducePow, Int.reduceNeg] at h3 h4 ⊢
    constructor
    · intro h; constructor <;> omega
    · intro h; constructor <;> omega
section
variable {f_blockLimit f_sampleBits f_capacity f_count f_nextFrame f_planned f_bestForm f_length f_frameCount f_writeByte f_writeMask f_readByte f_readMask f_readEnd f_decodedType0 f_decodedType1 f_position f_skipped f_held f_heldNumber f_heldSize f_heldForm f_heldType0 f_heldType1 f_heldMissing : Int32}
variable {a_differences a_bestBits a_bestType a_bestPartition a_bestParameter a_stream a_masks a_owner a_starts a_lengths a_alteredByte a_decoded a_heldSamples : Nat → Int32}
variable {post : Int32 → SX → Prop} {s7 e7 : Nat} {P : List Bool}
theorem xrb52 {a : Nat} {v : Int32} (hs : s7 + a < 1000000) (h : post v (f_blockLimit, f_sampleBits, f_capacity, f_count, f_nextFrame, f_planned, f_bestForm, f_length, f_frameCount, f_writeByte, f_writeMask, rdB s7 (a + 1), rdM (a + 1), nI e7, f_decodedType0, f_decodedType1, f_position, f_skipped, f_held, f_heldNumber, f_heldSize, f_heldForm, f_heldType0, f_heldType1, f_heldMissing, a_differences, a_bestBits, a_bestType, a_bestPartition, a_bestParameter, a_stream, a_masks, a_owner, a_starts, a_lengths, a_alteredByte, a_decoded, a_heldSamples)) : wX_readBit_52 post v f_blockLimit f_sampleBits f_capacity f_count f_nextFrame f_planned f_bestForm f_length f_frameCount f_writeByte f_writeMask (rdB s7 (a)) (rdM (a)) (nI e7) f_decodedType0 f_decodedType1 f_position f_skipped f_held f_heldNumber f_heldSize f_heldForm f_heldType0 f_heldType1 f_heldMissing a_differences a_bestBits a_bestType a_bestPartition a_bestParameter a_stream a_masks a_owner a_starts a_lengths a_alteredByte a_decoded a_heldSamples := by
  unfold wX_readBit_52
  unfold rdB rdM at *
  rw [wM_shr]
  have hp := wM_pos a
  refine nm_e ?_
  refine pk_eq (2 ^ (6 - a % 7) / 2) 0 (fun e => ?_) (fun e => ?_)
  · refine nm_r (nI_1 _) ?_
    have l6 : a % 7 = 6 := by
      by_cases x : a % 7 = 6
      · exact x
      · exact absurd e (wM_mid x).1
    obtain ⟨_, q1, q2⟩ := wM_last l6
    rw [q1, q2, ← Nat.add_assoc] at h
    exact h
  · have l6 : a % 7 ≠ 6 := fun x => e (wM_last x).1
    obtain ⟨_, q1, q2⟩ := wM_mid l6
    rw [q1, q2] at h
    exact h
theorem xrbit (he : e7 ≤ 256) (hP : PB a_stream s7 e7 P) {a : Nat} {c : Bool} {w : List Bool} (hd : P.drop a = c :: w) (h : post (b01 c) (f_blockLimit, f_sampleBits, f_capacity, f_count, f_nextFrame, f_planned, f_bestForm, f_length, f_frameCount, f_writeByte, f_writeMask, rdB s7 (a + 1), rdM (a + 1), nI e7, f_decodedType0, f_decodedType1, f_position, f_skipped, f_held, f_heldNumber, f_heldSize, f_heldForm, f_heldType0, f_heldType1, f_heldMissing, a_differences, a_bestBits, a_bestType, a_bestPartition, a_bestParameter, a_stream, a_masks, a_owner, a_starts, a_lengths, a_alteredByte, a_decoded, a_heldSamples)) : wpX_readBit post (f_blockLimit, f_sampleBits, f_capacity, f_count, f_nextFrame, f_planned, f_bestForm, f_length, f_frameCount, f_writeByte, f_writeMask, rdB s7 (a), rdM (a), nI e7, f_decodedType0, f_decodedType1, f_position, f_skipped, f_held, f_heldNumber, f_heldSize, f_heldForm, f_heldType0, f_heldType1, f_heldMissing, a_differences, a_bestBits, a_bestType, a_bestPartition, a_bestParameter, a_stream, a_masks, a_owner, a_starts, a_lengths, a_alteredByte, a_decoded, a_heldSamples) := by
  have hl : a < P.length := by
    have := drop_lt (w1 := [c]) (w2 := w) hd
    have e1 : ([c] : List Bool).length = 1 := rfl
    omega
  have hq : s7 + a / 7 < e7 := by have := hP.1; omega
  have hg := gb_drop hd
  have hc : (rdB s7 a).toNatClampNeg = s7 + a / 7 := nI_clamp (by omega)
  have hi : vp_in (rdB s7 a) 256 := vp_in_nI (by omega) (by omega)
  have hb := hP.2 (a / 7) (by omega)
  have hp := wM_pos a
  unfold wpX_readBit
  dsimp only
  refine br_f (nI_pos (by omega)) (br_f (nI_ge (by omega) (by omega)) (br_t (nI_lt (b := 256) (by omega) (by omega)) ⟨hi, ?_⟩))
  rw [hc, hb]
  have ha : nI (pk7 P (a / 7)) &&& rdM a = nI (pk7 P (a / 7) &&& 2 ^ (6 - a % 7)) := nx_and _ _
  have hle : pk7 P (a / 7) &&& 2 ^ (6 - a % 7) ≤ 2 ^ (6 - a % 7) := Nat.and_le_right
  rw [ha]
  have hk := pk7_and P a
  refine pk_eq (pk7 P (a / 7) &&& 2 ^ (6 - a % 7)) 0 (fun e => ?_) (fun e => ?_)
  · have g0 := hk.mp e
    cases c with
    | false => exact xrb52 (by omega) h
    | true => rw [hg] at g0; simp at g0
  · cases c with
    | false => exact absurd (hk.mpr hg) e
    | true => exact xrb52 (by omega) h
theorem xrbits_loop (he : e7 ≤ 256) (hP : PB a_stream s7 e7 P) {w M : Nat} {rest : List Bool} (hM : M ≤ 16) : ∀ m fuel i a acc, i + m = M → m < fuel → acc < 2 ^ i → P.drop a = bN w m ++ rest → post (nI (acc * 2 ^ m + w % 2 ^ m)) (f_blockLimit, f_sampleBits, f_capacity, f_count, f_nextFrame, f_planned, f_bestForm, f_length, f_frameCount, f_writeByte, f_writeMask, rdB s7 (a + m), rdM (a + m), nI e7, f_decodedType0, f_decodedType1, f_position, f_skipped, f_held, f_heldNumber, f_heldSize, f_heldForm, f_heldType0, f_heldType1, f_heldMissing, a_differences, a_bestBits, a_bestType, a_bestPartition, a_bestParameter, a_stream, a_masks, a_owner, a_starts, a_lengths, a_alteredByte, a_decoded, a_heldSamples) → wX_readBits_4 post (nI M) fuel (nI acc) (nI i) f_blockLimit f_sampleBits f_capacity f_count f_nextFrame f_planned f_bestForm f_length f_frameCount f_writeByte f_writeMask (rdB s7 (a)) (rdM (a)) (nI e7) f_decodedType0 f_decodedType1 f_position f_skipped f_held f_heldNumber f_heldSize f_heldForm f_heldType0 f_heldType1 f_heldMissing a_differences a_bestBits a_bestType a_bestPartition a_bestParameter a_stream a_masks a_owner a_starts a_lengths a_alteredByte a_decoded a_heldSamples := by
  intro m
  induction m with
  | zero =>
    intro fuel i a acc h1 h2 h3 h4 h
    obtain ⟨fuel, rfl⟩ : ∃ q, fuel = q + 1 := ⟨fuel - 1, by omega⟩
    refine br_t (nI_le (by omega) (by omega)) ?_
    rw [Nat.pow_zero, Nat.mul_one, Nat.mod_one] at h
    exact h
  | succ m ih =>
    intro fuel i a acc h1 h2 h3 h4 h
    obtain ⟨fuel, rfl⟩ : ∃ q, fuel = q + 1 := ⟨fuel - 1, by omega⟩
    have hpw : 2 ^ i ≤ 2 ^ 16 := Nat.pow_le_pow_right (by decide) (by omega)
    refine br_f (nI_ge (by omega) (by omega)) ?_
    have h4' : P.drop a = decide (w / 2 ^ m % 2 = 1) :: (bN w m ++ rest) := h4
    refine xrbit he hP h4' ?_
    have bl : w / 2 ^ m % 2 < 2 := Nat.mod_lt _ (by decide)
    rw [b01_n bl]
    refine nm_r (e' := nI (acc * 2 + w / 2 ^ m % 2)) ?_ ?_
    · have e1 : nI acc <<< ((1 : Int32) &&& 31) = nI (acc * 2 ^ 1) := zi_shlN (k := 1) (by omega) (by omega)
      rw [e1, zi_orlo (k := 1) bl]
    · refine nm_r (nI_1 i) ?_
      refine ih fuel (i + 1) (a + 1) _ (by omega) (by omega) ?_ (drop_on (w1 := [_]) h4') ?_
      · rw [Nat.pow_succ]; omega
      · have e2 : (acc * 2 + w / 2 ^ m % 2) * 2 ^ m + w % 2 ^ m = acc * 2 ^ (m + 1) + w % 2 ^ (m + 1) := by
          rw [Nat.mod_pow_succ, Nat.pow_succ, Nat.add_mul, Nat.mul_assoc, Nat.mul_comm 2 (2 ^ m), Nat.mul_comm (w / 2 ^ m % 2)]
          omega
        rw [e2, show a + 1 + m = a + (m + 1) from by omega]
        exact h
theorem xrbits (he : e7 ≤ 256) (hP : PB a_stream s7 e7 P) {w M a : Nat} {rest : List Bool} (hM : M ≤ 16) (hd : P.drop a = bN w M ++ rest) (h : post (nI (w % 2 ^ M)) (f_blockLimit, f_sampleBits, f_capacity, f_count, f_nextFrame, f_planned, f_bestForm, f_length, f_frameCount, f_writeByte, f_writeMask, rdB s7 (a + M), rdM (a + M), nI e7, f_decodedType0, f_decodedType1, f_position, f_skipped, f_held, f_heldNumber, f_heldSize, f_heldForm, f_heldType0, f_heldType1, f_heldMissing, a_differences, a_bestBits, a_bestType, a_bestPartition, a_bestParameter, a_stream, a_masks, a_owner, a_starts, a_lengths, a_alteredByte, a_decoded, a_heldSamples)) : wpX_readBits post (f_blockLimit, f_sampleBits, f_capacity, f_count, f_nextFrame, f_planned, f_bestForm, f_length, f_frameCount, f_writeByte, f_writeMask, rdB s7 (a), rdM (a), nI e7, f_decodedType0, f_decodedType1, f_position, f_skipped, f_held, f_heldNumber, f_heldSize, f_heldForm, f_heldType0, f_heldType1, f_heldMissing, a_differences, a_bestBits, a_bestType, a_bestPartition, a_bestParameter, a_stream, a_masks, a_owner, a_starts, a_lengths, a_alteredByte, a_decoded, a_heldSamples) (nI M) := by
  unfold wpX_readBits
  dsimp only
  refine ⟨M + 1, xrbits_loop he hP hM M _ 0 a 0 (by omega) (by omega) (by decide) hd ?_⟩
  rw [Nat.zero_mul, Nat.zero_add]
  exact h
theorem xrsigned (he : e7 ≤ 256) (hP : PB a_stream s7 e7 P) {w a : Nat} {z : Int} {rest : List Bool} (h1 : 4 ≤ w) (h2 : w ≤ 13) (h3 : -(2 ^ (w - 1)) ≤ z) (h4 : z < 2 ^ (w - 1)) (hd : P.drop a = bN (uz z) w ++ rest) (h : post (iI z) (f_blockLimit, f_sampleBits, f_capacity, f_count, f_nextFrame, f_planned, f_bestForm, f_length, f_frameCount, f_writeByte, f_writeMask, rdB s7 (a + w), rdM (a + w), nI e7, f_decodedType0, f_decodedType1, f_position, f_skipped, f_held, f_heldNumber, f_heldSize, f_heldForm, f_heldType0, f_heldType1, f_heldMissing, a_differences, a_bestBits, a_bestType, a_bestPartition, a_bestParameter, a_stream, a_masks, a_owner, a_starts, a_lengths, a_alteredByte, a_decoded, a_heldSamples)) : wpX_readSigned post (f_blockLimit, f_sampleBits, f_capacity, f_count, f_nextFrame, f_planned, f_bestForm, f_length, f_frameCount, f_writeByte, f_writeMask, rdB s7 (a), rdM (a), nI e7, f_decodedType0, f_decodedType1, f_position, f_skipped, f_held, f_heldNumber, f_heldSize, f_heldForm, f_heldType0, f_heldType1, f_heldMissing, a_differences, a_bestBits, a_bestType, a_bestPartition, a_bestParameter, a_stream, a_masks, a_owner, a_starts, a_lengths, a_alteredByte, a_decoded, a_heldSamples) (nI w) := by
  have hpw : 2 ^ w ≤ 2 ^ 13 := Nat.pow_le_pow_right (by decide) h2
  have hml : uz z % 2 ^ w < 2 ^ w := Nat.mod_lt _ (Nat.two_pow_pos w)
  obtain ⟨m1, m2⟩ := uz_mod h1 h2 h3 h4
  unfold wpX_readSigned
  dsimp only
  refine xrbits he hP (by omega) hd ?_
  have e1 : nI w - 1 = nI (w - 1) := pk_sub (b := 1) (by omega)
  rw [e1, zi_bit _ _ (by omega), pk_tn (by omega)]
  generalize uz z % 2 ^ w = q at *
  by_cases hz : 0 ≤ z
  · obtain ⟨a1, a2⟩ := m1 hz
    rw [a2]
    refine br_t (by decide) ?_
    rw [← zi_n, a1]
    exact h
  · obtain ⟨a1, a2⟩ := m2 (by omega)
    rw [a2]
    refine br_f (by decide) ?_
    refine nm_r (e' := iI z) ?_ h
    rw [zi_1shl (by omega), ← zi_n, ← zi_n, zi_sub]
    refine congrArg iI ?_
    rw [a1]
    simp
theorem xrz_loop (he : e7 ≤ 256) (hP : PB a_stream s7 e7 P) {z lim : Nat} {rest : List Bool} (hz : z < lim) (hl : lim < 1000000) : ∀ d fuel i a, i + d = z → d < fuel → P.drop a = List.replicate d false ++ (true :: rest) → post (nI z) (f_blockLimit, f_sampleBits, f_capacity, f_count, f_nextFrame, f_planned, f_bestForm, f_length, f_frameCount, f_writeByte, f_writeMask, rdB s7 (a + d + 1), rdM (a + d + 1), nI e7, f_decodedType0, f_decodedType1, f_position, f_skipped, f_held, f_heldNumber, f_heldSize, f_heldForm, f_heldType0, f_heldType1, f_heldMissing, a_differences, a_bestBits, a_bestType, a_bestPartition, a_bestParameter, a_stream, a_masks, a_owner, a_starts, a_lengths, a_alteredByte, a_decoded, a_heldSamples) → wX_readZeros_15 post (nI lim) fuel (nI i) f_blockLimit f_sampleBits f_capacity f_count f_nextFrame f_planned f_bestForm f_length f_frameCount f_writeByte f_writeMask (rdB s7 (a)) (rdM (a)) (nI e7) f_decodedType0 f_decodedType1 f_position f_skipped f_held f_heldNumber f_heldSize f_heldForm f_heldType0 f_heldType1 f_heldMissing a_differences a_bestBits a_bestType a_bestPartition a_bestParameter a_stream a_masks a_owner a_starts a_lengths a_alteredByte a_decoded a_heldSamples := by
  intro d
  induction d with
  | zero =>
    intro fuel i a h1 h2 h3 h
    obtain ⟨fuel, rfl⟩ : ∃ q, fuel = q + 1 := ⟨fuel - 1, by omega⟩
    obtain rfl : i = z := by omega
    refine br_f (nI_ge (by omega) (by omega)) ?_
    refine xrbit (c := true) he hP h3 ?_
    exact br_f (by decide) h
  | succ d ih =>
    intro fuel i a h1 h2 h3 h
    obtain ⟨fuel, rfl⟩ : ∃ q, fuel = q + 1 := ⟨fuel - 1, by omega⟩
    refine br_f (nI_ge (by omega) (by omega)) ?_
    have h3' : P.drop a = false :: (List.replicate d false ++ (true :: rest)) := h3
    refine xrbit (c := false) he hP h3' ?_
    refine br_t rfl (nm_r (nI_1 i) ?_)
    refine ih fuel (i + 1) (a + 1) (by omega) (by omega) (drop_on (w1 := [_]) h3') ?_
    rw [show a + 1 + d + 1 = a + (d + 1) + 1 from by omega]
    exact h
theorem xrzeros (he : e7 ≤ 256) (hP : PB a_stream s7 e7 P) {z a : Nat} {rest : List Bool} (hd : P.drop a = List.replicate z false ++ (true :: rest)) (h : post (nI z) (f_blockLimit, f_sampleBits, f_capacity, f_count, f_nextFrame, f_planned, f_bestForm, f_length, f_frameCount, f_writeByte, f_writeMask, rdB s7 (a + z + 1), rdM (a + z + 1), nI e7, f_decodedType0, f_decodedType1, f_position, f_skipped, f_held, f_heldNumber, f_heldSize, f_heldForm, f_heldType0, f_heldType1, f_heldMissing, a_differences, a_bestBits, a_bestType, a_bestPartition, a_bestParameter, a_stream, a_masks, a_owner, a_starts, a_lengths, a_alteredByte, a_decoded, a_heldSamples)) : wpX_readZeros post (f_blockLimit, f_sampleBits, f_capacity, f_count, f_nextFrame, f_planned, f_bestForm, f_length, f_frameCount, f_writeByte, f_writeMask, rdB s7 (a), rdM (a), nI e7, f_decodedType0, f_decodedType1, f_position, f_skipped, f_held, f_heldNumber, f_heldSize, f_heldForm, f_heldType0, f_heldType1, f_heldMissing, a_differences, a_bestBits, a_bestType, a_bestPartition, a_bestParameter, a_stream, a_masks, a_owner, a_starts, a_lengths, a_alteredByte, a_decoded, a_heldSamples) := by
  have hl := drop_lt hd
  rw [List.length_replicate, List.length_cons] at hl
  have hp := hP.1
  unfold wpX_readZeros
  dsimp only
  refine nm_r (e' := nI (7 * (e7 - (s7 + a / 7)))) ?_ ?_
  · unfold rdB
    rw [pk_sub (by omega)]
    exact pk_mul 7 _
  · exact ⟨z + 1, xrz_loop he hP (by omega) (by omega) z _ 0 a (by omega) (by omega) hd h⟩
theorem xpredict {post : Int32 → Prop} {base o t : Nat} {x : Nat → Int} (hb : base + t < 32) (ho : o ≤ 4) (hot : o ≤ t) (hx : ∀ i, i < t → a_decoded (base + i) = iI (x i)) (h : post (iI (x t - dI x o t))) : wpX_predict post (f_blockLimit, f_sampleBits, f_capacity, f_count, f_nextFrame, f_planned, f_bestForm, f_length, f_frameCount, f_writeByte, f_writeMask, f_readByte, f_readMask, f_readEnd, f_decodedType0, f_decodedType1, f_position, f_skipped, f_held, f_heldNumber, f_heldSize, f_heldForm, f_heldType0, f_heldType1, f_heldMissing, a_differences, a_bestBits, a_bestType, a_bestPartition, a_bestParameter, a_stream, a_masks, a_owner, a_starts, a_lengths, a_alteredByte, a_decoded, a_heldSamples) (nI (base + t)) (nI o) := by
  have v : ∀ j, 1 ≤ j → j ≤ t → nI (base + t) - nI j = nI (base + (t - j)) := fun j h1 h2 => by
    rw [pk_sub (by omega)]; exact congrArg nI (by omega)
  have vi : ∀ j, vp_in (nI (base + (t - j))) 32 := fun j => vp_in_nI (by omega) (by omega)
  have vx : ∀ j, 1 ≤ j → j ≤ t → a_decoded (nI (base + (t - j))).toNatClampNeg = iI (x (t - j)) := fun j h1 h2 => by
    rw [nI_clamp (by omega)]; exact hx _ (by omega)
  unfold wpX_predict
  dsimp only
  refine pk_eq o 1 (fun e => ?_) (fun e1 => ?_)
  · subst e
    rw [show nI (base + t) - 1 = nI (base + (t - 1)) from v 1 (by omega) (by omega), vx 1 (by omega) (by omega)]
    refine ⟨vi 1, ?_⟩
    rw [show x t - dI x 1 t = x (t - 1) from by simp only [dI]; omega] at h
    exact h
  refine pk_eq o 2 (fun e => ?_) (fun e2 => ?_)
  · subst e
    rw [show nI (base + t) - 1 = nI (base + (t - 1)) from v 1 (by omega) (by omega), vx 1 (by omega) (by omega), show nI (base + t) - 2 = nI (base + (t - 2)) from v 2 (by omega) (by omega), vx 2 (by omega) (by omega)]
    refine ⟨vi 1, vi 2, ?_⟩
    have e : 2 * iI (x (t - 1)) - iI (x (t - 2)) = iI (x t - dI x 2 t) := by
      show iI 2 * iI (x (t - 1)) - iI (x (t - 2)) = _
      rw [zi_mul, zi_sub]
      refine congrArg iI ?_
      simp only [dI]
      rw [show t - 1 - 1 = t - 2 from by omega]
      omega
    rw [e]
    exact h
  refine pk_eq o 3 (fun e => ?_) (fun e3 => ?_)
  · subst e
    rw [show nI (base + t) - 1 = nI (base + (t - 1)) from v 1 (by omega) (by omega), vx 1 (by omega) (by omega), show nI (base + t) - 2 = nI (base + (t - 2)) from v 2 (by omega) (by omega), vx 2 (by omega) (by omega), show nI (base + t) - 3 = nI (base + (t - 3)) from v 3 (by omega) (by omega), vx 3 (by omega) (by omega)]
    refine ⟨vi 1, vi 2, vi 3, ?_⟩
    have e : 3 * iI (x (t - 1)) - 3 * iI (x (t - 2)) + iI (x (t - 3)) = iI (x t - dI x 3 t) := by
      show iI 3 * iI (x (t - 1)) - iI 3 * iI (x (t - 2)) + iI (x (t - 3)) = _
      rw [zi_mul, zi_mul, zi_sub, zi_add]
      refine congrArg iI ?_
      simp only [dI]
      rw [show t - 1 - 1 = t - 2 from by omega, show t - 2 - 1 = t - 3 from by omega]
      omega
    rw [e]
    exact h
  refine pk_eq o 4 (fun e => ?_) (fun e4 => ?_)
  · subst e
    rw [show nI (base + t) - 1 = nI (base + (t - 1)) from v 1 (by omega) (by omega), vx 1 (by omega) (by omega), show nI (base + t) - 2 = nI (base + (t - 2)) from v 2 (by omega) (by omega), vx 2 (by omega) (by omega), show nI (base + t) - 3 = nI (base + (t - 3)) from v 3 (by omega) (by omega), vx 3 (by omega) (by omega), show nI (base + t) - 4 = nI (base + (t - 4)) from v 4 (by omega) (by omega), vx 4 (by omega) (by omega)]
    refine ⟨vi 1, vi 2, vi 3, vi 4, ?_⟩
    have e : 4 * iI (x (t - 1)) - 6 * iI (x (t - 2)) + 4 * iI (x (t - 3)) - iI (x (t - 4)) = iI (x t - dI x 4 t) := by
      show iI 4 * iI (x (t - 1)) - iI 6 * iI (x (t - 2)) + iI 4 * iI (x (t - 3)) - iI (x (t - 4)) = _
      rw [zi_mul, zi_mul, zi_mul, zi_sub, zi_add, zi_sub]
      refine congrArg iI ?_
      simp only [dI]
      rw [show t - 1 - 1 = t - 2 from by omega, show t - 2 - 1 = t - 3 from by omega, show t - 3 - 1 = t - 4 from by omega]
      omega
    rw [e]
    exact h
  obtain rfl : o = 0 := by omega
  rw [show x t - dI x 0 t = 0 from by simp only [dI]; omega] at h
  exact h
end
end
section
/-! X: decoder -/
theorem fo_par {z : Int} : (fo z % 2 = 0 → ((fo z / 2 : Nat) : Int) = z) ∧ (fo z % 2 = 1 → -((fo z / 2 : Nat) : Int) - 1 = z) := by
  unfold fo
  split <;> constructor <;> intro h <;> omega
/-- decoded so far -/
def dcO (dc dc0 : Nat → Int32) (base m : Nat) (x : Nat → Int) : Prop := (∀ i, i < m → dc (base + i) = iI (x i)) ∧ ∀ i, i < base ∨ base + 16 ≤ i → dc i = dc0 i
theorem dcO_s {dc dc0 : Nat → Int32} {base t : Nat} {x : Nat → Int} (h : dcO dc dc0 base t x) (ht : t < 16) : dcO (upd dc (base + t) (iI (x t))) dc0 base (t + 1) x := by
  refine ⟨fun i hi => ?_, fun i hi => ?_⟩
  · by_cases e : i = t
    · rw [e, pk_us]
    · rw [pk_un (by omega)]; exact h.1 i (by omega)
  · rw [pk_un (by omega)]; exact h.2 i hi
section
variable {f_blockLimit f_sampleBits f_capacity f_count f_nextFrame f_planned f_bestForm f_length f_frameCount f_writeByte f_writeMask f_readByte f_readMask f_readEnd f_decodedType0 f_decodedType1 f_position f_skipped f_held f_heldNumber f_heldSize f_heldForm f_heldType0 f_heldType1 f_heldMissing : Int32}
variable {a_differences a_bestBits a_bestType a_bestPartition a_bestParameter a_stream a_masks a_owner a_starts a_lengths a_alteredByte a_decoded a_heldSamples : Nat → Int32}
variable {post : Int32 → SX → Prop} {s7 e7 : Nat} {P : List Bool} {x : Nat → Int} {dc0 : Nat → Int32}
theorem xdp144 {J39 J84 : Int32 → Int32 → Int32 → Int32 → Int32 → Int32 → Int32 → Int32 → Int32 → Int32 → Int32 → Int32 → Int32 → Int32 → Int32 → Int32 → Int32 → Int32 → Int32 → Int32 → Int32 → Int32 → Int32 → Int32 → Int32 → Int32 → (Nat → Int32) → (Nat → Int32) → (Nat → Int32) → (Nat → Int32) → (Nat → Int32) → (Nat → Int32) → (Nat → Int32) → (Nat → Int32) → (Nat → Int32) → (Nat → Int32) → (Nat → Int32) → (Nat → Int32) → (Nat → Int32) → Prop} {x4 x5 x6 x7 x9 : Int32} {base o t : Nat} (hb : base + t < 32) (ho : o ≤ 4) (hot : o ≤ t) (hx : ∀ i, i < t → a_decoded (base + i) = iI (x i)) (h : J84 (nI (t + 1)) f_blockLimit f_sampleBits f_capacity f_count f_nextFrame f_planned f_bestForm f_length f_frameCount f_writeByte f_writeMask f_readByte f_readMask f_readEnd f_decodedType0 f_decodedType1 f_position f_skipped f_held f_heldNumber f_heldSize f_heldForm f_heldType0 f_heldType1 f_heldMissing a_differences a_bestBits a_bestType a_bestPartition a_bestParameter a_stream a_masks a_owner a_starts a_lengths a_alteredByte (upd a_decoded (base + t) (iI (x t))) a_heldSamples) : wX_decodePartitions_144 post J39 J84 (nI base) (nI o) x4 x5 x6 x7 x9 (nI t) (iI (dI x o t)) f_blockLimit f_sampleBits f_capacity f_count f_nextFrame f_planned f_bestForm f_length f_frameCount f_writeByte f_writeMask f_readByte f_readMask f_readEnd f_decodedType0 f_decodedType1 f_position f_skipped f_held f_heldNumber f_heldSize f_heldForm f_heldType0 f_heldType1 f_heldMissing a_differences a_bestBits a_bestType a_bestPartition a_bestParameter a_stream a_masks a_owner a_starts a_lengths a_alteredByte a_decoded a_heldSamples := by
  unfold wX_decodePartitions_144
  rw [nI_add]
  refine xpredict hb ho hot hx ?_
  refine ⟨vp_in_nI hb (by omega), ?_⟩
  rw [nI_clamp (by omega), zi_add, show dI x o t + (x t - dI x o t) = x t from by omega]
  exact nm_e (nm_r (nI_1 t) h)
theorem xdp_in (he : e7 ≤ 256) (hP : PB a_stream s7 e7 P) {J39 : Int32 → Int32 → Int32 → Int32 → Int32 → Int32 → Int32 → Int32 → Int32 → Int32 → Int32 → Int32 → Int32 → Int32 → Int32 → Int32 → Int32 → Int32 → Int32 → Int32 → Int32 → Int32 → Int32 → Int32 → Int32 → Int32 → (Nat → Int32) → (Nat → Int32) → (Nat → Int32) → (Nat → Int32) → (Nat → Int32) → (Nat → Int32) → (Nat → Int32) → (Nat → Int32) → (Nat → Int32) → (Nat → Int32) → (Nat → Int32) → (Nat → Int32) → (Nat → Int32) → Prop} {x4 x5 : Int32} {base o j k : Nat} {rest : List Bool} (hb : base ≤ 16) (ho : o ≤ 4) (hk : k ≤ 14) : ∀ c fuel t e a dc, c < fuel → t + c = e → e ≤ 16 → o ≤ t → P.drop a = eP (fun t => fo (dI x o t)) k t c ++ rest → (∀ i, o ≤ i → i < e → -65536 < dI x o i ∧ dI x o i < 65536) → dcO dc dc0 base t x → (∀ dc', dcO dc' dc0 base e x → J39 (nI (j + 1)) f_blockLimit f_sampleBits f_capacity f_count f_nextFrame f_planned f_bestForm f_length f_frameCount f_writeByte f_writeMask (rdB s7 (a + (eP (fun t => fo (dI x o t)) k t c).length)) (rdM (a + (eP (fun t => fo (dI x o t)) k t c).length)) (nI e7) f_decodedType0 f_decodedType1 f_position f_skipped f_held f_heldNumber f_heldSize f_heldForm f_heldType0 f_heldType1 f_heldMissing a_differences a_bestBits a_bestType a_bestPartition a_bestParameter a_stream a_masks a_owner a_starts a_lengths a_alteredByte dc' a_heldSamples) → wX_decodePartitions_84 post J39 (nI base) (nI o) x4 x5 (nI j) (nI k) (nI e) fuel (nI t) f_blockLimit f_sampleBits f_capacity f_count f_nextFrame f_planned f_bestForm f_length f_frameCount f_writeByte f_writeMask (rdB s7 (a)) (rdM (a)) (nI e7) f_decodedType0 f_decodedType1 f_position f_skipped f_held f_heldNumber f_heldSize f_heldForm f_heldType0 f_heldType1 f_heldMissing a_differences a_bestBits a_bestType a_bestPartition a_bestParameter a_stream a_masks a_owner a_starts a_lengths a_alteredByte dc a_heldSamples := by
  intro c
  induction c with
  | zero =>
    intro fuel t e a dc h1 h2 h3 h4 h5 h6 h7 h
    obtain ⟨fuel, rfl⟩ : ∃ q, fuel = q + 1 := ⟨fuel - 1, by omega⟩
    obtain rfl : t = e := by omega
    exact br_t (nI_le (by omega) (by omega)) (nm_r (nI_1 j) (h dc h7))
  | succ c ih =>
    intro fuel t e a dc h1 h2 h3 h4 h5 h6 h7 h
    obtain ⟨fuel, rfl⟩ : ∃ q, fuel = q + 1 := ⟨fuel - 1, by omega⟩
    refine br_f (nI_ge (by omega) (by omega)) ?_
    have bd := h6 t h4 (by omega)
    have ul := fo_lt bd
    obtain ⟨u, hu⟩ : ∃ u, u = fo (dI x o t) := ⟨_, rfl⟩
    have par := fo_par (z := dI x o t)
    rw [← hu] at ul par
    have dv : u / 2 ^ k ≤ u := Nat.div_le_self _ _
    have e1 : eP (fun t => fo (dI x o t)) k t (c + 1) = eR u k ++ eP (fun t => fo (dI x o t)) k (t + 1) c := by rw [hu]; rfl
    rw [e1] at h5 h
    rw [List.append_assoc] at h5
    have h5' : P.drop a = List.replicate (u / 2 ^ k) false ++ (true :: (bN u k ++ (eP (fun t => fo (dI x o t)) k (t + 1) c ++ rest))) := by
      rw [h5]; unfold eR; rw [List.append_assoc]; rfl
    have d2 : P.drop (a + u / 2 ^ k + 1) = bN u k ++ (eP (fun t => fo (dI x o t)) k (t + 1) c ++ rest) := by
      have g := drop_on (w1 := List.replicate (u / 2 ^ k) false ++ [true]) (w2 := bN u k ++ (eP (fun t => fo (dI x o t)) k (t + 1) c ++ rest)) (P := P) (a := a) (by rw [h5', List.append_assoc]; rfl)
      rw [List.length_append, List.length_replicate] at g
      exact g
    have d3 := drop_on h5
    rw [eR_len] at d3
    refine xrzeros he hP h5' ?_
    refine br_f (zi_m1lt (by omega)) ?_
    refine xrbits he hP (by omega) d2 ?_
    have pk := Nat.two_pow_pos k
    have hm : u % 2 ^ k < 2 ^ k := Nat.mod_lt _ pk
    have hdm : u / 2 ^ k * 2 ^ k + u % 2 ^ k = u := Nat.div_add_mod' u (2 ^ k)
    refine nm_r (e' := nI u) ?_ ?_
    · rw [zi_shlN (by omega) (by omega), zi_orlo hm, hdm]
    · have ha1 : nI u &&& 1 = nI (u % 2) := pk_andN (by omega) 1 (by decide)
      have hs1 : nI u >>> ((1 : Int32) &&& 31) = nI (u / 2) := zi_shrN (k := 1) (by omega) (by omega)
      rw [ha1, hs1]
      have fin : ∀ v, v = iI (dI x o t) → wX_decodePartitions_144 post J39 (wX_decodePartitions_84 post J39 (nI base) (nI o) x4 x5 (nI j) (nI k) (nI e) fuel) (nI base) (nI o) x4 x5 (nI j) (nI k) (nI e) (nI t) v f_blockLimit f_sampleBits f_capacity f_count f_nextFrame f_planned f_bestForm f_length f_frameCount f_writeByte f_writeMask (rdB s7 (a + u / 2 ^ k + 1 + k)) (rdM (a + u / 2 ^ k + 1 + k)) (nI e7) f_decodedType0 f_decodedType1 f_position f_skipped f_held f_heldNumber f_heldSize f_heldForm f_heldType0 f_heldType1 f_heldMissing a_differences a_bestBits a_bestType a_bestPartition a_bestParameter a_stream a_masks a_owner a_starts a_lengths a_alteredByte dc a_heldSamples := by
        intro v hv
        rw [hv]
        refine xdp144 (by omega) ho h4 h7.1 ?_
        rw [show a + u / 2 ^ k + 1 + k = a + (u / 2 ^ k + 1 + k) from by omega]
        refine ih fuel (t + 1) e _ _ (by omega) (by omega) h3 (by omega) d3 h6 (dcO_s h7 (by omega)) (fun dc' g => ?_)
        have hh := h dc' g
        rw [List.length_append, eR_len, ← Nat.add_assoc] at hh
        exact hh
      refine pk_eq (u % 2) 0 (fun c0 => ?_) (fun c0 => ?_)
      · refine fin _ ?_
        rw [← zi_n]; exact congrArg iI (par.1 c0)
      · refine fin _ ?_
        rw [← zi_n, zi_neg]
        show iI _ - iI 1 = _
        rw [zi_sub]; exact congrArg iI (par.2 (by omega))
theorem xdp_out (he : e7 ≤ 256) (hP : PB a_stream s7 e7 P) {base o p n : Nat} {KK : Nat → Nat} {rest : List Bool} (hb : base ≤ 16) (ho : o ≤ 4) (hp : p ≤ 2) (hn : n ≤ 16) (hmod : n % 2 ^ p = 0) (hof : o ≤ n / 2 ^ p) (hK : ∀ j, j < 2 ^ p → KK j ≤ 14) (hbd : ∀ i, o ≤ i → i < n → -65536 < dI x o i ∧ dI x o i < 65536) : ∀ c fuel j a dc, j + c = 2 ^ p → c < fuel → P.drop a = eQ (fun t => fo (dI x o t)) KK n o p j c ++ rest → dcO dc dc0 base (pfr n o p j) x → (∀ dc', dcO dc' dc0 base n x → post 1 (f_blockLimit, f_sampleBits, f_capacity, f_count, f_nextFrame, f_planned, f_bestForm, f_length, f_frameCount, f_writeByte, f_writeMask, rdB s7 (a + (eQ (fun t => fo (dI x o t)) KK n o p j c).length), rdM (a + (eQ (fun t => fo (dI x o t)) KK n o p j c).length), nI e7, f_decodedType0, f_decodedType1, f_position, f_skipped, f_held, f_heldNumber, f_heldSize, f_heldForm, f_heldType0, f_heldType1, f_heldMissing, a_differences, a_bestBits, a_bestType, a_bestPartition, a_bestParameter, a_stream, a_masks, a_owner, a_starts, a_lengths, a_alteredByte, dc', a_heldSamples)) → wX_decodePartitions_39 post (nI base) (nI o) (nI p) (nI (n / 2 ^ p)) fuel (nI j) f_blockLimit f_sampleBits f_capacity f_count f_nextFrame f_planned f_bestForm f_length f_frameCount f_writeByte f_writeMask (rdB s7 (a)) (rdM (a)) (nI e7) f_decodedType0 f_decodedType1 f_position f_skipped f_held f_heldNumber f_heldSize f_heldForm f_heldType0 f_heldType1 f_heldMissing a_differences a_bestBits a_bestType a_bestPartition a_bestParameter a_stream a_masks a_owner a_starts a_lengths a_alteredByte dc a_heldSamples := by
  have p4 := p4 hp
  intro c
  induction c with
  | zero =>
    intro fuel j a dc h1 h2 h3 h4 h
    obtain ⟨fuel, rfl⟩ : ∃ q, fuel = q + 1 := ⟨fuel - 1, by omega⟩
    refine br_t ?_ (h dc ?_)
    · rw [zi_1shl (by omega)]; exact nI_le (by omega) (by omega)
    · have e : pfr n o p j = n := by
        unfold pfr
        rw [if_neg (by omega), show j = 2 ^ p from by omega]
        have := Nat.div_add_mod n (2 ^ p)
        omega
      rw [e] at h4
      exact h4
  | succ c ih =>
    intro fuel j a dc h1 h2 h3 h4 h
    obtain ⟨fuel, rfl⟩ : ∃ q, fuel = q + 1 := ⟨fuel - 1, by omega⟩
    have a1 := pfr_ge (n := n) (p := p) (j := j) hof
    have a2 := pfr_le (n := n) (p := p) (j := j) hof
    have a3 := pto_le (n := n) (p := p) (j := j) (by omega)
    have k14 := hK j (by omega)
    refine br_f ?_ ?_
    · rw [zi_1shl (by omega)]; exact nI_ge (by omega) (by omega)
    simp only [eQ, List.append_assoc] at h3
    refine xrbits (M := 4) he hP (by omega) h3 ?_
    rw [Nat.mod_eq_of_lt (by omega)]
    have d2 := drop_on h3
    rw [bN_len] at d2
    have d3 := drop_on d2
    have inner : wX_decodePartitions_69 post (wX_decodePartitions_39 post (nI base) (nI o) (nI p) (nI (n / 2 ^ p)) fuel) (nI base) (nI o) (nI p) (nI (n / 2 ^ p)) (nI j) (nI (KK j)) (nI (pfr n o p j)) f_blockLimit f_sampleBits f_capacity f_count f_nextFrame f_planned f_bestForm f_length f_frameCount f_writeByte f_writeMask (rdB s7 (a + 4)) (rdM (a + 4)) (nI e7) f_decodedType0 f_decodedType1 f_position f_skipped f_held f_heldNumber f_heldSize f_heldForm f_heldType0 f_heldType1 f_heldMissing a_differences a_bestBits a_bestType a_bestPartition a_bestParameter a_stream a_masks a_owner a_starts a_lengths a_alteredByte dc a_heldSamples := by
      unfold wX_decodePartitions_69
      refine nm_r (e' := nI ((j + 1) * (n / 2 ^ p))) ?_ ?_
      · rw [nI_1, pk_mul]
      · refine ⟨(j + 1) * (n / 2 ^ p) - pfr n o p j + 1, xdp_in he hP hb ho k14 ((j + 1) * (n / 2 ^ p) - pfr n o p j) _ (pfr n o p j) _ _ _ (by omega) (by omega) (by omega) a1 d2 (fun i i1 i2 => hbd i i1 (by omega)) h4 (fun dc' g => ?_)⟩
        refine ih fuel (j + 1) _ _ (by omega) (by omega) d3 ?_ (fun dc'' g2 => ?_)
        · have : pfr n o p (j + 1) = (j + 1) * (n / 2 ^ p) := by unfold pfr; rw [if_neg (by omega)]
          rw [this]; exact g
        · have hh := h dc'' g2
          simp only [eQ, List.length_append, bN_len] at hh
          rw [← Nat.add_assoc, ← Nat.add_assoc] at hh
          exact hh
    refine pk_eq j 0 (fun e => ?_) (fun e => ?_)
    · have : pfr n o p j = o := by unfold pfr; rw [if_pos e]
      rw [this] at inner
      exact inner
    · have : pfr n o p j = j * (n / 2 ^ p) := by unfold pfr; rw [if_neg e]
      rw [this, ← pk_mul] at inner
      exact inner
theorem xdparts (he : e7 ≤ 256) (hP : PB a_stream s7 e7 P) {base o p n a : Nat} {KK : Nat → Nat} {rest : List Bool} (hb : base ≤ 16) (ho : o ≤ 4) (hp : p ≤ 2) (hn : n ≤ 16) (hmod : n % 2 ^ p = 0) (hof : o ≤ n / 2 ^ p) (hK : ∀ j, j < 2 ^ p → KK j ≤ 14) (hbd : ∀ i, o ≤ i → i < n → -65536 < dI x o i ∧ dI x o i < 65536) {dc : Nat → Int32} (hd : P.drop a = bN p 2 ++ (eQ (fun t => fo (dI x o t)) KK n o p 0 (2 ^ p) ++ rest)) (h4 : dcO dc dc0 base o x) (h : ∀ dc', dcO dc' dc0 base n x → post 1 (f_blockLimit, f_sampleBits, f_capacity, f_count, f_nextFrame, f_planned, f_bestForm, f_length, f_frameCount, f_writeByte, f_writeMask, rdB s7 (a + 2 + (eQ (fun t => fo (dI x o t)) KK n o p 0 (2 ^ p)).length), rdM (a + 2 + (eQ (fun t => fo (dI x o t)) KK n o p 0 (2 ^ p)).length), nI e7, f_decodedType0, f_decodedType1, f_position, f_skipped, f_held, f_heldNumber, f_heldSize, f_heldForm, f_heldType0, f_heldType1, f_heldMissing, a_differences, a_bestBits, a_bestType, a_bestPartition, a_bestParameter, a_stream, a_masks, a_owner, a_starts, a_lengths, a_alteredByte, dc', a_heldSamples)) : wpX_decodePartitions post (f_blockLimit, f_sampleBits, f_capacity, f_count, f_nextFrame, f_planned, f_bestForm, f_length, f_frameCount, f_writeByte, f_writeMask, rdB s7 (a), rdM (a), nI e7, f_decodedType0, f_decodedType1, f_position, f_skipped, f_held, f_heldNumber, f_heldSize, f_heldForm, f_heldType0, f_heldType1, f_heldMissing, a_differences, a_bestBits, a_bestType, a_bestPartition, a_bestParameter, a_stream, a_masks, a_owner, a_starts, a_lengths, a_alteredByte, dc, a_heldSamples) (nI base) (nI o) (nI n) := by
  have hdl : n / 2 ^ p ≤ n := Nat.div_le_self _ _
  have hdm := Nat.div_add_mod' n (2 ^ p)
  unfold wpX_decodePartitions
  dsimp only
  refine xrbits (M := 2) he hP (by omega) hd ?_
  rw [Nat.mod_eq_of_lt (by omega)]
  refine nm_r (e' := nI (n / 2 ^ p)) (zi_shrN (by omega) (by omega)) ?_
  refine br_f (nI_nlt (a := 2) (by omega) (by omega)) ?_
  rw [zi_shlN (by omega) (by omega)]
  refine br_t (congrArg nI (by omega)) (br_t (nI_le hof (by omega)) ?_)
  have d2 := drop_on hd
  rw [bN_len] at d2
  exact ⟨2 ^ p + 1, xdp_out he hP hb ho hp hn hmod hof hK hbd (2 ^ p) _ 0 _ _ (by omega) (by omega) d2 h4 h⟩
end
end
section
/-! X: decodeSubframe, decodeFrame, restoreSource, take -/
theorem tb_const {b : Nat} {l r : Nat → Int} {n s p m : Nat} (h : tb b l r n s 0 p = some m) : ∀ t, t < n → sg l r s t = sg l r s 0 := by
  unfold tb at h
  rw [if_pos rfl] at h
  split at h
  · rename_i c; exact c.2
  · cases h
section
variable {f_blockLimit f_sampleBits f_capacity f_count f_nextFrame f_planned f_bestForm f_length f_frameCount f_writeByte f_writeMask f_readByte f_readMask f_readEnd f_decodedType0 f_decodedType1 f_position f_skipped f_held f_heldNumber f_heldSize f_heldForm f_heldType0 f_heldType1 f_heldMissing : Int32}
variable {a_differences a_bestBits a_bestType a_bestPartition a_bestParameter a_stream a_masks a_owner a_starts a_lengths a_alteredByte a_decoded a_heldSamples : Nat → Int32}
variable {post : Int32 → SX → Prop} {s7 e7 : Nat} {P : List Bool} {x : Nat → Int} {dc0 : Nat → Int32}
theorem xds31 {base n : Nat} {v : Int32} {z : Int} (hb : base ≤ 16) (hn : n ≤ 16) (hz : ∀ i, i < n → x i = z) (h : ∀ dc, dcO dc dc0 base n x → post v (f_blockLimit, f_sampleBits, f_capacity, f_count, f_nextFrame, f_planned, f_bestForm, f_length, f_frameCount, f_writeByte, f_writeMask, f_readByte, f_readMask, f_readEnd, f_decodedType0, f_decodedType1, f_position, f_skipped, f_held, f_heldNumber, f_heldSize, f_heldForm, f_heldType0, f_heldType1, f_heldMissing, a_differences, a_bestBits, a_bestType, a_bestPartition, a_bestParameter, a_stream, a_masks, a_owner, a_starts, a_lengths, a_alteredByte, dc, a_heldSamples)) : ∀ d fuel t dc, t + d = n → d < fuel → dcO dc dc0 base t x → wX_decodeSubframe_31 post (nI base) (nI n) v (iI z) f_blockLimit f_sampleBits f_capacity f_count f_nextFrame f_planned f_bestForm f_length f_frameCount f_writeByte f_writeMask f_readByte f_readMask f_readEnd f_decodedType0 f_decodedType1 f_position f_skipped f_held f_heldNumber f_heldSize f_heldForm f_heldType0 f_heldType1 f_heldMissing fuel (nI t) a_differences a_bestBits a_bestType a_bestPartition a_bestParameter a_stream a_masks a_owner a_starts a_lengths a_alteredByte dc a_heldSamples := by
  intro d
  induction d with
  | zero =>
    intro fuel t dc h1 h2 h3
    obtain ⟨fuel, rfl⟩ : ∃ q, fuel = q + 1 := ⟨fuel - 1, by omega⟩
    obtain rfl : t = n := by omega
    exact br_t (nI_le (by omega) (by omega)) (h dc h3)
  | succ d ih =>
    intro fuel t dc h1 h2 h3
    obtain ⟨fuel, rfl⟩ : ∃ q, fuel = q + 1 := ⟨fuel - 1, by omega⟩
    refine br_f (nI_ge (by omega) (by omega)) ?_
    rw [nI_add, nI_clamp (by omega), ← hz t (by omega)]
    refine ⟨vp_in_nI (by omega) (by omega), nm_e (nm_r (nI_1 t) ?_)⟩
    have q := ih fuel (t + 1) _ (by omega) (by omega) (dcO_s h3 (by omega))
    rw [← hz t (by omega)] at q
    exact q
theorem xds66 (he : e7 ≤ 256) (hP : PB a_stream s7 e7 P) {base n w : Nat} {v : Int32} {rest : List Bool} (hb : base ≤ 16) (hn : n ≤ 16) (w1 : 4 ≤ w) (w2 : w ≤ 13) (hx : ∀ t, t < n → -(2 ^ (w - 1)) ≤ x t ∧ x t < 2 ^ (w - 1)) : ∀ c fuel t a dc, t + c = n → c < fuel → P.drop a = eV x w t c ++ rest → dcO dc dc0 base t x → (∀ dc', dcO dc' dc0 base n x → post v (f_blockLimit, f_sampleBits, f_capacity, f_count, f_nextFrame, f_planned, f_bestForm, f_length, f_frameCount, f_writeByte, f_writeMask, rdB s7 (a + c * w), rdM (a + c * w), nI e7, f_decodedType0, f_decodedType1, f_position, f_skipped, f_held, f_heldNumber, f_heldSize, f_heldForm, f_heldType0, f_heldType1, f_heldMissing, a_differences, a_bestBits, a_bestType, a_bestPartition, a_bestParameter, a_stream, a_masks, a_owner, a_starts, a_lengths, a_alteredByte, dc', a_heldSamples)) → wX_decodeSubframe_66 post (nI base) (nI w) (nI n) v fuel (nI t) f_blockLimit f_sampleBits f_capacity f_count f_nextFrame f_planned f_bestForm f_length f_frameCount f_writeByte f_writeMask (rdB s7 (a)) (rdM (a)) (nI e7) f_decodedType0 f_decodedType1 f_position f_skipped f_held f_heldNumber f_heldSize f_heldForm f_heldType0 f_heldType1 f_heldMissing a_differences a_bestBits a_bestType a_bestPartition a_bestParameter a_stream a_masks a_owner a_starts a_lengths a_alteredByte dc a_heldSamples := by
  intro c
  induction c with
  | zero =>
    intro fuel t a dc h1 h2 h3 h4 h
    obtain ⟨fuel, rfl⟩ : ∃ q, fuel = q + 1 := ⟨fuel - 1, by omega⟩
    obtain rfl : t = n := by omega
    rw [Nat.zero_mul] at h
    exact br_t (nI_le (by omega) (by omega)) (h dc h4)
  | succ c ih =>
    intro fuel t a dc h1 h2 h3 h4 h
    obtain ⟨fuel, rfl⟩ : ∃ q, fuel = q + 1 := ⟨fuel - 1, by omega⟩
    refine br_f (nI_ge (by omega) (by omega)) ?_
    simp only [eV, List.append_assoc] at h3
    have d2 := drop_on h3
    rw [bN_len] at d2
    have hb2 := hx t (by omega)
    refine xrsigned he hP w1 w2 hb2.1 hb2.2 h3 ?_
    dsimp only
    rw [nI_add, nI_clamp (by omega)]
    refine ⟨vp_in_nI (by omega) (by omega), nm_e (nm_r (nI_1 t) ?_)⟩
    refine ih fuel (t + 1) _ _ (by omega) (by omega) d2 (dcO_s h4 (by omega)) (fun dc' g => ?_)
    have hh := h dc' g
    rw [Nat.succ_mul, show a + (c * w + w) = a + w + c * w from by omega] at hh
    exact hh
theorem xds112 (he : e7 ≤ 256) (hP : PB a_stream s7 e7 P) {base n w o p ty : Nat} {KK : Nat → Nat} {rest : List Bool} (hb : base ≤ 16) (hn : n ≤ 16) (w1 : 4 ≤ w) (w2 : w ≤ 13) (hx : ∀ t, t < n → -(2 ^ (w - 1)) ≤ x t ∧ x t < 2 ^ (w - 1)) (ho : o ≤ 4) (hp : p ≤ 2) (hmod : n % 2 ^ p = 0) (hof : o ≤ n / 2 ^ p) (hK : ∀ j, j < 2 ^ p → KK j ≤ 14) (hbd : ∀ i, o ≤ i → i < n → -65536 < dI x o i ∧ dI x o i < 65536) : ∀ c fuel t a dc, t + c = o → c < fuel → P.drop a = eV x w t c ++ (bN p 2 ++ (eQ (fun t => fo (dI x o t)) KK n o p 0 (2 ^ p) ++ rest)) → dcO dc dc0 base t x → (∀ dc', dcO dc' dc0 base n x → post (nI ty) (f_blockLimit, f_sampleBits, f_capacity, f_count, f_nextFrame, f_planned, f_bestForm, f_length, f_frameCount, f_writeByte, f_writeMask, rdB s7 (a + c * w + 2 + (eQ (fun t => fo (dI x o t)) KK n o p 0 (2 ^ p)).length), rdM (a + c * w + 2 + (eQ (fun t => fo (dI x o t)) KK n o p 0 (2 ^ p)).length), nI e7, f_decodedType0, f_decodedType1, f_position, f_skipped, f_held, f_heldNumber, f_heldSize, f_heldForm, f_heldType0, f_heldType1, f_heldMissing, a_differences, a_bestBits, a_bestType, a_bestPartition, a_bestParameter, a_stream, a_masks, a_owner, a_starts, a_lengths, a_alteredByte, dc', a_heldSamples)) → wX_decodeSubframe_112 post (nI base) (nI w) (nI n) (nI ty) (nI o) fuel (nI t) f_blockLimit f_sampleBits f_capacity f_count f_nextFrame f_planned f_bestForm f_length f_frameCount f_writeByte f_writeMask (rdB s7 (a)) (rdM (a)) (nI e7) f_decodedType0 f_decodedType1 f_position f_skipped f_held f_heldNumber f_heldSize f_heldForm f_heldType0 f_heldType1 f_heldMissing a_differences a_bestBits a_bestType a_bestPartition a_bestParameter a_stream a_masks a_owner a_starts a_lengths a_alteredByte dc a_heldSamples := by
  have ho2 : o ≤ n := Nat.le_trans hof (Nat.div_le_self _ _)
  intro c
  induction c with
  | zero =>
    intro fuel t a dc h1 h2 h3 h4 h
    obtain ⟨fuel, rfl⟩ : ∃ q, fuel = q + 1 := ⟨fuel - 1, by omega⟩
    obtain rfl : t = o := by omega
    rw [Nat.zero_mul] at h
    simp only [eV, List.nil_append] at h3
    refine br_t (nI_le (by omega) (by omega)) ?_
    exact xdparts he hP hb ho hp hn hmod hof hK hbd h3 h4 (fun dc' g => br_f (by decide) (h dc' g))
  | succ c ih =>
    intro fuel t a dc h1 h2 h3 h4 h
    obtain ⟨fuel, rfl⟩ : ∃ q, fuel = q + 1 := ⟨fuel - 1, by omega⟩
    refine br_f (nI_ge (by omega) (by omega)) ?_
    simp only [eV, List.append_assoc] at h3
    have d2 := drop_on h3
    rw [bN_len] at d2
    have hb2 := hx t (by omega)
    refine xrsigned he hP w1 w2 hb2.1 hb2.2 h3 ?_
    dsimp only
    rw [nI_add, nI_clamp (by omega)]
    refine ⟨vp_in_nI (by omega) (by omega), nm_e (nm_r (nI_1 t) ?_)⟩
    refine ih fuel (t + 1) _ _ (by omega) (by omega) d2 (dcO_s h4 (by omega)) (fun dc' g => ?_)
    have hh := h dc' g
    rw [Nat.succ_mul, show a + (c * w + w) = a + w + c * w from by omega] at hh
    exact hh
theorem xdsub (he : e7 ≤ 256) (hP : PB a_stream s7 e7 P) {base n w ty p a : Nat} {KK : Nat → Nat} {rest : List Bool} (hb : base ≤ 16) (hn0 : 1 ≤ n) (hn : n ≤ 16) (w1 : 4 ≤ w) (w2 : w ≤ 13) (hx : ∀ t, t < n → -(2 ^ (w - 1)) ≤ x t ∧ x t < 2 ^ (w - 1)) (hty : ty ≤ 6) (hp : p ≤ 2) (h0 : ty = 0 → ∀ t, t < n → x t = x 0) (h2 : 2 ≤ ty → n % 2 ^ p = 0 ∧ ty - 2 ≤ n / 2 ^ p) (hK : ∀ j, KK j ≤ 14) (hbd : ∀ o i, o ≤ 4 → o ≤ i → i < n → -65536 < dI x o i ∧ dI x o i < 65536) (hd : P.drop a = eS x w n ty p KK ++ rest) (h : ∀ dc, dcO dc a_decoded base n x → post (nI ty) (f_blockLimit, f_sampleBits, f_capacity, f_count, f_nextFrame, f_planned, f_bestForm, f_length, f_frameCount, f_writeByte, f_writeMask, rdB s7 (a + (eS x w n ty p KK).length), rdM (a + (eS x w n ty p KK).length), nI e7, f_decodedType0, f_decodedType1, f_position, f_skipped, f_held, f_heldNumber, f_heldSize, f_heldForm, f_heldType0, f_heldType1, f_heldMissing, a_differences, a_bestBits, a_bestType, a_bestPartition, a_bestParameter, a_stream, a_masks, a_owner, a_starts, a_lengths, a_alteredByte, dc, a_heldSamples)) : wpX_decodeSubframe post (f_blockLimit, f_sampleBits, f_capacity, f_count, f_nextFrame, f_planned, f_bestForm, f_length, f_frameCount, f_writeByte, f_writeMask, rdB s7 (a), rdM (a), nI e7, f_decodedType0, f_decodedType1, f_position, f_skipped, f_held, f_heldNumber, f_heldSize, f_heldForm, f_heldType0, f_heldType1, f_heldMissing, a_differences, a_bestBits, a_bestType, a_bestPartition, a_bestParameter, a_stream, a_masks, a_owner, a_starts, a_lengths, a_alteredByte, a_decoded, a_heldSamples) (nI base) (nI w) (nI n) := by
  have dc00 : dcO a_decoded a_decoded base 0 x := ⟨fun i hi => by omega, fun i _ => rfl⟩
  unfold wpX_decodeSubframe
  dsimp only
  unfold eS at hd h
  rw [List.append_assoc] at hd
  rw [List.length_append, bN_len] at h
  have d2 := drop_on hd
  rw [bN_len] at d2
  refine xrbits (M := 3) he hP (by omega) hd ?_
  rw [Nat.mod_eq_of_lt (by omega)]
  refine br_t (nI_le (b := 6) (by omega) (by omega)) ?_
  refine pk_eq ty 0 (fun e => ?_) (fun e => ?_)
  · rw [if_pos e] at h d2
    rw [bN_len] at h
    have hb2 := hx 0 (by omega)
    refine xrsigned he hP w1 w2 hb2.1 hb2.2 d2 ?_
    refine ⟨n + 1, xds31 hb hn (h0 e) (fun dc g => ?_) n _ 0 _ (by omega) (by omega) dc00⟩
    have hh := h dc g
    rw [← Nat.add_assoc] at hh
    exact hh
  · rw [if_neg e] at h d2
    refine pk_eq ty 1 (fun e1 => ?_) (fun e1 => ?_)
    · rw [if_pos e1] at h d2
      rw [eV_len, ← Nat.add_assoc] at h
      exact ⟨n + 1, xds66 he hP hb hn w1 w2 hx n _ 0 _ _ (by omega) (by omega) d2 dc00 h⟩
    · rw [if_neg e1] at h d2
      obtain ⟨hmod, hof⟩ := h2 (by omega)
      have hdl : n / 2 ^ p ≤ n := Nat.div_le_self _ _
      unfold eF at h d2
      rw [List.append_assoc, List.append_assoc] at d2
      rw [List.length_append, List.length_append, eV_len, bN_len, ← Nat.add_assoc, ← Nat.add_assoc, ← Nat.add_assoc] at h
      refine nm_r (e' := nI (ty - 2)) (pk_sub (b := 2) (by omega)) ?_
      refine br_t (nI_le (by omega) (by omega)) ?_
      exact ⟨ty - 2 + 1, xds112 he hP hb hn w1 w2 hx (by omega) hp hmod hof (fun j _ => hK j) (fun i => hbd (ty - 2) i (by omega)) (ty - 2) _ 0 _ _ (by omega) (by omega) d2 dc00 h⟩
variable {b n : Nat} {l r : Nat → Int}
theorem xdsubP (he : e7 ≤ 256) (hP : PB a_stream s7 e7 P) {base s a : Nat} {rest : List Bool} (h1 : 4 ≤ b) (h2 : b ≤ 12) (hr : rng b l r n) (hn0 : 1 ≤ n) (hn : n ≤ 16) (hb : base ≤ 16) (hs : s < 4) (hd : P.drop a = enS b l r n s ++ rest) (h : ∀ dc, dcO dc a_decoded base n (sg l r s) → post (nI (bT b l r n s)) (f_blockLimit, f_sampleBits, f_capacity, f_count, f_nextFrame, f_planned, f_bestForm, f_length, f_frameCount, f_writeByte, f_writeMask, rdB s7 (a + (enS b l r n s).length), rdM (a + (enS b l r n s).length), nI e7, f_decodedType0, f_decodedType1, f_position, f_skipped, f_held, f_heldNumber, f_heldSize, f_heldForm, f_heldType0, f_heldType1, f_heldMissing, a_differences, a_bestBits, a_bestType, a_bestPartition, a_bestParameter, a_stream, a_masks, a_owner, a_starts, a_lengths, a_alteredByte, dc, a_heldSamples)) : wpX_decodeSubframe post (f_blockLimit, f_sampleBits, f_capacity, f_count, f_nextFrame, f_planned, f_bestForm, f_length, f_frameCount, f_writeByte, f_writeMask, rdB s7 (a), rdM (a), nI e7, f_decodedType0, f_decodedType1, f_position, f_skipped, f_held, f_heldNumber, f_heldSize, f_heldForm, f_heldType0, f_heldType1, f_heldMissing, a_differences, a_bestBits, a_bestType, a_bestPartition, a_bestParameter, a_stream, a_masks, a_owner, a_starts, a_lengths, a_alteredByte, a_decoded, a_heldSamples) (nI base) (nI (wd b s)) (nI n) := by
  obtain ⟨_, e, t6, p2, _⟩ := bco_sc b l r n s
  have w := wd_bd h1 h2 s
  exact xdsub he hP hb hn0 hn w.1 w.2 (rng_w h1 h2 hr hs) t6 p2 (fun t0 => tb_const (by rw [t0] at e; exact e)) (fun t2 => tb_off e t2) (fun j => kk_le) (fun o i ho hi hin => dI_bd4 (rng_sg h1 h2 hr s) ho hi hin) hd h
theorem xdframe {S z form : Nat} (h1 : 4 ≤ b) (h2 : b ≤ 12) (hr : rng b l r n) (hn0 : 1 ≤ n) (hn : n ≤ 16) (hf : form ≤ 3) (hz : 12 ≤ z) (hS : S + z ≤ 256) (q4 : a_stream (S + 4) = nI (form * 16 + (n - 1))) (q3 : a_stream (S + 3) = nI z) (hP : PB a_stream (S + 7) (S + (z - 3)) (enF b l r n form)) (h : ∀ dc rb rm, (∀ t, t < n → dc t = iI (sg l r (sgO form 0) t)) → (∀ t, t < n → dc (16 + t) = iI (sg l r (sgO form 1) t)) → post 1 (f_blockLimit, nI b, f_capacity, f_count, f_nextFrame, f_planned, f_bestForm, f_length, f_frameCount, f_writeByte, f_writeMask, rb, rm, nI (S + (z - 3)), nI (bT b l r n (sgO form 0)), nI (bT b l r n (sgO form 1)), f_position, f_skipped, f_held, f_heldNumber, f_heldSize, f_heldForm, f_heldType0, f_heldType1, f_heldMissing, a_differences, a_bestBits, a_bestType, a_bestPartition, a_bestParameter, a_stream, a_masks, a_owner, a_starts, a_lengths, a_alteredByte, dc, a_heldSamples)) : wpX_decodeFrame post (f_blockLimit, nI b, f_capacity, f_count, f_nextFrame, f_planned, f_bestForm, f_length, f_frameCount, f_writeByte, f_writeMask, f_readByte, f_readMask, f_readEnd, f_decodedType0, f_decodedType1, f_position, f_skipped, f_held, f_heldNumber, f_heldSize, f_heldForm, f_heldType0, f_heldType1, f_heldMissing, a_differences, a_bestBits, a_bestType, a_bestPartition, a_bestParameter, a_stream, a_masks, a_owner, a_starts, a_lengths, a_alteredByte, a_decoded, a_heldSamples) (nI S) := by
  have i4 : nI S + 4 = nI (S + 4) := nI_add S 4
  have i3 : nI S + 3 = nI (S + 3) := nI_add S 3
  have t0 := (bco_sc b l r n (sgO form 0)).2.2.1
  have t1 := (bco_sc b l r n (sgO form 1)).2.2.1
  unfold wpX_decodeFrame
  dsimp only
  rw [i4, i3, nI_clamp (by omega), nI_clamp (by omega), q4, q3]
  refine ⟨vp_in_nI (by omega) (by omega), nm_e (nm_r (e' := nI form) ?_ (nm_r (e' := nI n) ?_ ?_))⟩
  · have := zi_shrN (n := form * 16 + (n - 1)) (k := 4) (by omega) (by omega)
    refine Eq.trans this (congrArg nI ?_)
    show (form * 16 + (n - 1)) / 16 = form
    omega
  · have : nI (form * 16 + (n - 1)) &&& 15 = nI ((form * 16 + (n - 1)) % 2 ^ 4) := pk_andN (by omega) 4 (by decide)
    rw [this, nI_1]
    refine congrArg nI ?_
    show (form * 16 + (n - 1)) % 16 + 1 = n
    omega
  · refine br_t (nI_le (b := 3) hf (by omega)) (nm_r (e' := nI (S + 7)) (nI_add S 7) ⟨vp_in_nI (by omega) (by omega), nm_r (e' := nI (S + (z - 3))) ?_ ?_⟩)
    · rw [nI_add]
      show nI (S + z) - nI 3 = _
      rw [pk_sub (by omega)]; exact congrArg nI (by omega)
    · refine xchan (c := 0) (by omega) (by omega) ?_
      refine xchan (c := 1) (by omega) (by omega) ?_
      refine xwidth (sgO_lt _ _) ?_
      refine xwidth (sgO_lt _ _) ?_
      have d0 : (enF b l r n form).drop 0 = enS b l r n (sgO form 0) ++ (enS b l r n (sgO form 1) ++ []) := by
        rw [List.append_nil]; rfl
      have d1 := drop_on d0
      refine xdsubP (a := 0) (s7 := S + 7) (base := 0) (by omega) hP h1 h2 hr hn0 hn (by omega) (sgO_lt _ _) d0 (fun dc g => ?_)
      refine br_f (zi_m1lt (by omega)) ?_
      refine xdsubP (s7 := S + 7) (base := 16) (by omega) hP h1 h2 hr hn0 hn (by omega) (sgO_lt _ _) d1 (fun dc' g' => ?_)
      refine br_f (zi_m1lt (by omega)) ?_
      refine h dc' _ _ (fun t ht => ?_) (fun t ht => g'.1 t ht)
      rw [g'.2 t (by omega)]
      have := g.1 t ht
      rw [Nat.zero_add] at this
      exact this
end
section
variable {f_blockLimit f_sampleBits f_capacity f_count f_nextFrame f_planned f_bestForm f_length f_frameCount f_writeByte f_writeMask f_readByte f_readMask f_readEnd f_decodedType0 f_decodedType1 f_position f_skipped f_held f_heldNumber f_heldSize f_heldForm f_heldType0 f_heldType1 f_heldMissing : Int32}
variable {a_differences a_bestBits a_bestType a_bestPartition a_bestParameter a_stream a_masks a_owner a_starts a_lengths a_alteredByte a_decoded a_heldSamples : Nat → Int32}
variable {b n : Nat} {l r : Nat → Int}
def hsO (hs : Nat → Int32) (l r : Nat → Int) (m : Nat) : Prop := ∀ t, t < m → hs t = iI (l t) ∧ hs (16 + t) = iI (r t)
theorem hsO_s {hs : Nat → Int32} {m : Nat} (h : hsO hs l r m) (hm : m < 16) : hsO (upd (upd hs m (iI (l m))) (16 + m) (iI (r m))) l r (m + 1) := by
  intro t ht
  by_cases e : t = m
  · rw [e, pk_un (by omega), pk_us, pk_us]; exact ⟨rfl, rfl⟩
  · rw [pk_un (by omega), pk_un (by omega), pk_un (by omega), pk_un (by omega)]; exact h t (by omega)
theorem xrs98 {post : SX → Prop} {J2 : Int32 → (Nat → Int32) → (Nat → Int32) → (Nat → Int32) → (Nat → Int32) → (Nat → Int32) → (Nat → Int32) → (Nat → Int32) → (Nat → Int32) → (Nat → Int32) → (Nat → Int32) → (Nat → Int32) → (Nat → Int32) → (Nat → Int32) → Prop} {t : Nat} {v w : Int32} (ht : t < 16) (h : J2 (nI (t + 1)) a_differences a_bestBits a_bestType a_bestPartition a_bestParameter a_stream a_masks a_owner a_starts a_lengths a_alteredByte a_decoded (upd (upd a_heldSamples t v) (16 + t) w)) : wX_restoreSource_98 post J2 (nI t) v w f_blockLimit f_sampleBits f_capacity f_count f_nextFrame f_planned f_bestForm f_length f_frameCount f_writeByte f_writeMask f_readByte f_readMask f_readEnd f_decodedType0 f_decodedType1 f_position f_skipped f_held f_heldNumber f_heldSize f_heldForm f_heldType0 f_heldType1 f_heldMissing a_differences a_bestBits a_bestType a_bestPartition a_bestParameter a_stream a_masks a_owner a_starts a_lengths a_alteredByte a_decoded a_heldSamples := by
  have e : (16 : Int32) + nI t = nI (16 + t) := nI_add 16 t
  unfold wX_restoreSource_98
  rw [e, nI_clamp (by omega), nI_clamp (by omega)]
  exact ⟨vp_in_nI (by omega) (by omega), nm_e ⟨vp_in_nI (by omega) (by omega), nm_e (nm_r (nI_1 t) h)⟩⟩
theorem xrs_loop {post : SX → Prop} {form : Nat} (h1 : 4 ≤ b) (h2 : b ≤ 12) (hr : rng b l r n) (hn : n ≤ 16) (hf : form ≤ 3) (g0 : ∀ t, t < n → a_decoded t = iI (sg l r (sgO form 0) t)) (g1 : ∀ t, t < n → a_decoded (16 + t) = iI (sg l r (sgO form 1) t)) (h : ∀ hs, hsO hs l r n → post (f_blockLimit, f_sampleBits, f_capacity, f_count, f_nextFrame, f_planned, f_bestForm, f_length, f_frameCount, f_writeByte, f_writeMask, f_readByte, f_readMask, f_readEnd, f_decodedType0, f_decodedType1, f_position, f_skipped, f_held, f_heldNumber, nI n, nI form, f_heldType0, f_heldType1, f_heldMissing, a_differences, a_bestBits, a_bestType, a_bestPartition, a_bestParameter, a_stream, a_masks, a_owner, a_starts, a_lengths, a_alteredByte, a_decoded, hs)) : ∀ d fuel t hs, t + d = n → d < fuel → hsO hs l r t → wX_restoreSource_2 post f_blockLimit f_sampleBits f_capacity f_count f_nextFrame f_planned f_bestForm f_length f_frameCount f_writeByte f_writeMask f_readByte f_readMask f_readEnd f_decodedType0 f_decodedType1 f_position f_skipped f_held f_heldNumber (nI n) (nI form) f_heldType0 f_heldType1 f_heldMissing fuel (nI t) a_differences a_bestBits a_bestType a_bestPartition a_bestParameter a_stream a_masks a_owner a_starts a_lengths a_alteredByte a_decoded hs := by
  intro d
  induction d with
  | zero =>
    intro fuel t hs a1 a2 a3
    obtain ⟨fuel, rfl⟩ : ∃ q, fuel = q + 1 := ⟨fuel - 1, by omega⟩
    obtain rfl : t = n := by omega
    exact br_t (nI_le (by omega) (by omega)) (h hs a3)
  | succ d ih =>
    intro fuel t hs a1 a2 a3
    obtain ⟨fuel, rfl⟩ : ∃ q, fuel = q + 1 := ⟨fuel - 1, by omega⟩
    have e : (16 : Int32) + nI t = nI (16 + t) := nI_add 16 t
    have bd := hr t (by omega)
    have pw := rng_pw h1 h2
    have fin : ∀ v w, v = iI (l t) → w = iI (r t) → wX_restoreSource_98 post (wX_restoreSource_2 post f_blockLimit f_sampleBits f_capacity f_count f_nextFrame f_planned f_bestForm f_length f_frameCount f_writeByte f_writeMask f_readByte f_readMask f_readEnd f_decodedType0 f_decodedType1 f_position f_skipped f_held f_heldNumber (nI n) (nI form) f_heldType0 f_heldType1 f_heldMissing fuel) (nI t) v w f_blockLimit f_sampleBits f_capacity f_count f_nextFrame f_planned f_bestForm f_length f_frameCount f_writeByte f_writeMask f_readByte f_readMask f_readEnd f_decodedType0 f_decodedType1 f_position f_skipped f_held f_heldNumber (nI n) (nI form) f_heldType0 f_heldType1 f_heldMissing a_differences a_bestBits a_bestType a_bestPartition a_bestParameter a_stream a_masks a_owner a_starts a_lengths a_alteredByte a_decoded hs := by
      intro v w hv hw
      rw [hv, hw]
      exact xrs98 (by omega) (ih fuel (t + 1) _ (by omega) (by omega) (hsO_s a3 (by omega)))
    refine br_f (nI_ge (by omega) (by omega)) ?_
    rw [e, nI_clamp (by omega), nI_clamp (by omega), g0 t (by omega), g1 t (by omega)]
    refine ⟨vp_in_nI (by omega) (by omega), nm_e ⟨vp_in_nI (by omega) (by omega), nm_e ?_⟩⟩
    refine pk_eq form 1 (fun e1 => ?_) (fun e1 => ?_)
    · subst e1
      refine nm_e (fin _ _ rfl ?_)
      rw [zi_sub]
      exact congrArg iI (by show l t - (l t - r t) = r t; omega)
    refine pk_eq form 2 (fun e2 => ?_) (fun e2 => ?_)
    · subst e2
      refine nm_e (fin _ _ ?_ rfl)
      rw [zi_add]
      exact congrArg iI (by show (l t - r t) + r t = l t; omega)
    refine pk_eq form 3 (fun e3 => ?_) (fun e3 => ?_)
    · subst e3
      have s0 : sg l r (sgO 3 0) t = (l t + r t) / 2 := rfl
      have s1 : sg l r (sgO 3 1) t = l t - r t := rfl
      rw [s0, s1]
      refine nm_r (e' := iI (l t + r t)) ?_ ?_
      · rw [zi_and1]
        show iI 2 * iI _ + iI _ = _
        rw [zi_mul, zi_add]
        exact congrArg iI (by omega)
      · refine nm_e (nm_e (fin _ _ ?_ ?_))
        · rw [zi_add]
          refine Eq.trans (zi_shr (k := 1) (by omega) (by omega) (by omega)) (congrArg iI ?_)
          show (l t + r t + (l t - r t)) / 2 = l t
          omega
        · rw [zi_sub]
          refine Eq.trans (zi_shr (k := 1) (by omega) (by omega) (by omega)) (congrArg iI ?_)
          show (l t + r t - (l t - r t)) / 2 = r t
          omega
    · obtain rfl : form = 0 := by omega
      exact fin _ _ rfl rfl
theorem xtake {post : Int32 → SX → Prop} {S z form num pos : Nat} (h1 : 4 ≤ b) (h2 : b ≤ 12) (hr : rng b l r n) (hn0 : 1 ≤ n) (hn : n ≤ 16) (hf : form ≤ 3) (hz : 12 ≤ z) (hS : S + z ≤ 256) (q2 : a_stream (S + 2) = nI num) (q4 : a_stream (S + 4) = nI (form * 16 + (n - 1))) (q3 : a_stream (S + 3) = nI z) (g0 : ∀ t, t < n → a_decoded t = iI (sg l r (sgO form 0) t)) (g1 : ∀ t, t < n → a_decoded (16 + t) = iI (sg l r (sgO form 1) t)) (hp : pos ≤ S) (h : ∀ hs, hsO hs l r n → post (nI num) (f_blockLimit, f_sampleBits, f_capacity, f_count, f_nextFrame, f_planned, f_bestForm, f_length, f_frameCount, f_writeByte, f_writeMask, f_readByte, f_readMask, f_readEnd, f_decodedType0, f_decodedType1, nI (S + z), nI (S - pos), 1, nI num, nI n, nI form, f_decodedType0, f_decodedType1, if f_held = 0 then 0 else ((nI num - f_heldNumber) - 1) &&& 127, a_differences, a_bestBits, a_bestType, a_bestPartition, a_bestParameter, a_stream, a_masks, a_owner, a_starts, a_lengths, a_alteredByte, a_decoded, hs)) : wpX_take post (f_blockLimit, f_sampleBits, f_capacity, f_count, f_nextFrame, f_planned, f_bestForm, f_length, f_frameCount, f_writeByte, f_writeMask, f_readByte, f_readMask, f_readEnd, f_decodedType0, f_decodedType1, nI pos, f_skipped, f_held, f_heldNumber, f_heldSize, f_heldForm, f_heldType0, f_heldType1, f_heldMissing, a_differences, a_bestBits, a_bestType, a_bestPartition, a_bestParameter, a_stream, a_masks, a_owner, a_starts, a_lengths, a_alteredByte, a_decoded, a_heldSamples) (nI S) := by
  have i2 : nI S + 2 = nI (S + 2) := nI_add S 2
  have i3 : nI S + 3 = nI (S + 3) := nI_add S 3
  have i4 : nI S + 4 = nI (S + 4) := nI_add S 4
  have fin : ∀ v, v = (if f_held = 0 then 0 else ((nI num - f_heldNumber) - 1) &&& 127) → wX_take_41 post (nI S) (nI num) (nI (form * 16 + (n - 1))) v f_blockLimit f_sampleBits f_capacity f_count f_nextFrame f_planned f_bestForm f_length f_frameCount f_writeByte f_writeMask f_readByte f_readMask f_readEnd f_decodedType0 f_decodedType1 (nI pos) f_skipped f_held f_heldNumber f_heldSize f_heldForm f_heldType0 f_heldType1 f_heldMissing a_differences a_bestBits a_bestType a_bestPartition a_bestParameter a_stream a_masks a_owner a_starts a_lengths a_alteredByte a_decoded a_heldSamples := by
    intro v hv
    unfold wX_take_41
    refine nm_r (e' := nI n) ?_ (nm_r (e' := nI form) ?_ ?_)
    · have : nI (form * 16 + (n - 1)) &&& 15 = nI ((form * 16 + (n - 1)) % 2 ^ 4) := pk_andN (by omega) 4 (by decide)
      rw [this, nI_1]
      refine congrArg nI ?_
      show (form * 16 + (n - 1)) % 16 + 1 = n
      omega
    · have := zi_shrN (n := form * 16 + (n - 1)) (k := 4) (by omega) (by omega)
      refine Eq.trans this (congrArg nI ?_)
      show (form * 16 + (n - 1)) / 16 = form
      omega
    · unfold wpX_restoreSource
      dsimp only
      refine ⟨n + 1, xrs_loop h1 h2 hr hn hf g0 g1 (fun hs g => ?_) n _ 0 _ (by omega) (by omega) (fun t ht => by omega)⟩
      dsimp only
      rw [i3, nI_clamp (by omega), q3, nI_add, pk_sub hp]
      rw [hv]
      exact nm_e ⟨vp_in_nI (by omega) (by omega), nm_e (h hs g)⟩
  unfold wpX_take
  dsimp only
  rw [i2, i4, nI_clamp (by omega), nI_clamp (by omega), q2, q4]
  refine ⟨vp_in_nI (by omega) (by omega), nm_e ⟨vp_in_nI (by omega) (by omega), nm_e ?_⟩⟩
  refine br_c (fun c => fin _ ?_) (fun c => fin _ ?_)
  · rw [if_pos c]
  · rw [if_neg c]
end
end
section
/-! X: isFrame -/
section
variable {f_blockLimit f_sampleBits f_capacity f_count f_nextFrame f_planned f_bestForm f_length f_frameCount f_writeByte f_writeMask f_readByte f_readMask f_readEnd f_decodedType0 f_decodedType1 f_position f_skipped f_held f_heldNumber f_heldSize f_heldForm f_heldType0 f_heldType1 f_heldMissing : Int32}
variable {a_differences a_bestBits a_bestType a_bestPartition a_bestParameter a_stream a_masks a_owner a_starts a_lengths a_alteredByte a_decoded a_heldSamples : Nat → Int32}
variable {post : Int32 → Prop} {B : Nat → Nat} {L : Nat}
theorem xlow_loop (hB : ∀ i, i < L → a_stream i = nI (B i) ∧ B i < 256) (hL : L ≤ 256) {e : Nat} (he : e ≤ L) : ∀ d fuel a, a + d = e → d < fuel → ((∀ i, a ≤ i → i < e → B i < 128) → post 1) → (∀ i, a ≤ i → i < e → ¬ B i < 128 → post 0) → wX_allLow_2 post (nI e) f_blockLimit f_sampleBits f_capacity f_count f_nextFrame f_planned f_bestForm f_length f_frameCount f_writeByte f_writeMask f_readByte f_readMask f_readEnd f_decodedType0 f_decodedType1 f_position f_skipped f_held f_heldNumber f_heldSize f_heldForm f_heldType0 f_heldType1 f_heldMissing a_differences a_bestBits a_bestType a_bestPartition a_bestParameter a_stream a_masks a_owner a_starts a_lengths a_alteredByte a_decoded a_heldSamples fuel (nI a) := by
  intro d
  induction d with
  | zero =>
    intro fuel a h1 h2 h3 h4
    obtain ⟨fuel, rfl⟩ : ∃ q, fuel = q + 1 := ⟨fuel - 1, by omega⟩
    exact br_t (nI_le (by omega) (by omega)) (h3 (fun i i1 i2 => by omega))
  | succ d ih =>
    intro fuel a h1 h2 h3 h4
    obtain ⟨fuel, rfl⟩ : ∃ q, fuel = q + 1 := ⟨fuel - 1, by omega⟩
    obtain ⟨b1, b2⟩ := hB a (by omega)
    refine br_f (nI_ge (by omega) (by omega)) ⟨vp_in_nI (by omega) (by omega), ?_⟩
    rw [nI_clamp (by omega), b1]
    refine pk_lt (B a) 128 (fun c => ?_) (fun c => ?_)
    · refine nm_r (nI_1 a) (ih fuel (a + 1) (by omega) (by omega) (fun g => h3 (fun i i1 i2 => ?_)) (fun i i1 i2 g => h4 i (by omega) i2 g))
      by_cases x : i = a
      · rw [x]; exact c
      · exact g i (by omega) i2
    · exact h4 a (by omega) (by omega) (by omega)
theorem xlow (hB : ∀ i, i < L → a_stream i = nI (B i) ∧ B i < 256) (hL : L ≤ 256) {a e : Nat} (he : e ≤ L) (hae : a ≤ e) (h1 : (∀ i, a ≤ i → i < e → B i < 128) → post 1) (h0 : ∀ i, a ≤ i → i < e → ¬ B i < 128 → post 0) : wpX_allLow post (f_blockLimit, f_sampleBits, f_capacity, f_count, f_nextFrame, f_planned, f_bestForm, f_length, f_frameCount, f_writeByte, f_writeMask, f_readByte, f_readMask, f_readEnd, f_decodedType0, f_decodedType1, f_position, f_skipped, f_held, f_heldNumber, f_heldSize, f_heldForm, f_heldType0, f_heldType1, f_heldMissing, a_differences, a_bestBits, a_bestType, a_bestPartition, a_bestParameter, a_stream, a_masks, a_owner, a_starts, a_lengths, a_alteredByte, a_decoded, a_heldSamples) (nI a) (nI e) := by
  unfold wpX_allLow
  dsimp only
  exact ⟨e - a + 1, xlow_loop hB hL he (e - a) _ a (by omega) (by omega) h1 h0⟩
theorem or7 {x y : Nat} (hx : x < 256) (hy : y < 128) : (nI x <<< ((7 : Int32) &&& 31)) ||| nI y = nI (x * 128 + y) := by
  have e : nI x <<< ((7 : Int32) &&& 31) = nI (x * 2 ^ 7) := zi_shlN (k := 7) (by omega) (by omega)
  rw [e, zi_orlo (k := 7) hy]
theorem or14 {x y z : Nat} (hx : x < 128) (hy : y < 128) (hz : z < 128) : ((nI x <<< ((14 : Int32) &&& 31)) ||| (nI y <<< ((7 : Int32) &&& 31))) ||| nI z = nI (x * 16384 + y * 128 + z) := by
  have e1 : nI x <<< ((14 : Int32) &&& 31) = nI (x * 2 ^ 14) := zi_shlN (k := 14) (by omega) (by omega)
  have e2 : nI y <<< ((7 : Int32) &&& 31) = nI (y * 2 ^ 7) := zi_shlN (k := 7) (by omega) (by omega)
  rw [e1, e2, zi_orlo (k := 14) (by omega)]
  have e3 : x * 2 ^ 14 + y * 2 ^ 7 = (x * 128 + y) * 2 ^ 7 := by omega
  rw [e3, zi_orlo (k := 7) hz]
theorem xisframe (hB : ∀ i, i < L → a_stream i = nI (B i) ∧ B i < 256) (hL : L ≤ 256) {k : Nat} (hk : k < L) (h1 : isF B L k → post 1) (h0 : ¬ isF B L k → post 0) : wpX_isFrame post (f_blockLimit, f_sampleBits, f_capacity, f_count, f_nextFrame, f_planned, f_bestForm, nI L, f_frameCount, f_writeByte, f_writeMask, f_readByte, f_readMask, f_readEnd, f_decodedType0, f_decodedType1, f_position, f_skipped, f_held, f_heldNumber, f_heldSize, f_heldForm, f_heldType0, f_heldType1, f_heldMissing, a_differences, a_bestBits, a_bestType, a_bestPartition, a_bestParameter, a_stream, a_masks, a_owner, a_starts, a_lengths, a_alteredByte, a_decoded, a_heldSamples) (nI k) := by
  have i1 : nI k + 1 = nI (k + 1) := nI_1 k
  have i2 : nI k + 2 = nI (k + 2) := nI_add k 2
  have i3 : nI k + 3 = nI (k + 3) := nI_add k 3
  have i5 : nI k + 5 = nI (k + 5) := nI_add k 5
  have i6 : nI k + 6 = nI (k + 6) := nI_add k 6
  have i7 : nI k + 7 = nI (k + 7) := nI_add k 7
  unfold wpX_isFrame
  dsimp only
  rw [pk_sub (show k ≤ L from by omega), i1, i2, i3, i5, i6, i7]
  refine pk_lt (L - k) 11 (fun c => h0 (fun I => by have := I.1; omega)) (fun c11 => ?_)
  rw [nI_clamp (n := k) (by omega), nI_clamp (n := k + 1) (by omega), nI_clamp (n := k + 3) (by omega), nI_clamp (n := k + 5) (by omega), nI_clamp (n := k + 6) (by omega)]
  obtain ⟨b0, l0⟩ := hB k (by omega)
  obtain ⟨b1, l1⟩ := hB (k + 1) (by omega)
  obtain ⟨b3, l3⟩ := hB (k + 3) (by omega)
  obtain ⟨b5, l5⟩ := hB (k + 5) (by omega)
  obtain ⟨b6, l6⟩ := hB (k + 6) (by omega)
  rw [b0, b1, b3, b5, b6]
  refine ⟨vp_in_nI (by omega) (by omega), ?_⟩
  refine pk_eq (B k) 255 (fun c0 => ?_) (fun c => h0 (fun I => c I.2.1))
  refine ⟨vp_in_nI (by omega) (by omega), ?_⟩
  refine pk_eq (B (k + 1)) 248 (fun c1 => ?_) (fun c => h0 (fun I => c I.2.2.1))
  refine xlow hB hL (by omega) (by omega) (fun low => ?_) (fun i j1 j2 nl => br_t rfl (h0 (fun I => nl ?_)))
  rotate_left
  · have := I.2.2.2.1 (i - k) (by omega) (by omega)
    rw [show k + (i - k) = i from by omega] at this
    exact this
  refine br_f (by decide) ?_
  refine xcrc8 (B := B) (by omega) (fun i j1 j2 => hB i (by omega)) ?_
  refine ⟨vp_in_nI (by omega) (by omega), vp_in_nI (by omega) (by omega), ?_⟩
  have m5 := low (k + 5) (by omega) (by omega)
  have m6 := low (k + 6) (by omega) (by omega)
  rw [or7 l5 m6]
  have c8l : c8 B k 5 < 256 := c8_lt (fun i hi => (hB (k + i) (by omega)).2)
  refine pk_eq (B (k + 5) * 128 + B (k + 6)) (c8 B k 5) (fun cc => ?_) (fun c => h0 (fun I => c I.2.2.2.2.1))
  refine ⟨vp_in_nI (by omega) (by omega), nm_e ?_⟩
  refine pk_lt (B (k + 3)) 11 (fun c => h0 (fun I => by have := I.2.2.2.2.2.1; omega)) (fun c3 => ?_)
  refine pk_le (B (k + 3)) (L - k) (fun cl => ?_) (fun c => h0 (fun I => by have := I.2.2.2.2.2.2.1; omega))
  rw [nI_add]
  refine xlow hB hL (by omega) (by omega) (fun low2 => ?_) (fun i j1 j2 nl => br_t rfl (h0 (fun I => nl ?_)))
  rotate_left
  · have := I.2.2.2.2.2.2.2.1 (i - k) (by omega) (by omega)
    rw [show k + (i - k) = i from by omega] at this
    exact this
  refine br_f (by decide) ?_
  refine nm_r (e' := nI (k + (B (k + 3) - 3))) ?_ ?_
  · show nI (k + B (k + 3)) - nI 3 = _
    rw [pk_sub (by omega)]; exact congrArg nI (by omega)
  refine xcrc16 (B := B) (by omega) (fun i j1 j2 => hB i (by omega)) ?_
  have t1 : nI (k + (B (k + 3) - 3)) + 1 = nI (k + (B (k + 3) - 3) + 1) := nI_1 _
  have t2 : nI (k + (B (k + 3) - 3)) + 2 = nI (k + (B (k + 3) - 3) + 2) := nI_add _ 2
  rw [t1, t2, nI_clamp (by omega), nI_clamp (by omega), nI_clamp (by omega)]
  obtain ⟨u0, v0⟩ := hB (k + (B (k + 3) - 3)) (by omega)
  obtain ⟨u1, v1⟩ := hB (k + (B (k + 3) - 3) + 1) (by omega)
  obtain ⟨u2, v2⟩ := hB (k + (B (k + 3) - 3) + 2) (by omega)
  have w0 := low2 (k + (B (k + 3) - 3)) (by omega) (by omega)
  have w1 := low2 (k + (B (k + 3) - 3) + 1) (by omega) (by omega)
  have w2 := low2 (k + (B (k + 3) - 3) + 2) (by omega) (by omega)
  rw [u0, u1, u2, or14 w0 w1 w2]
  have c16l : c16 B k (B (k + 3) - 3) < 65536 := c16_lt (fun i hi => (hB (k + i) (by omega)).2)
  refine ⟨vp_in_nI (by omega) (by omega), vp_in_nI (by omega) (by omega), vp_in_nI (by omega) (by omega), ?_⟩
  refine pk_eq (B (k + (B (k + 3) - 3)) * 16384 + B (k + (B (k + 3) - 3) + 1) * 128 + B (k + (B (k + 3) - 3) + 2)) (c16 B k (B (k + 3) - 3)) (fun ce => h1 ?_) (fun c => h0 (fun I => c I.2.2.2.2.2.2.2.2))
  refine ⟨by omega, c0, c1, fun i a1 a2 => low (k + i) (by omega) (by omega), cc, c3, by omega, fun i a1 a2 => low2 (k + i) (by omega) (by omega), ce⟩
end
end
section
/-! the reference's costs -/
def YF (Lf Rt : Nat → Int32) (l r : Nat → Int) (n : Nat) : Prop := ∀ t, t < n → Lf t = iI (l t) ∧ Rt t = iI (r t)
section
variable {g_maxPairs g_width g_capacity g_n g_number g_length g_frames g_position g_skipped g_held g_missing : Int32}
variable {e_left e_right e_owner e_masks e_frameNumber e_frameSize e_frameForm e_frameType0 e_frameType1 e_frameLeft e_frameRight : Nat → Int32}
variable {post : Int32 → Prop} {b n : Nat} {l r : Nat → Int}
theorem ysig (h1 : 4 ≤ b) (h2 : b ≤ 12) (hr : rng b l r n) (hn : n ≤ 16) (F : YF e_left e_right l r n) {s t : Nat} (hs : s < 4) (ht : t < n) (h : post (iI (sg l r s t))) : wpY_signalAt post (g_maxPairs, g_width, g_capacity, nI n, g_number, g_length, g_frames, g_position, g_skipped, g_held, g_missing, e_left, e_right, e_owner, e_masks, e_frameNumber, e_frameSize, e_frameForm, e_frameType0, e_frameType1, e_frameLeft, e_frameRight) (nI s) (nI t) := by
  have bd := hr t ht
  have pw := rng_pw h1 h2
  obtain ⟨fl, fr⟩ := F t ht
  unfold wpY_signalAt
  dsimp only
  refine br_f (nI_pos (by omega)) (br_f (nI_nlt (a := 3) (by omega) (by omega)) (br_f (nI_pos (by omega)) (br_t (nI_lt ht (by omega)) ?_)))
  have vi : vp_in (nI t) 16 := vp_in_nI (by omega) (by omega)
  rw [nI_clamp (by omega), fl, fr]
  unfold sg at h
  refine pk_eq s 0 (fun e => ⟨vi, by rw [if_pos e] at h; exact h⟩) (fun e0 => ?_)
  rw [if_neg e0] at h
  refine pk_eq s 1 (fun e => ⟨vi, by rw [if_pos e] at h; exact h⟩) (fun e1 => ?_)
  rw [if_neg e1] at h
  refine pk_eq s 2 (fun e => ⟨vi, vi, ?_⟩) (fun e2 => ⟨vi, vi, ?_⟩)
  · rw [if_pos e] at h
    rw [zi_add]
    have : iI (l t + r t) >>> ((1 : Int32) &&& 31) = iI ((l t + r t) / 2 ^ 1) := zi_shr (k := 1) (by omega) (by omega) (by omega)
    rw [this]
    exact h
  · rw [if_neg e2] at h
    rw [zi_sub]
    exact h
theorem ysigZ (h1 : 4 ≤ b) (h2 : b ≤ 12) (hr : rng b l r n) (hn : n ≤ 16) (F : YF e_left e_right l r n) {s : Nat} {z : Int} (hs : s < 4) (hz : -10 ≤ z) (hz2 : z < n) (h : ∀ v, (0 ≤ z → v = iI (sg l r s z.toNat)) → post v) : wpY_signalAt post (g_maxPairs, g_width, g_capacity, nI n, g_number, g_length, g_frames, g_position, g_skipped, g_held, g_missing, e_left, e_right, e_owner, e_masks, e_frameNumber, e_frameSize, e_frameForm, e_frameType0, e_frameType1, e_frameLeft, e_frameRight) (nI s) (iI z) := by
  by_cases c : 0 ≤ z
  · rw [zi_nn c]
    exact ysig h1 h2 hr hn F hs (by omega) (h _ (fun _ => rfl))
  · unfold wpY_signalAt
    dsimp only
    refine br_f (nI_pos (by omega)) (br_f (nI_nlt (a := 3) (by omega) (by omega)) (br_t ?_ (h _ (fun x => absurd x c))))
    exact (zi_lt (b := 0) (by omega) (by omega) (by omega) (by omega)).mpr (by omega)
theorem yres (h1 : 4 ≤ b) (h2 : b ≤ 12) (hr : rng b l r n) (hn : n ≤ 16) (F : YF e_left e_right l r n) {s o t : Nat} (hs : s < 4) (ho : o ≤ 4) (hot : o ≤ t) (ht : t < n) (h : post (iI (dI (sg l r s) o t))) : wpY_residual post (g_maxPairs, g_width, g_capacity, nI n, g_number, g_length, g_frames, g_position, g_skipped, g_held, g_missing, e_left, e_right, e_owner, e_masks, e_frameNumber, e_frameSize, e_frameForm, e_frameType0, e_frameType1, e_frameLeft, e_frameRight) (nI s) (nI o) (nI t) := by
  have z : ∀ j : Int, nI t - iI j = iI ((t : Int) - j) := fun j => by rw [← zi_n, zi_sub]
  have z1 : nI t - 1 = iI ((t : Int) - 1) := z 1
  have z2 : nI t - 2 = iI ((t : Int) - 2) := z 2
  have z3 : nI t - 3 = iI ((t : Int) - 3) := z 3
  have z4 : nI t - 4 = iI ((t : Int) - 4) := z 4
  unfold wpY_residual
  dsimp only
  rw [z1, z2, z3, z4]
  refine ysig h1 h2 hr hn F hs ht ?_
  refine ysigZ h1 h2 hr hn F hs (by omega) (by omega) (fun v1 g1 => ?_)
  refine ysigZ h1 h2 hr hn F hs (by omega) (by omega) (fun v2 g2 => ?_)
  refine ysigZ h1 h2 hr hn F hs (by omega) (by omega) (fun v3 g3 => ?_)
  refine ysigZ h1 h2 hr hn F hs (by omega) (by omega) (fun v4 g4 => ?_)
  have e1 : ((t : Int) - 1).toNat = t - 1 := by omega
  have e2 : ((t : Int) - 2).toNat = t - 2 := by omega
  have e3 : ((t : Int) - 3).toNat = t - 3 := by omega
  have e4 : ((t : Int) - 4).toNat = t - 4 := by omega
  rw [e1] at g1
  rw [e2] at g2
  rw [e3] at g3
  rw [e4] at g4
  refine pk_eq o 0 (fun e => ?_) (fun n0 => ?_)
  · subst e; exact h
  refine pk_eq o 1 (fun e => ?_) (fun n1 => ?_)
  · subst e
    rw [g1 (by omega), zi_sub]
    exact h
  refine pk_eq o 2 (fun e => ?_) (fun n2 => ?_)
  · subst e
    rw [g1 (by omega), g2 (by omega)]
    have e : iI (sg l r s t) - 2 * iI (sg l r s (t - 1)) + iI (sg l r s (t - 2)) = iI (dI (sg l r s) 2 t) := by
      show iI _ - iI 2 * iI _ + iI _ = _
      rw [zi_mul, zi_sub, zi_add]
      refine congrArg iI ?_
      simp only [dI]
      rw [show t - 1 - 1 = t - 2 from by omega]
      omega
    rw [e]
    exact h
  refine pk_eq o 3 (fun e => ?_) (fun n3 => ?_)
  · subst e
    rw [g1 (by omega), g2 (by omega), g3 (by omega)]
    have e : iI (sg l r s t) - 3 * iI (sg l r s (t - 1)) + 3 * iI (sg l r s (t - 2)) - iI (sg l r s (t - 3)) = iI (dI (sg l r s) 3 t) := by
      show iI _ - iI 3 * iI _ + iI 3 * iI _ - iI _ = _
      rw [zi_mul, zi_mul, zi_sub, zi_add, zi_sub]
      refine congrArg iI ?_
      simp only [dI]
      rw [show t - 1 - 1 = t - 2 from by omega, show t - 2 - 1 = t - 3 from by omega]
      omega
    rw [e]
    exact h
  · obtain rfl : o = 4 := by omega
    rw [g1 (by omega), g2 (by omega), g3 (by omega), g4 (by omega)]
    have e : iI (sg l r s t) - 4 * iI (sg l r s (t - 1)) + 6 * iI (sg l r s (t - 2)) - 4 * iI (sg l r s (t - 3)) + iI (sg l r s (t - 4)) = iI (dI (sg l r s) 4 t) := by
      show iI _ - iI 4 * iI _ + iI 6 * iI _ - iI 4 * iI _ + iI _ = _
      rw [zi_mul, zi_mul, zi_mul, zi_sub, zi_add, zi_sub, zi_add]
      refine congrArg iI ?_
      simp only [dI]
      rw [show t - 1 - 1 = t - 2 from by omega, show t - 2 - 1 = t - 3 from by omega, show t - 3 - 1 = t - 4 from by omega]
      omega
    rw [e]
    exact h
theorem yoff {o p : Nat} (hn : n ≤ 16) (hp : p ≤ 2) (ho : o ≤ 4) (h : post (if n % 2 ^ p = 0 ∧ o ≤ n / 2 ^ p then 1 else 0)) : wpY_offered post (g_maxPairs, g_width, g_capacity, nI n, g_number, g_length, g_frames, g_position, g_skipped, g_held, g_missing, e_left, e_right, e_owner, e_masks, e_frameNumber, e_frameSize, e_frameForm, e_frameType0, e_frameType1, e_frameLeft, e_frameRight) (nI o) (nI p) := by
  have p4 := p4 hp
  have hdl : n / 2 ^ p ≤ n := Nat.div_le_self _ _
  have hdm := Nat.div_add_mod' n (2 ^ p)
  have hml : n / 2 ^ p * 2 ^ p ≤ n := Nat.div_mul_le_self _ _
  unfold wpY_offered
  dsimp only
  refine nm_r (zi_shrN (by omega) (by omega)) ?_
  rw [zi_shlN (by omega) (by omega)]
  refine pk_eq (n / 2 ^ p * 2 ^ p) n (fun e => ?_) (fun e => ?_)
  · refine pk_lt (n / 2 ^ p) o (fun c => ?_) (fun c => ?_)
    · rw [if_neg (fun z => by omega)] at h; exact h
    · rw [if_pos ⟨by omega, c⟩] at h; exact h
  · rw [if_neg (fun z => by omega)] at h; exact h
theorem y183 {J : Int32 → Int32 → Prop} {x1 x6 x7 x8 : Int32} {k acc t u : Nat} (hk : k ≤ 14) (hu : u < 131072) (h : J (nI (acc + (u / 2 ^ k + 1 + k))) (nI (t + 1))) : wY_partBits_183 post J x1 (nI k) x6 x7 x8 (nI acc) (nI t) (nI u) g_maxPairs g_width g_capacity g_n g_number g_length g_frames g_position g_skipped g_held g_missing e_left e_right e_owner e_masks e_frameNumber e_frameSize e_frameForm e_frameType0 e_frameType1 e_frameLeft e_frameRight := by
  unfold wY_partBits_183
  rw [zi_shrN (by omega) (by omega), nI_1, nI_add, nI_add, nI_1]
  exact nm_e (nm_e h)
theorem ypc_loop (h1 : 4 ≤ b) (h2 : b ≤ 12) (hr : rng b l r n) (hn : n ≤ 16) (F : YF e_left e_right l r n) {s o p j k fr e : Nat} (hs : s < 4) (ho : o ≤ 4) (hp : p ≤ 2) (hof : o ≤ n / 2 ^ p) (hj : j < 2 ^ p) (hk : k ≤ 14) (hfr : fr = pfr n o p j) (hto : e = (j + 1) * (n / 2 ^ p)) (h : post (nI (4 + ps (uu l r s o) k fr (e - fr)))) : ∀ d fuel t, t + d = n → d < fuel → wY_partBits_114 post (nI s) (nI k) (nI j) (nI o) (nI (n / 2 ^ p)) g_maxPairs g_width g_capacity (nI n) g_number g_length g_frames g_position g_skipped g_held g_missing e_left e_right e_owner e_masks e_frameNumber e_frameSize e_frameForm e_frameType0 e_frameType1 e_frameLeft e_frameRight fuel (nI (4 + ps (uu l r s o) k fr (min t e - fr))) (nI t) := by
  have p4 := p4 hp
  have a1 := pfr_ge (n := n) (p := p) (j := j) hof
  have a2 := pfr_le (n := n) (p := p) (j := j) hof
  have a3 := pto_le (n := n) hj
  have hdl : n / 2 ^ p ≤ n := Nat.div_le_self _ _
  have a4 : j * (n / 2 ^ p) ≤ (j + 1) * (n / 2 ^ p) := Nat.mul_le_mul_right _ (by omega)
  have a5 : pfr n o p j = if j = 0 then o else j * (n / 2 ^ p) := rfl
  have a6 : j = 0 → j * (n / 2 ^ p) = 0 := fun e => by rw [e, Nat.zero_mul]
  have a7 : j ≠ 0 → o ≤ j * (n / 2 ^ p) := fun e => by rw [if_neg e] at a5; omega
  rw [← hfr] at a1 a2 a5
  rw [← hto] at a2 a3 a4
  generalize hjm : j * (n / 2 ^ p) = jm at a4 a5 a6 a7
  intro d
  induction d with
  | zero =>
    intro fuel t h3 h4
    obtain ⟨fuel, rfl⟩ : ∃ q, fuel = q + 1 := ⟨fuel - 1, by omega⟩
    refine br_t (nI_le (by omega) (by omega)) ?_
    rw [show min t e = e from by omega]
    exact h
  | succ d ih =>
    intro fuel t h3 h4
    obtain ⟨fuel, rfl⟩ : ∃ q, fuel = q + 1 := ⟨fuel - 1, by omega⟩
    have IH := ih fuel (t + 1) (by omega) (by omega)
    refine br_f (nI_ge (by omega) (by omega)) ?_
    refine pk_lt t o (fun c => nm_r (nI_1 t) ?_) (fun c1 => ?_)
    · rw [show min (t + 1) e - fr = min t e - fr from by omega] at IH
      exact IH
    rw [pk_mul, hjm]
    refine pk_lt t jm (fun c => nm_r (nI_1 t) ?_) (fun c2 => ?_)
    · have : min (t + 1) e - fr = min t e - fr := by
        by_cases j0 : j = 0
        · have := a6 j0; omega
        · rw [if_neg j0] at a5; omega
      rw [this] at IH
      exact IH
    have hfrt : fr ≤ t := by
      by_cases j0 : j = 0
      · rw [if_pos j0] at a5; omega
      · rw [if_neg j0] at a5; omega
    rw [nI_1 j, pk_mul, ← hto]
    refine pk_le e t (fun c => nm_r (nI_1 t) ?_) (fun c3 => ?_)
    · rw [show min (t + 1) e - fr = min t e - fr from by omega] at IH
      exact IH
    have bd := dI_bd4 (rng_sg h1 h2 hr s) ho c1 (t := t) (by omega)
    have ul : uu l r s o t < 131072 := fo_lt bd
    have es : ps (uu l r s o) k fr (min (t + 1) e - fr) = ps (uu l r s o) k fr (min t e - fr) + (uu l r s o t / 2 ^ k + 1 + k) := by
      rw [show min (t + 1) e - fr = (min t e - fr) + 1 from by omega]
      simp only [ps]
      rw [show fr + (min t e - fr) = t from by omega]
    rw [es, ← Nat.add_assoc] at IH
    refine yres h1 h2 hr hn F hs ho c1 (by omega) ?_
    have f := fo_i bd
    intro x12 ex
    have z0 : (0 : Int32) ≤ iI (dI (sg l r s) o t) ↔ 0 ≤ dI (sg l r s) o t := zi_le (a := 0) (by omega) (by omega) (by omega) (by omega)
    rw [z0]
    refine br_c (fun c => ?_) (fun c => ?_)
    · rw [ex, f.2 (by omega)]
      exact y183 hk ul IH
    · refine nm_r (f.1 (by omega)) ?_
      exact y183 hk ul IH
theorem y73 (h1 : 4 ≤ b) (h2 : b ≤ 12) (hr : rng b l r n) (hn : n ≤ 16) (F : YF e_left e_right l r n) {s o p j k : Nat} (hs : s < 4) (ho : o ≤ 4) (hp : p ≤ 2) (hj : j < 2 ^ p) (hk : k ≤ 14) (h : post (if n % 2 ^ p = 0 ∧ o ≤ n / 2 ^ p then nI (pc l r n s o p j k) else -1)) : wY_partBits_73 post (nI s) (nI (o + 2)) (nI (2 ^ p + j)) (nI k) (nI p) g_maxPairs g_width g_capacity (nI n) g_number g_length g_frames g_position g_skipped g_held g_missing e_left e_right e_owner e_masks e_frameNumber e_frameSize e_frameForm e_frameType0 e_frameType1 e_frameLeft e_frameRight := by
  have p4 := p4 hp
  unfold wY_partBits_73
  refine nm_r (e' := nI j) ?_ (nm_r (e' := nI o) ?_ ?_)
  · rw [zi_1shl (by omega), pk_sub (by omega)]; exact congrArg nI (by omega)
  · exact pk_sub (a := o + 2) (b := 2) (by omega)
  · refine yoff hn hp ho ?_
    by_cases c : n % 2 ^ p = 0 ∧ o ≤ n / 2 ^ p
    · rw [if_pos c] at h ⊢
      refine br_f (by decide) (nm_r (zi_shrN (by omega) (by omega)) ?_)
      have L : wY_partBits_114 post (nI s) (nI k) (nI j) (nI o) (nI (n / 2 ^ p)) g_maxPairs g_width g_capacity (nI n) g_number g_length g_frames g_position g_skipped g_held g_missing e_left e_right e_owner e_masks e_frameNumber e_frameSize e_frameForm e_frameType0 e_frameType1 e_frameLeft e_frameRight (n + 1) (nI (4 + ps (uu l r s o) k (pfr n o p j) (min 0 ((j + 1) * (n / 2 ^ p)) - pfr n o p j))) (nI 0) := ypc_loop h1 h2 hr hn F hs ho hp c.2 hj hk rfl rfl h n (n + 1) 0 (by omega) (by omega)
      rw [show min 0 ((j + 1) * (n / 2 ^ p)) - pfr n o p j = 0 from by omega] at L
      exact ⟨n + 1, L⟩
    · rw [if_neg c] at h ⊢
      exact br_t rfl h
theorem ypart (h1 : 4 ≤ b) (h2 : b ≤ 12) (hr : rng b l r n) (hn0 : 1 ≤ n) (hn : n ≤ 16) (F : YF e_left e_right l r n) {s o p j k : Nat} (hs : s < 4) (ho : o ≤ 4) (hp : p ≤ 2) (hj : j < 2 ^ p) (hk : k ≤ 14) (h : post (if n % 2 ^ p = 0 ∧ o ≤ n / 2 ^ p then nI (pc l r n s o p j k) else -1)) : wpY_partBits post (g_maxPairs, g_width, g_capacity, nI n, g_number, g_length, g_frames, g_position, g_skipped, g_held, g_missing, e_left, e_right, e_owner, e_masks, e_frameNumber, e_frameSize, e_frameForm, e_frameType0, e_frameType1, e_frameLeft, e_frameRight) (nI s) (nI (o + 2)) (nI (2 ^ p + j)) (nI k) := by
  have p4 := p4 hp
  have key : wY_partBits_73 post (nI s) (nI (o + 2)) (nI (2 ^ p + j)) (nI k) (nI p) g_maxPairs g_width g_capacity (nI n) g_number g_length g_frames g_position g_skipped g_held g_missing e_left e_right e_owner e_masks e_frameNumber e_frameSize e_frameForm e_frameType0 e_frameType1 e_frameLeft e_frameRight := y73 h1 h2 hr hn F hs ho hp hj hk h
  unfold wpY_partBits
  dsimp only
  refine br_f (nI_ne0 hn0 (by omega)) (br_f (nI_pos (by omega)) (br_f (nI_nlt (a := 3) (by omega) (by omega)) (br_f (nI_nlt (b := 2) (by omega) (by omega)) (br_t (nI_le (b := 6) (by omega) (by omega)) (br_f (nI_nlt (b := 1) (by omega) (by omega)) (br_f (nI_nlt (a := 7) (by omega) (by omega)) (br_f (nI_pos (by omega)) (br_t (nI_le (b := 14) (by omega) (by omega)) ?_))))))))
  have : p = 0 ∨ p = 1 ∨ p = 2 := by omega
  rcases this with rfl | rfl | rfl
  · obtain rfl : j = 0 := by omega
    exact br_t (by decide) (br_t (by decide) key)
  · refine br_f (nI_nlt (b := 2) (by omega) (by omega)) (br_t (nI_lt (b := 4) (by omega) (by omega)) key)
  · refine br_f (nI_nlt (b := 2) (by omega) (by omega)) (br_f (nI_nlt (b := 4) (by omega) (by omega)) key)
end
end
section
/-! the reference's plan -/
def yz (a : Option (Nat × Nat × Nat)) : Int32 := match a with
  | none => -1
  | some q => nI (q.2.1 * 4 + q.2.2)
def yf (a : Option (Nat × Nat × Nat)) : Int32 := match a with
  | none => 0
  | some q => nI q.1
section
variable {g_maxPairs g_width g_capacity g_n g_number g_length g_frames g_position g_skipped g_held g_missing : Int32}
variable {e_left e_right e_owner e_masks e_frameNumber e_frameSize e_frameForm e_frameType0 e_frameType1 e_frameLeft e_frameRight : Nat → Int32}
variable {post : Int32 → Prop} {b n : Nat} {l r : Nat → Int}
theorem ybp_loop (h1 : 4 ≤ b) (h2 : b ≤ 12) (hr : rng b l r n) (hn0 : 1 ≤ n) (hn : n ≤ 16) (F : YF e_left e_right l r n) {s o p j : Nat} (hs : s < 4) (ho : o ≤ 4) (hp : p ≤ 2) (hj : j < 2 ^ p) (hof : n % 2 ^ p = 0 ∧ o ≤ n / 2 ^ p) (h : post (nI (kk l r n s o p j))) : ∀ d fuel k, k + d = 14 → d < fuel → wY_bestParameter_6 post (nI s) (nI (o + 2)) (nI (2 ^ p + j)) g_maxPairs g_width g_capacity (nI n) g_number g_length g_frames g_position g_skipped g_held g_missing e_left e_right e_owner e_masks e_frameNumber e_frameSize e_frameForm e_frameType0 e_frameType1 e_frameLeft e_frameRight fuel (nI (kb (pc l r n s o p j) k)) (nI (k + 1)) := by
  intro d
  induction d with
  | zero =>
    intro fuel k h3 h4
    obtain ⟨fuel, rfl⟩ : ∃ q, fuel = q + 1 := ⟨fuel - 1, by omega⟩
    obtain rfl : k = 14 := by omega
    exact br_t (nI_lt (a := 14) (by omega) (by omega)) h
  | succ d ih =>
    intro fuel k h3 h4
    obtain ⟨fuel, rfl⟩ : ∃ q, fuel = q + 1 := ⟨fuel - 1, by omega⟩
    have IH := ih fuel (k + 1) (by omega) (by omega)
    have kle := kb_le (pc l r n s o p j) k
    have c1 := pc_lt h1 h2 hr hn (s := s) ho hof.2 hj (k := k + 1) (by omega)
    have c2 := pc_lt h1 h2 hr hn (s := s) ho hof.2 hj (k := kb (pc l r n s o p j) k) (by omega)
    have e : kb (pc l r n s o p j) (k + 1) = if pc l r n s o p j (k + 1) < pc l r n s o p j (kb (pc l r n s o p j) k) then k + 1 else kb (pc l r n s o p j) k := rfl
    rw [e] at IH
    refine br_f (nI_nlt (a := 14) (by omega) (by omega)) ?_
    refine ypart h1 h2 hr hn0 hn F hs ho hp hj (by omega) ?_
    rw [if_pos hof]
    refine ypart h1 h2 hr hn0 hn F hs ho hp hj (by omega) ?_
    rw [if_pos hof]
    refine pk_le (pc l r n s o p j (kb (pc l r n s o p j) k)) (pc l r n s o p j (k + 1)) (fun c => nm_r (nI_1 (k + 1)) ?_) (fun c => nm_r (nI_1 (k + 1)) ?_)
    · rw [if_neg (by omega)] at IH; exact IH
    · rw [if_pos c] at IH; exact IH
theorem ybp (h1 : 4 ≤ b) (h2 : b ≤ 12) (hr : rng b l r n) (hn0 : 1 ≤ n) (hn : n ≤ 16) (F : YF e_left e_right l r n) {s o p j : Nat} (hs : s < 4) (ho : o ≤ 4) (hp : p ≤ 2) (hj : j < 2 ^ p) (hof : n % 2 ^ p = 0 ∧ o ≤ n / 2 ^ p) (h : post (nI (kk l r n s o p j))) : wpY_bestParameter post (g_maxPairs, g_width, g_capacity, nI n, g_number, g_length, g_frames, g_position, g_skipped, g_held, g_missing, e_left, e_right, e_owner, e_masks, e_frameNumber, e_frameSize, e_frameForm, e_frameType0, e_frameType1, e_frameLeft, e_frameRight) (nI s) (nI (o + 2)) (nI (2 ^ p + j)) := by
  unfold wpY_bestParameter
  dsimp only
  exact ⟨15, ybp_loop h1 h2 hr hn0 hn F hs ho hp hj hof h 14 15 0 (by omega) (by omega)⟩
theorem y165 (h1 : 4 ≤ b) (h2 : b ≤ 12) (hr : rng b l r n) (hn0 : 1 ≤ n) (hn : n ≤ 16) (F : YF e_left e_right l r n) {s o p base : Nat} (hs : s < 4) (ho : o ≤ 4) (hp : p ≤ 2) (hof : n % 2 ^ p = 0 ∧ o ≤ n / 2 ^ p) (hb : base ≤ 100) (h : post (nI (base + sps l r n s o p (2 ^ p)))) : ∀ d fuel j, j + d = 2 ^ p → d < fuel → wY_trialBits_165 post (nI s) (nI (o + 2)) (nI (2 ^ p)) g_maxPairs g_width g_capacity (nI n) g_number g_length g_frames g_position g_skipped g_held g_missing e_left e_right e_owner e_masks e_frameNumber e_frameSize e_frameForm e_frameType0 e_frameType1 e_frameLeft e_frameRight fuel (nI (base + sps l r n s o p j)) (nI j) := by
  have p4 := p4 hp
  intro d
  induction d with
  | zero =>
    intro fuel j h3 h4
    obtain ⟨fuel, rfl⟩ : ∃ q, fuel = q + 1 := ⟨fuel - 1, by omega⟩
    refine br_t (nI_le (by omega) (by omega)) ?_
    rw [show 2 ^ p = j from by omega] at h
    exact h
  | succ d ih =>
    intro fuel j h3 h4
    obtain ⟨fuel, rfl⟩ : ∃ q, fuel = q + 1 := ⟨fuel - 1, by omega⟩
    refine br_f (nI_ge (by omega) (by omega)) ?_
    rw [nI_add]
    refine ybp h1 h2 hr hn0 hn F hs ho hp (by omega) hof ?_
    refine ypart h1 h2 hr hn0 hn F hs ho hp (by omega) kk_le ?_
    rw [if_pos hof]
    refine nm_r (e' := nI (base + sps l r n s o p (j + 1))) ?_ (nm_r (nI_1 j) ?_)
    · rw [nI_add]; exact congrArg nI (by simp only [sps]; omega)
    · exact ih fuel (j + 1) (by omega) (by omega)
theorem y91 (h1 : 4 ≤ b) (h2 : b ≤ 12) (hr : rng b l r n) (hn : n ≤ 16) (F : YF e_left e_right l r n) {s w : Nat} (hs : s < 4) (h : post (if ∀ t, t < n → sg l r s t = sg l r s 0 then nI (3 + w) else -1)) : ∀ d fuel t, 1 ≤ t → t + d = n → d < fuel → (∀ i, i < t → sg l r s i = sg l r s 0) → wY_trialBits_91 post (nI s) (nI w) g_maxPairs g_width g_capacity (nI n) g_number g_length g_frames g_position g_skipped g_held g_missing e_left e_right e_owner e_masks e_frameNumber e_frameSize e_frameForm e_frameType0 e_frameType1 e_frameLeft e_frameRight fuel (nI t) := by
  intro d
  induction d with
  | zero =>
    intro fuel t h3 h4 h5 h6
    obtain ⟨fuel, rfl⟩ : ∃ q, fuel = q + 1 := ⟨fuel - 1, by omega⟩
    refine br_t (nI_le (by omega) (by omega)) ?_
    rw [if_pos (fun i hi => h6 i (by omega))] at h
    have : (3 : Int32) + nI w = nI (3 + w) := nI_add 3 w
    rw [this]
    exact h
  | succ d ih =>
    intro fuel t h3 h4 h5 h6
    obtain ⟨fuel, rfl⟩ : ∃ q, fuel = q + 1 := ⟨fuel - 1, by omega⟩
    refine br_f (nI_ge (by omega) (by omega)) ?_
    refine ysig h1 h2 hr hn F hs (by omega) ?_
    refine ysig (t := 0) h1 h2 hr hn F hs (by omega) ?_
    have b1 := rng_sg h1 h2 hr s t (by omega)
    have b2 := rng_sg h1 h2 hr s 0 (by omega)
    rw [zi_eq (by omega) (by omega) (by omega) (by omega)]
    refine br_c (fun c => nm_r (nI_1 t) ?_) (fun c => ?_)
    · refine ih fuel (t + 1) (by omega) (by omega) (by omega) (fun i hi => ?_)
      by_cases x : i = t
      · rw [x]; exact c
      · exact h6 i (by omega)
    · rw [if_neg (fun z => c (z t (by omega)))] at h
      exact h
theorem y58 (h1 : 4 ≤ b) (h2 : b ≤ 12) (hr : rng b l r n) (hn0 : 1 ≤ n) (hn : n ≤ 16) (F : YF e_left e_right l r n) {s ty p : Nat} (hs : s < 4) (hty : ty ≤ 6) (hp : p ≤ 2) (h : post (oI (tb b l r n s ty p))) : wY_trialBits_58 post (nI s) (nI ty) (nI p) (nI (wd b s)) g_maxPairs g_width g_capacity (nI n) g_number g_length g_frames g_position g_skipped g_held g_missing e_left e_right e_owner e_masks e_frameNumber e_frameSize e_frameForm e_frameType0 e_frameType1 e_frameLeft e_frameRight := by
  have w := wd_bd h1 h2 s
  have p4 := p4 hp
  unfold tb at h
  have k67 : ty < 2 → wY_trialBits_67 post (nI s) (nI ty) (nI p) (nI (wd b s)) g_maxPairs g_width g_capacity (nI n) g_number g_length g_frames g_position g_skipped g_held g_missing e_left e_right e_owner e_masks e_frameNumber e_frameSize e_frameForm e_frameType0 e_frameType1 e_frameLeft e_frameRight := by
    intro t2
    unfold wY_trialBits_67
    refine pk_eq p 0 (fun e => ?_) (fun e => ?_)
    · refine pk_eq ty 1 (fun e1 => ?_) (fun e1 => ?_)
      · rw [if_neg (by omega), if_pos e1, if_pos e] at h
        have : (3 : Int32) + nI n * nI (wd b s) = nI (3 + n * wd b s) := by
          rw [pk_mul]; exact nI_add 3 _
        rw [this]
        exact h
      · rw [if_pos (show ty = 0 from by omega)] at h
        refine ⟨n, y91 h1 h2 hr hn F hs ?_ (n - 1) n 1 (by omega) (by omega) (by omega) (fun i hi => by rw [show i = 0 from by omega])⟩
        by_cases c : ∀ t, t < n → sg l r s t = sg l r s 0
        · rw [if_pos ⟨e, c⟩] at h; rw [if_pos c]; exact h
        · rw [if_neg (fun z => c z.2)] at h; rw [if_neg c]; exact h
    · by_cases e1 : ty = 0
      · rw [if_pos e1, if_neg (fun z => e z.1)] at h; exact h
      · rw [if_neg e1, if_pos (show ty = 1 from by omega), if_neg e] at h; exact h
  unfold wY_trialBits_58
  refine pk_eq ty 0 (fun e => k67 (by omega)) (fun e0 => ?_)
  refine pk_eq ty 1 (fun e => k67 (by omega)) (fun e1 => ?_)
  rw [if_neg e0, if_neg e1] at h
  refine nm_r (e' := nI (ty - 2)) (pk_sub (b := 2) (by omega)) ?_
  refine yoff hn hp (by omega) ?_
  by_cases c : n % 2 ^ p = 0 ∧ ty - 2 ≤ n / 2 ^ p
  · rw [if_pos c] at h ⊢
    have f : (ty - 2) * wd b s ≤ 4 * 13 := Nat.mul_le_mul (by omega) w.2
    refine br_f (by decide) (nm_r (zi_1shl (by omega)) (nm_r (e' := nI (3 + (ty - 2) * wd b s + 2)) ?_ ?_))
    · rw [pk_mul]
      show nI 3 + nI _ + nI 2 = _
      rw [nI_add, nI_add]
    · have L : wY_trialBits_165 post (nI s) (nI (ty - 2 + 2)) (nI (2 ^ p)) g_maxPairs g_width g_capacity (nI n) g_number g_length g_frames g_position g_skipped g_held g_missing e_left e_right e_owner e_masks e_frameNumber e_frameSize e_frameForm e_frameType0 e_frameType1 e_frameLeft e_frameRight (2 ^ p + 1) (nI (3 + (ty - 2) * wd b s + 2 + sps l r n s (ty - 2) p 0)) (nI 0) := y165 h1 h2 hr hn0 hn F hs (by omega) hp c (by omega) h (2 ^ p) (2 ^ p + 1) 0 (by omega) (by omega)
      rw [show ty - 2 + 2 = ty from by omega] at L
      exact ⟨_, L⟩
  · rw [if_neg c] at h ⊢
    exact br_t rfl h
theorem ytrial (h1 : 4 ≤ b) (h2 : b ≤ 12) (hr : rng b l r n) (hn0 : 1 ≤ n) (hn : n ≤ 16) (F : YF e_left e_right l r n) {s ty p : Nat} (hs : s < 4) (hty : ty ≤ 6) (hp : p ≤ 2) (h : post (oI (tb b l r n s ty p))) : wpY_trialBits post (g_maxPairs, nI b, g_capacity, nI n, g_number, g_length, g_frames, g_position, g_skipped, g_held, g_missing, e_left, e_right, e_owner, e_masks, e_frameNumber, e_frameSize, e_frameForm, e_frameType0, e_frameType1, e_frameLeft, e_frameRight) (nI s) (nI ty) (nI p) := by
  have key : wY_trialBits_58 post (nI s) (nI ty) (nI p) (nI (wd b s)) g_maxPairs (nI b) g_capacity (nI n) g_number g_length g_frames g_position g_skipped g_held g_missing e_left e_right e_owner e_masks e_frameNumber e_frameSize e_frameForm e_frameType0 e_frameType1 e_frameLeft e_frameRight := y58 h1 h2 hr hn0 hn F hs hty hp h
  unfold wd at key
  unfold wpY_trialBits
  dsimp only
  refine br_f (nI_ne0 hn0 (by omega)) (br_f (nI_pos (by omega)) (br_f (nI_nlt (a := 3) (by omega) (by omega)) (br_f (nI_pos (by omega)) (br_t (nI_le (b := 6) (by omega) (by omega)) (br_f (nI_pos (by omega)) (br_t (nI_le (b := 2) (by omega) (by omega)) ?_))))))
  refine pk_eq s 3 (fun e => nm_r (nI_1 b) ?_) (fun e => ?_)
  · rw [if_pos e] at key; exact key
  · rw [if_neg e] at key; exact key
theorem y17 (h1 : 4 ≤ b) (h2 : b ≤ 12) (hr : rng b l r n) (hn0 : 1 ≤ n) (hn : n ≤ 16) (F : YF e_left e_right l r n) {s ty : Nat} (hs : s < 4) (hty : ty ≤ 6) {J7 : Int32 → Int32 → Int32 → Prop} {a0 : Option (Nat × Nat × Nat)} (ok0 : sok (tb b l r n s) a0) (K : J7 (yz (sc2 (tb b l r n s) ty a0 3)) (yf (sc2 (tb b l r n s) ty a0 3)) (nI (ty + 1))) : ∀ d fuel p, p + d = 3 → d < fuel → wY_bestCoding_17 post J7 (nI s) (nI ty) g_maxPairs (nI b) g_capacity (nI n) g_number g_length g_frames g_position g_skipped g_held g_missing e_left e_right e_owner e_masks e_frameNumber e_frameSize e_frameForm e_frameType0 e_frameType1 e_frameLeft e_frameRight fuel (yz (sc2 (tb b l r n s) ty a0 p)) (yf (sc2 (tb b l r n s) ty a0 p)) (nI p) := by
  intro d
  induction d with
  | zero =>
    intro fuel p h3 h4
    obtain ⟨fuel, rfl⟩ : ∃ q, fuel = q + 1 := ⟨fuel - 1, by omega⟩
    obtain rfl : p = 3 := by omega
    exact br_t (nI_lt (a := 2) (by omega) (by omega)) (nm_r (nI_1 ty) K)
  | succ d ih =>
    intro fuel p h3 h4
    obtain ⟨fuel, rfl⟩ : ∃ q, fuel = q + 1 := ⟨fuel - 1, by omega⟩
    have okp := sok_2 ok0 hty p (by omega)
    have sc : sc2 (tb b l r n s) ty a0 (p + 1) = st1 (tb b l r n s ty p) ty p (sc2 (tb b l r n s) ty a0 p) := rfl
    have IH := ih fuel (p + 1) (by omega) (by omega)
    rw [sc] at IH
    refine br_f (nI_nlt (a := 2) (by omega) (by omega)) ?_
    refine ytrial h1 h2 hr hn0 hn F hs hty (by omega) ?_
    have tk : ∀ v J7, wY_bestCoding_17 post J7 (nI s) (nI ty) g_maxPairs (nI b) g_capacity (nI n) g_number g_length g_frames g_position g_skipped g_held g_missing e_left e_right e_owner e_masks e_frameNumber e_frameSize e_frameForm e_frameType0 e_frameType1 e_frameLeft e_frameRight fuel (nI (ty * 4 + p)) v (nI (p + 1)) → wY_bestCoding_50 post J7 (wY_bestCoding_17 post J7 (nI s) (nI ty) g_maxPairs (nI b) g_capacity (nI n) g_number g_length g_frames g_position g_skipped g_held g_missing e_left e_right e_owner e_masks e_frameNumber e_frameSize e_frameForm e_frameType0 e_frameType1 e_frameLeft e_frameRight fuel) (nI s) (nI ty) (nI p) v g_maxPairs (nI b) g_capacity (nI n) g_number g_length g_frames g_position g_skipped g_held g_missing e_left e_right e_owner e_masks e_frameNumber e_frameSize e_frameForm e_frameType0 e_frameType1 e_frameLeft e_frameRight := by
      intro v J7 g
      unfold wY_bestCoding_50
      refine nm_r (e' := nI (ty * 4 + p)) ?_ (nm_r (nI_1 p) g)
      show nI ty * nI 4 + nI p = _
      rw [pk_mul, nI_add]
    generalize hv : tb b l r n s ty p = v at IH
    generalize ha : sc2 (tb b l r n s) ty a0 p = a at IH okp
    cases v with
    | none => exact br_t rfl (nm_r (nI_1 p) IH)
    | some v =>
      have vb := tb_bd h1 h2 hr hn0 hn hty (by omega) hv
      refine br_f (zi_m1lt (by omega)) ?_
      cases a with
      | none => exact br_t (by decide) (tk _ _ IH)
      | some w =>
        obtain ⟨m0, t0, p0⟩ := w
        have wb := okp m0 t0 p0 rfl
        have wb2 := tb_bd h1 h2 hr hn0 hn wb.2.1 wb.2.2 wb.1
        have est : st1 (some v) ty p (some (m0, t0, p0)) = if v < m0 then some (v, ty, p) else some (m0, t0, p0) := rfl
        rw [est] at IH
        refine br_f (nI_pos (n := t0 * 4 + p0) (by omega)) ?_
        refine pk_le m0 v (fun c => ?_) (fun c => ?_)
        · rw [if_neg (by omega)] at IH
          exact nm_r (nI_1 p) IH
        · rw [if_pos c] at IH
          exact tk _ _ IH
theorem y7 (h1 : 4 ≤ b) (h2 : b ≤ 12) (hr : rng b l r n) (hn0 : 1 ≤ n) (hn : n ≤ 16) (F : YF e_left e_right l r n) {s : Nat} (hs : s < 4) (K : post (yz (sc1 (tb b l r n s) 7))) : ∀ d fuel ty, ty + d = 7 → d < fuel → wY_bestCoding_7 post (nI s) g_maxPairs (nI b) g_capacity (nI n) g_number g_length g_frames g_position g_skipped g_held g_missing e_left e_right e_owner e_masks e_frameNumber e_frameSize e_frameForm e_frameType0 e_frameType1 e_frameLeft e_frameRight fuel (yz (sc1 (tb b l r n s) ty)) (yf (sc1 (tb b l r n s) ty)) (nI ty) := by
  intro d
  induction d with
  | zero =>
    intro fuel ty h3 h4
    obtain ⟨fuel, rfl⟩ : ∃ q, fuel = q + 1 := ⟨fuel - 1, by omega⟩
    obtain rfl : ty = 7 := by omega
    exact br_t (nI_lt (a := 6) (by omega) (by omega)) K
  | succ d ih =>
    intro fuel ty h3 h4
    obtain ⟨fuel, rfl⟩ : ∃ q, fuel = q + 1 := ⟨fuel - 1, by omega⟩
    refine br_f (nI_nlt (a := 6) (by omega) (by omega)) ?_
    exact ⟨4, y17 h1 h2 hr hn0 hn F hs (by omega) (sok_1 _ ty (by omega)) (ih fuel (ty + 1) (by omega) (by omega)) 3 4 0 (by omega) (by omega)⟩
theorem ybest (h1 : 4 ≤ b) (h2 : b ≤ 12) (hr : rng b l r n) (hn0 : 1 ≤ n) (hn : n ≤ 16) (F : YF e_left e_right l r n) {s : Nat} (hs : s < 4) (h : post (nI (bT b l r n s * 4 + bP b l r n s))) : wpY_bestCoding post (g_maxPairs, nI b, g_capacity, nI n, g_number, g_length, g_frames, g_position, g_skipped, g_held, g_missing, e_left, e_right, e_owner, e_masks, e_frameNumber, e_frameSize, e_frameForm, e_frameType0, e_frameType1, e_frameLeft, e_frameRight) (nI s) := by
  obtain ⟨e7, _⟩ := bco_sc b l r n s
  unfold wpY_bestCoding
  dsimp only
  refine ⟨8, y7 h1 h2 hr hn0 hn F hs ?_ 7 8 0 (by omega) (by omega)⟩
  rw [e7]
  exact h
theorem ycode {t p : Nat} (ht : t ≤ 6) (hp : p ≤ 2) : nI (t * 4 + p) >>> ((2 : Int32) &&& 31) = nI t ∧ nI (t * 4 + p) &&& 3 = nI p := by
  constructor
  · have := zi_shrN (n := t * 4 + p) (k := 2) (by omega) (by omega)
    refine Eq.trans this (congrArg nI ?_)
    show (t * 4 + p) / 4 = t
    omega
  · have : nI (t * 4 + p) &&& 3 = nI ((t * 4 + p) % 2 ^ 2) := pk_andN (by omega) 2 (by decide)
    refine Eq.trans this (congrArg nI ?_)
    show (t * 4 + p) % 4 = p
    omega
theorem ybb (h1 : 4 ≤ b) (h2 : b ≤ 12) (hr : rng b l r n) (hn0 : 1 ≤ n) (hn : n ≤ 16) (F : YF e_left e_right l r n) {s : Nat} (hs : s < 4) (h : post (nI (bB b l r n s))) : wpY_bestBits post (g_maxPairs, nI b, g_capacity, nI n, g_number, g_length, g_frames, g_position, g_skipped, g_held, g_missing, e_left, e_right, e_owner, e_masks, e_frameNumber, e_frameSize, e_frameForm, e_frameType0, e_frameType1, e_frameLeft, e_frameRight) (nI s) := by
  obtain ⟨_, et, t6, p2, _⟩ := bco_sc b l r n s
  obtain ⟨c1, c2⟩ := ycode t6 p2
  unfold wpY_bestBits
  dsimp only
  refine ybest h1 h2 hr hn0 hn F hs ?_
  rw [c1, c2]
  refine ytrial h1 h2 hr hn0 hn F hs t6 p2 ?_
  rw [et]
  exact h
theorem ysof {f c : Nat} (hf : f < 1000) (hc : c < 1000) (h : post (nI (sgO f c))) : wpY_signalOf post (g_maxPairs, g_width, g_capacity, g_n, g_number, g_length, g_frames, g_position, g_skipped, g_held, g_missing, e_left, e_right, e_owner, e_masks, e_frameNumber, e_frameSize, e_frameForm, e_frameType0, e_frameType1, e_frameLeft, e_frameRight) (nI f) (nI c) := by
  unfold wpY_signalOf
  dsimp only
  unfold sgO at h
  refine pk_eq c 0 (fun e => ?_) (fun e => ?_)
  · rw [if_pos e] at h
    refine pk_eq f 2 (fun e2 => ?_) (fun e2 => ?_)
    · rw [if_pos e2] at h; exact h
    · rw [if_neg e2] at h
      refine pk_eq f 3 (fun e3 => ?_) (fun e3 => ?_)
      · rw [if_pos e3] at h; exact h
      · rw [if_neg e3] at h; exact h
  · rw [if_neg e] at h
    refine pk_eq f 0 (fun e2 => ?_) (fun e2 => ?_)
    · rw [if_pos e2] at h; exact h
    · rw [if_neg e2] at h
      refine pk_eq f 2 (fun e3 => ?_) (fun e3 => ?_)
      · rw [if_pos e3] at h; exact h
      · rw [if_neg e3] at h; exact h
theorem yform_loop (h1 : 4 ≤ b) (h2 : b ≤ 12) (hr : rng b l r n) (hn0 : 1 ≤ n) (hn : n ≤ 16) (F : YF e_left e_right l r n) (h : post (nI (bfm b l r n))) : ∀ d fuel k, k + d = 3 → d < fuel → wY_planForm_15 post g_maxPairs (nI b) g_capacity (nI n) g_number g_length g_frames g_position g_skipped g_held g_missing e_left e_right e_owner e_masks e_frameNumber e_frameSize e_frameForm e_frameType0 e_frameType1 e_frameLeft e_frameRight fuel (nI (kb (fbt b l r n) k)) (nI (fbt b l r n (kb (fbt b l r n) k))) (nI (k + 1)) := by
  intro d
  induction d with
  | zero =>
    intro fuel k h3 h4
    obtain ⟨fuel, rfl⟩ : ∃ q, fuel = q + 1 := ⟨fuel - 1, by omega⟩
    obtain rfl : k = 3 := by omega
    exact br_t (nI_lt (a := 3) (by omega) (by omega)) h
  | succ d ih =>
    intro fuel k h3 h4
    obtain ⟨fuel, rfl⟩ : ∃ q, fuel = q + 1 := ⟨fuel - 1, by omega⟩
    have IH := ih fuel (k + 1) (by omega) (by omega)
    have e : kb (fbt b l r n) (k + 1) = if fbt b l r n (k + 1) < fbt b l r n (kb (fbt b l r n) k) then k + 1 else kb (fbt b l r n) k := rfl
    rw [e] at IH
    have kl := kb_le (fbt b l r n) k
    have b1 := fbt_bd h1 h2 hr hn0 hn (k + 1)
    have b2 := fbt_bd h1 h2 hr hn0 hn (kb (fbt b l r n) k)
    refine br_f (nI_nlt (a := 3) (by omega) (by omega)) ?_
    refine ysof (c := 0) (by omega) (by omega) ?_
    refine ysof (c := 1) (by omega) (by omega) ?_
    refine ybb h1 h2 hr hn0 hn F (sgO_lt _ _) ?_
    refine ybb h1 h2 hr hn0 hn F (sgO_lt _ _) ?_
    refine nm_r (e' := nI (fbt b l r n (k + 1))) (nI_add _ _) ?_
    refine br_f (nI_pos (by omega)) ?_
    refine pk_le (fbt b l r n (kb (fbt b l r n) k)) (fbt b l r n (k + 1)) (fun c => nm_r (nI_1 (k + 1)) ?_) (fun c => nm_r (nI_1 (k + 1)) ?_)
    · rw [if_neg (by omega)] at IH; exact IH
    · rw [if_pos c] at IH; exact IH
theorem yform (h1 : 4 ≤ b) (h2 : b ≤ 12) (hr : rng b l r n) (hn0 : 1 ≤ n) (hn : n ≤ 16) (F : YF e_left e_right l r n) (h : post (nI (bfm b l r n))) : wpY_planForm post (g_maxPairs, nI b, g_capacity, nI n, g_number, g_length, g_frames, g_position, g_skipped, g_held, g_missing, e_left, e_right, e_owner, e_masks, e_frameNumber, e_frameSize, e_frameForm, e_frameType0, e_frameType1, e_frameLeft, e_frameRight) := by
  unfold wpY_planForm
  dsimp only
  refine br_f (nI_ne0 hn0 (by omega)) ⟨5, ?_⟩
  refine br_f (by decide) ?_
  refine ysof (f := 0) (c := 0) (by omega) (by omega) ?_
  refine ysof (f := 0) (c := 1) (by omega) (by omega) ?_
  refine ybb h1 h2 hr hn0 hn F (sgO_lt _ _) ?_
  refine ybb h1 h2 hr hn0 hn F (sgO_lt _ _) ?_
  refine nm_r (e' := nI (fbt b l r n 0)) (nI_add _ _) ?_
  refine br_t (by decide) (nm_r (nI_1 0) ?_)
  exact yform_loop h1 h2 hr hn0 hn F h 3 4 0 (by omega) (by omega)
/-- a field of the plan -/
def pfv (b : Nat) (l r : Nat → Int) (n c f : Nat) : Int32 :=
  if f = 0 then nI (bB b l r n (sgO (bfm b l r n) c)) else if f = 1 then nI (bT b l r n (sgO (bfm b l r n) c)) else if f = 2 then nI (bP b l r n (sgO (bfm b l r n) c)) else prm b l r n (sgO (bfm b l r n) c) (f - 3)
theorem yfield (h1 : 4 ≤ b) (h2 : b ≤ 12) (hr : rng b l r n) (hn0 : 1 ≤ n) (hn : n ≤ 16) (F : YF e_left e_right l r n) {c f : Nat} (hc : c ≤ 1) (hf : f ≤ 6) (h : post (pfv b l r n c f)) : wpY_planField post (g_maxPairs, nI b, g_capacity, nI n, g_number, g_length, g_frames, g_position, g_skipped, g_held, g_missing, e_left, e_right, e_owner, e_masks, e_frameNumber, e_frameSize, e_frameForm, e_frameType0, e_frameType1, e_frameLeft, e_frameRight) (nI c) (nI f) := by
  obtain ⟨_, et, t6, p2, _⟩ := bco_sc b l r n (sgO (bfm b l r n) c)
  obtain ⟨c1, c2⟩ := ycode t6 p2
  have p4 := p4 p2
  have bl := bfm_le (b := b) (l := l) (r := r) (n := n)
  unfold pfv at h
  unfold wpY_planField
  dsimp only
  refine br_f (nI_ne0 hn0 (by omega)) (br_f (nI_pos (by omega)) (br_f (nI_nlt (a := 1) (by omega) (by omega)) (br_f (nI_pos (by omega)) (br_t (nI_le (b := 6) (by omega) (by omega)) ?_))))
  refine yform h1 h2 hr hn0 hn F ?_
  refine ysof (by omega) (by omega) ?_
  refine ybest h1 h2 hr hn0 hn F (sgO_lt _ _) ?_
  rw [c1, c2]
  refine nm_e (nm_e ?_)
  refine pk_eq f 0 (fun e => ?_) (fun e0 => ?_)
  · rw [if_pos e] at h
    refine ytrial h1 h2 hr hn0 hn F (sgO_lt _ _) t6 p2 ?_
    rw [et]
    exact h
  rw [if_neg e0] at h
  refine pk_eq f 1 (fun e => ?_) (fun e1 => ?_)
  · rw [if_pos e] at h; exact h
  rw [if_neg e1] at h
  refine pk_eq f 2 (fun e => ?_) (fun e2 => ?_)
  · rw [if_pos e] at h; exact h
  rw [if_neg e2] at h
  refine nm_r (e' := nI (f - 3)) (pk_sub (b := 3) (by omega)) ?_
  unfold prm at h
  refine pk_lt (bT b l r n (sgO (bfm b l r n) c)) 2 (fun e => ?_) (fun t2 => ?_)
  · rw [if_neg (fun z => by omega)] at h; exact h
  rw [zi_1shl (by omega)]
  refine pk_lt (f - 3) (2 ^ bP b l r n (sgO (bfm b l r n) c)) (fun j2 => ?_) (fun e => ?_)
  · rw [if_pos ⟨t2, j2⟩] at h
    rw [nI_add]
    have key : wpY_bestParameter post (g_maxPairs, nI b, g_capacity, nI n, g_number, g_length, g_frames, g_position, g_skipped, g_held, g_missing, e_left, e_right, e_owner, e_masks, e_frameNumber, e_frameSize, e_frameForm, e_frameType0, e_frameType1, e_frameLeft, e_frameRight) (nI (sgO (bfm b l r n) c)) (nI (bT b l r n (sgO (bfm b l r n) c) - 2 + 2)) (nI (2 ^ bP b l r n (sgO (bfm b l r n) c) + (f - 3))) := ybp h1 h2 hr hn0 hn F (sgO_lt _ _) (by omega) p2 j2 (tb_off et t2) h
    rw [show bT b l r n (sgO (bfm b l r n) c) - 2 + 2 = bT b l r n (sgO (bfm b l r n) c) from by omega] at key
    exact key
  · rw [if_neg (fun z => by omega)] at h; exact h
end
end
section
/-! the relation -/
def RC (bl b cp n nx L fc pos : Nat) : Prop := 4 ≤ bl ∧ bl ≤ 16 ∧ 4 ≤ b ∧ b ≤ 12 ∧ cp ≤ 256 ∧ n ≤ bl ∧ nx < 128 ∧ L ≤ cp ∧ fc ≤ 16 ∧ pos ≤ L
def RP (b n : Nat) (D Lf Rt : Nat → Int32) (l r : Nat → Int) : Prop := rng b l r n ∧ DF D l r n ∧ YF Lf Rt l r n
def FRM (b : Nat) (O : Nat → Nat) (s z : Nat) (fN fS fF f0 f1 : Int32) (FL FR : Nat → Int32) : Prop := ∃ (num n fm : Nat) (l r : Nat → Int), (fN = nI num ∧ fS = nI n ∧ fF = nI fm ∧ f0 = nI (bT b l r n (sgO fm 0)) ∧ f1 = nI (bT b l r n (sgO fm 1))) ∧ (∀ t, t < n → FL t = iI (l t) ∧ FR t = iI (r t)) ∧ (num < 128 ∧ fm ≤ 3 ∧ 1 ≤ n ∧ n ≤ 16) ∧ rng b l r n ∧ (O (s + 2) = num ∧ O (s + 4) = fm * 16 + (n - 1) ∧ fbt b l r n fm ≤ 7 * (z - 10)) ∧ ∀ i, i < z - 10 → O (s + 7 + i) = pk7 (enF b l r n fm) i
def RS (b L fc : Nat) (str masks own starts lens alt fN fS fF f0 f1 FL FR : Nat → Int32) : Prop := ∃ M O S N : Nat → Nat, LY own alt M O L fc S N ∧ (∀ q, q < L → masks q = nI (M q) ∧ str q = nI (O q ^^^ M q)) ∧ ∀ f, f < fc → starts f = nI (S f) ∧ lens f = nI (N f) ∧ FRM b O (S f) (N f) (fN f) (fS f) (fF f) (f0 f) (f1 f) (fun t => FL (f * 16 + t)) (fun t => FR (f * 16 + t))
def RH (fc : Nat) (held hN hS hF h0 h1 hM : Int32) (hSm : Nat → Int32) (gh gm : Int32) (fN fS fF f0 f1 FL FR : Nat → Int32) : Prop := (held = 0 ∧ gh = -1) ∨ (held = 1 ∧ ∃ h, h < fc ∧ gh = nI h ∧ hN = fN h ∧ hS = fS h ∧ hF = fF h ∧ h0 = f0 h ∧ h1 = f1 h ∧ hM = gm ∧ ∀ t, t < 16 → nI t < fS h → hSm t = FL (h * 16 + t) ∧ hSm (16 + t) = FR (h * 16 + t))
section
variable {f_blockLimit f_sampleBits f_capacity f_count f_nextFrame f_planned f_bestForm f_length f_frameCount f_writeByte f_writeMask f_readByte f_readMask f_readEnd f_decodedType0 f_decodedType1 f_position f_skipped f_held f_heldNumber f_heldSize f_heldForm f_heldType0 f_heldType1 f_heldMissing : Int32}
variable {a_differences a_bestBits a_bestType a_bestPartition a_bestParameter a_stream a_masks a_owner a_starts a_lengths a_alteredByte a_decoded a_heldSamples : Nat → Int32}
variable {g_maxPairs g_width g_capacity g_n g_number g_length g_frames g_position g_skipped g_held g_missing : Int32}
variable {e_left e_right e_owner e_masks e_frameNumber e_frameSize e_frameForm e_frameType0 e_frameType1 e_frameLeft e_frameRight : Nat → Int32}
variable {bl b cp n nx L fc pos k : Nat} {l r : Nat → Int}
def i_Rel (k : Nat) (u : SX) (v : SY) : Prop := match u, v with
  | (f_blockLimit, f_sampleBits, f_capacity, f_count, f_nextFrame, f_planned, f_bestForm, f_length, f_frameCount, f_writeByte, f_writeMask, f_readByte, f_readMask, f_readEnd, f_decodedType0, f_decodedType1, f_position, f_skipped, f_held, f_heldNumber, f_heldSize, f_heldForm, f_heldType0, f_heldType1, f_heldMissing, a_differences, a_bestBits, a_bestType, a_bestPartition, a_bestParameter, a_stream, a_masks, a_owner, a_starts, a_lengths, a_alteredByte, a_decoded, a_heldSamples), (g_maxPairs, g_width, g_capacity, g_n, g_number, g_length, g_frames, g_position, g_skipped, g_held, g_missing, e_left, e_right, e_owner, e_masks, e_frameNumber, e_frameSize, e_frameForm, e_frameType0, e_frameType1, e_frameLeft, e_frameRight) => ∃ (bl b cp n nx L fc pos : Nat) (l r : Nat → Int), (f_blockLimit = nI bl ∧ f_sampleBits = nI b ∧ f_capacity = nI cp ∧ f_count = nI n ∧ f_nextFrame = nI nx ∧ f_length = nI L ∧ f_frameCount = nI fc ∧ f_position = nI pos) ∧ (g_maxPairs = nI bl ∧ g_width = nI b ∧ g_capacity = nI cp ∧ g_n = nI n ∧ g_number = nI nx ∧ g_length = nI L ∧ g_frames = nI fc ∧ g_position = nI pos) ∧ (g_skipped = f_skipped ∧ e_owner = a_owner ∧ e_masks = a_masks) ∧ RC bl b cp n nx L fc pos ∧ RP b n a_differences e_left e_right l r ∧ (f_planned = 0 ∨ (f_planned = 1 ∧ PLN b l r n f_bestForm a_bestBits a_bestType a_bestPartition a_bestParameter)) ∧ RS b L fc a_stream a_masks a_owner a_starts a_lengths a_alteredByte e_frameNumber e_frameSize e_frameForm e_frameType0 e_frameType1 e_frameLeft e_frameRight ∧ RH fc f_held f_heldNumber f_heldSize f_heldForm f_heldType0 f_heldType1 f_heldMissing a_heldSamples g_held g_missing e_frameNumber e_frameSize e_frameForm e_frameType0 e_frameType1 e_frameLeft e_frameRight
theorem zz_in (hc : RC bl b cp n nx L fc pos) (hp : RP b n a_differences e_left e_right l r) (hq : (f_planned = 0 ∨ (f_planned = 1 ∧ PLN b l r n f_bestForm a_bestBits a_bestType a_bestPartition a_bestParameter))) (hs : RS b L fc a_stream a_masks a_owner a_starts a_lengths a_alteredByte e_frameNumber e_frameSize e_frameForm e_frameType0 e_frameType1 e_frameLeft e_frameRight) (hh : RH fc f_held f_heldNumber f_heldSize f_heldForm f_heldType0 f_heldType1 f_heldMissing a_heldSamples g_held g_missing e_frameNumber e_frameSize e_frameForm e_frameType0 e_frameType1 e_frameLeft e_frameRight) : i_Rel k (nI bl, nI b, nI cp, nI n, nI nx, f_planned, f_bestForm, nI L, nI fc, f_writeByte, f_writeMask, f_readByte, f_readMask, f_readEnd, f_decodedType0, f_decodedType1, nI pos, f_skipped, f_held, f_heldNumber, f_heldSize, f_heldForm, f_heldType0, f_heldType1, f_heldMissing, a_differences, a_bestBits, a_bestType, a_bestPartition, a_bestParameter, a_stream, a_masks, a_owner, a_starts, a_lengths, a_alteredByte, a_decoded, a_heldSamples) (nI bl, nI b, nI cp, nI n, nI nx, nI L, nI fc, nI pos, f_skipped, g_held, g_missing, e_left, e_right, a_owner, a_masks, e_frameNumber, e_frameSize, e_frameForm, e_frameType0, e_frameType1, e_frameLeft, e_frameRight) := ⟨bl, b, cp, n, nx, L, fc, pos, l, r, ⟨rfl, rfl, rfl, rfl, rfl, rfl, rfl, rfl⟩, ⟨rfl, rfl, rfl, rfl, rfl, rfl, rfl, rfl⟩, ⟨rfl, rfl, rfl⟩, hc, hp, hq, hs, hh⟩
theorem zz_el {P : SX → SY → Prop} {u : SX} {v : SY} (H : ∀ {bl b cp n nx L fc pos : Nat} {l r : Nat → Int} {f_planned f_bestForm f_writeByte f_writeMask f_readByte f_readMask f_readEnd f_decodedType0 f_decodedType1 f_skipped f_held f_heldNumber f_heldSize f_heldForm f_heldType0 f_heldType1 f_heldMissing g_held g_missing : Int32} {a_differences a_bestBits a_bestType a_bestPartition a_bestParameter a_stream a_masks a_owner a_starts a_lengths a_alteredByte a_decoded a_heldSamples e_left e_right e_frameNumber e_frameSize e_frameForm e_frameType0 e_frameType1 e_frameLeft e_frameRight : Nat → Int32}, RC bl b cp n nx L fc pos → RP b n a_differences e_left e_right l r → (f_planned = 0 ∨ (f_planned = 1 ∧ PLN b l r n f_bestForm a_bestBits a_bestType a_bestPartition a_bestParameter)) → RS b L fc a_stream a_masks a_owner a_starts a_lengths a_alteredByte e_frameNumber e_frameSize e_frameForm e_frameType0 e_frameType1 e_frameLeft e_frameRight → RH fc f_held f_heldNumber f_heldSize f_heldForm f_heldType0 f_heldType1 f_heldMissing a_heldSamples g_held g_missing e_frameNumber e_frameSize e_frameForm e_frameType0 e_frameType1 e_frameLeft e_frameRight → P (nI bl, nI b, nI cp, nI n, nI nx, f_planned, f_bestForm, nI L, nI fc, f_writeByte, f_writeMask, f_readByte, f_readMask, f_readEnd, f_decodedType0, f_decodedType1, nI pos, f_skipped, f_held, f_heldNumber, f_heldSize, f_heldForm, f_heldType0, f_heldType1, f_heldMissing, a_differences, a_bestBits, a_bestType, a_bestPartition, a_bestParameter, a_stream, a_masks, a_owner, a_starts, a_lengths, a_alteredByte, a_decoded, a_heldSamples) (nI bl, nI b, nI cp, nI n, nI nx, nI L, nI fc, nI pos, f_skipped, g_held, g_missing, e_left, e_right, a_owner, a_masks, e_frameNumber, e_frameSize, e_frameForm, e_frameType0, e_frameType1, e_frameLeft, e_frameRight)) (I : i_Rel k u v) : P u v := by
  obtain ⟨f_blockLimit, f_sampleBits, f_capacity, f_count, f_nextFrame, f_planned, f_bestForm, f_length, f_frameCount, f_writeByte, f_writeMask, f_readByte, f_readMask, f_readEnd, f_decodedType0, f_decodedType1, f_position, f_skipped, f_held, f_heldNumber, f_heldSize, f_heldForm, f_heldType0, f_heldType1, f_heldMissing, a_differences, a_bestBits, a_bestType, a_bestPartition, a_bestParameter, a_stream, a_masks, a_owner, a_starts, a_lengths, a_alteredByte, a_decoded, a_heldSamples⟩ := u
  obtain ⟨g_maxPairs, g_width, g_capacity, g_n, g_number, g_length, g_frames, g_position, g_skipped, g_held, g_missing, e_left, e_right, e_owner, e_masks, e_frameNumber, e_frameSize, e_frameForm, e_frameType0, e_frameType1, e_frameLeft, e_frameRight⟩ := v
  obtain ⟨bl, b, cp, n, nx, L, fc, pos, l, r, ⟨rfl, rfl, rfl, rfl, rfl, rfl, rfl, rfl⟩, ⟨rfl, rfl, rfl, rfl, rfl, rfl, rfl, rfl⟩, ⟨rfl, rfl, rfl⟩, hc, hp, hq, hs, hh⟩ := I
  exact H hc hp hq hs hh
theorem i_up {k : Nat} {u : SX} {v : SY} (h : i_Rel k u v) : i_Rel (k + 5) u v := h
end
end
section
/-! the plain queries -/
section
variable {own alt : Nat → Int32} {M O S N : Nat → Nat} {L fc : Nat}
theorem own_iff (h : LY own alt M O L fc S N) (hfc : fc ≤ 16) {f q : Nat} (hq : q < L) (hf : f < fc) : own q = nI f ↔ inF S N f q := by
  obtain ⟨hF, hord, hown, _, _⟩ := h
  rcases hown q hq with ⟨e, _, _, no⟩ | ⟨g, hg, e, ig⟩
  · constructor
    · intro x
      rw [e] at x
      exact absurd x.symm (zi_m1lt (by omega))
    · intro x; exact absurd x (no f hf)
  · constructor
    · intro x
      rw [e, nI_eq (by omega) (by omega)] at x
      rw [← x]; exact ig
    · intro x
      rcases Nat.lt_trichotomy f g with y | y | y
      · have := hord f g y hg; have := x.2; have := ig.1; omega
      · rw [y]; exact e
      · have := hord g f y hf; have := ig.2; have := x.1; omega
theorem ly_sz (h : LY own alt M O L fc S N) {f : Nat} (hf : f < fc) : 12 ≤ N f ∧ N f < 128 ∧ S f + N f ≤ L := ⟨(h.1 f hf).1.1, (h.1 f hf).1.2.1, (h.1 f hf).2⟩
end
section
variable {g_maxPairs g_width g_capacity g_n g_number g_length g_frames g_position g_skipped g_held g_missing : Int32}
variable {e_left e_right e_owner e_masks e_frameNumber e_frameSize e_frameForm e_frameType0 e_frameType1 e_frameLeft e_frameRight : Nat → Int32}
variable {post : Int32 → Prop} {alt : Nat → Int32} {M O S N : Nat → Nat} {L fc : Nat}
theorem yfs (hY : LY e_owner alt M O L fc S N) (hfc : fc ≤ 16) (hL : L ≤ 256) {f : Nat} (hf : f < fc) (h : post (nI (S f))) : wpY_frameStart post (g_maxPairs, g_width, g_capacity, g_n, g_number, nI L, nI fc, g_position, g_skipped, g_held, g_missing, e_left, e_right, e_owner, e_masks, e_frameNumber, e_frameSize, e_frameForm, e_frameType0, e_frameType1, e_frameLeft, e_frameRight) (nI f) := by
  have sz := ly_sz hY hf
  have lp : ∀ d fuel q, q + d = S f → d < fuel → wY_frameStart_16 post (nI f) g_maxPairs g_width g_capacity g_n g_number (nI L) (nI fc) g_position g_skipped g_held g_missing e_left e_right e_owner e_masks e_frameNumber e_frameSize e_frameForm e_frameType0 e_frameType1 e_frameLeft e_frameRight fuel (nI q) := by
    intro d
    induction d with
    | zero =>
      intro fuel q h1 h2
      obtain ⟨fuel, rfl⟩ : ∃ z, fuel = z + 1 := ⟨fuel - 1, by omega⟩
      have o := (own_iff hY hfc (q := q) (by omega) hf).mpr ⟨by omega, by omega⟩
      refine br_f (nI_ge (by omega) (by omega)) ⟨vp_in_nI (by omega) (by omega), ?_⟩
      rw [nI_clamp (by omega)]
      refine br_t o ?_
      rw [show q = S f from by omega]
      exact h
    | succ d ih =>
      intro fuel q h1 h2
      obtain ⟨fuel, rfl⟩ : ∃ z, fuel = z + 1 := ⟨fuel - 1, by omega⟩
      refine br_f (nI_ge (by omega) (by omega)) ⟨vp_in_nI (by omega) (by omega), ?_⟩
      rw [nI_clamp (by omega)]
      refine br_f (fun z => ?_) (nm_r (nI_1 q) (ih fuel (q + 1) (by omega) (by omega)))
      have := (own_iff hY hfc (q := q) (by omega) hf).mp z
      have := this.1
      omega
  unfold wpY_frameStart
  dsimp only
  exact br_f (nI_pos (by omega)) (br_t (nI_lt hf (by omega)) ⟨S f + 1, lp (S f) (S f + 1) 0 (by omega) (by omega)⟩)
theorem yfl (hY : LY e_owner alt M O L fc S N) (hfc : fc ≤ 16) (hL : L ≤ 256) {f : Nat} (hf : f < fc) (h : post (nI (N f))) : wpY_frameLength post (g_maxPairs, g_width, g_capacity, g_n, g_number, nI L, nI fc, g_position, g_skipped, g_held, g_missing, e_left, e_right, e_owner, e_masks, e_frameNumber, e_frameSize, e_frameForm, e_frameType0, e_frameType1, e_frameLeft, e_frameRight) (nI f) := by
  have sz := ly_sz hY hf
  have lp : ∀ d fuel q acc, q + d = L → d < fuel → acc = min q (S f + N f) - S f → wY_frameLength_18 post (nI f) g_maxPairs g_width g_capacity g_n g_number (nI L) (nI fc) g_position g_skipped g_held g_missing e_left e_right e_owner e_masks e_frameNumber e_frameSize e_frameForm e_frameType0 e_frameType1 e_frameLeft e_frameRight fuel (nI acc) (nI q) := by
    intro d
    induction d with
    | zero =>
      intro fuel q acc h1 h2 h3
      obtain ⟨fuel, rfl⟩ : ∃ z, fuel = z + 1 := ⟨fuel - 1, by omega⟩
      refine br_t (nI_le (by omega) (by omega)) ?_
      rw [show acc = N f from by omega]
      exact h
    | succ d ih =>
      intro fuel q acc h1 h2 h3
      obtain ⟨fuel, rfl⟩ : ∃ z, fuel = z + 1 := ⟨fuel - 1, by omega⟩
      have oi := own_iff hY hfc (q := q) (by omega) hf
      refine br_f (nI_ge (by omega) (by omega)) ⟨vp_in_nI (by omega) (by omega), ?_⟩
      rw [nI_clamp (by omega)]
      refine br_c (fun c => nm_r (nI_1 acc) (nm_r (nI_1 q) (ih fuel (q + 1) (acc + 1) (by omega) (by omega) ?_))) (fun c => nm_r (nI_1 q) (ih fuel (q + 1) acc (by omega) (by omega) ?_))
      · have c1 := (oi.mp c).1
        have c2 := (oi.mp c).2
        omega
      · have nc : ¬ (S f ≤ q ∧ q < S f + N f) := fun z => c (oi.mpr z)
        omega
  unfold wpY_frameLength
  dsimp only
  exact br_f (nI_pos (by omega)) (br_t (nI_lt hf (by omega)) ⟨L + 1, lp L (L + 1) 0 0 (by omega) (by omega) (by omega)⟩)
theorem yund (hY : LY e_owner alt M O L fc S N) (hM : ∀ q, q < L → e_masks q = nI (M q)) (hfc : fc ≤ 16) (hL : L ≤ 256) {f : Nat} (hf : f < fc) (h1 : und S N M f → post 1) (h0 : ¬ und S N M f → post 0) : wpY_undamaged post (g_maxPairs, g_width, g_capacity, g_n, g_number, nI L, g_frames, g_position, g_skipped, g_held, g_missing, e_left, e_right, e_owner, e_masks, e_frameNumber, e_frameSize, e_frameForm, e_frameType0, e_frameType1, e_frameLeft, e_frameRight) (nI f) := by
  have sz := ly_sz hY hf
  have lp : ∀ d fuel q, q + d = L → d < fuel → (∀ i, inF S N f i → i < q → M i = 0) → wY_undamaged_2 post (nI f) g_maxPairs g_width g_capacity g_n g_number (nI L) g_frames g_position g_skipped g_held g_missing e_left e_right e_owner e_masks e_frameNumber e_frameSize e_frameForm e_frameType0 e_frameType1 e_frameLeft e_frameRight fuel (nI q) := by
    intro d
    induction d with
    | zero =>
      intro fuel q a1 a2 a3
      obtain ⟨fuel, rfl⟩ : ∃ z, fuel = z + 1 := ⟨fuel - 1, by omega⟩
      refine br_t (nI_le (by omega) (by omega)) (h1 (fun i hi => a3 i hi ?_))
      have := hi.2
      omega
    | succ d ih =>
      intro fuel q a1 a2 a3
      obtain ⟨fuel, rfl⟩ : ∃ z, fuel = z + 1 := ⟨fuel - 1, by omega⟩
      have oi := own_iff hY hfc (q := q) (by omega) hf
      have mq := hM q (by omega)
      have mb := (hY.2.2.2.1 q (by omega)).1
      refine br_f (nI_ge (by omega) (by omega)) ⟨vp_in_nI (by omega) (by omega), ?_⟩
      rw [nI_clamp (by omega), mq]
      refine br_c (fun c => ⟨vp_in_nI (by omega) (by omega), ?_⟩) (fun c => nm_r (nI_1 q) (ih fuel (q + 1) (by omega) (by omega) (fun i hi hq => ?_)))
      · refine pk_eq (M q) 0 (fun e => nm_r (nI_1 q) (ih fuel (q + 1) (by omega) (by omega) (fun i hi hq => ?_))) (fun e => h0 (fun u => e (u q (oi.mp c))))
        by_cases x : i = q
        · rw [x]; exact e
        · exact a3 i hi (by omega)
      · by_cases x : i = q
        · exact absurd (oi.mpr (x ▸ hi)) c
        · exact a3 i hi (by omega)
  unfold wpY_undamaged
  dsimp only
  exact ⟨L + 1, lp L (L + 1) 0 (by omega) (by omega) (fun i _ hi => by omega)⟩
end
section
variable {f_blockLimit f_sampleBits f_capacity f_count f_nextFrame f_planned f_bestForm f_length f_frameCount f_writeByte f_writeMask f_readByte f_readMask f_readEnd f_decodedType0 f_decodedType1 f_position f_skipped f_held f_heldNumber f_heldSize f_heldForm f_heldType0 f_heldType1 f_heldMissing : Int32}
variable {a_differences a_bestBits a_bestType a_bestPartition a_bestParameter a_stream a_masks a_owner a_starts a_lengths a_alteredByte a_decoded a_heldSamples : Nat → Int32}
variable {g_maxPairs g_width g_capacity g_n g_number g_length g_frames g_position g_skipped g_held g_missing : Int32}
variable {e_left e_right e_owner e_masks e_frameNumber e_frameSize e_frameForm e_frameType0 e_frameType1 e_frameLeft e_frameRight : Nat → Int32}
variable {bl b cp n nx L fc pos k : Nat} {l r : Nat → Int}
theorem vc_signalAt (hc : RC bl b cp n nx L fc pos) (hp : RP b n a_differences e_left e_right l r) (hq : (f_planned = 0 ∨ (f_planned = 1 ∧ PLN b l r n f_bestForm a_bestBits a_bestType a_bestPartition a_bestParameter))) (hs : RS b L fc a_stream a_masks a_owner a_starts a_lengths a_alteredByte e_frameNumber e_frameSize e_frameForm e_frameType0 e_frameType1 e_frameLeft e_frameRight) (hh : RH fc f_held f_heldNumber f_heldSize f_heldForm f_heldType0 f_heldType1 f_heldMissing a_heldSamples g_held g_missing e_frameNumber e_frameSize e_frameForm e_frameType0 e_frameType1 e_frameLeft e_frameRight) (v1 v2 : Int32) : wpX_signalAt (fun r => wpY_signalAt (fun r' => r' = r ∧ i_Rel k (nI bl, nI b, nI cp, nI n, nI nx, f_planned, f_bestForm, nI L, nI fc, f_writeByte, f_writeMask, f_readByte, f_readMask, f_readEnd, f_decodedType0, f_decodedType1, nI pos, f_skipped, f_held, f_heldNumber, f_heldSize, f_heldForm, f_heldType0, f_heldType1, f_heldMissing, a_differences, a_bestBits, a_bestType, a_bestPartition, a_bestParameter, a_stream, a_masks, a_owner, a_starts, a_lengths, a_alteredByte, a_decoded, a_heldSamples) (nI bl, nI b, nI cp, nI n, nI nx, nI L, nI fc, nI pos, f_skipped, g_held, g_missing, e_left, e_right, a_owner, a_masks, e_frameNumber, e_frameSize, e_frameForm, e_frameType0, e_frameType1, e_frameLeft, e_frameRight)) (nI bl, nI b, nI cp, nI n, nI nx, nI L, nI fc, nI pos, f_skipped, g_held, g_missing, e_left, e_right, a_owner, a_masks, e_frameNumber, e_frameSize, e_frameForm, e_frameType0, e_frameType1, e_frameLeft, e_frameRight) v1 v2) (nI bl, nI b, nI cp, nI n, nI nx, f_planned, f_bestForm, nI L, nI fc, f_writeByte, f_writeMask, f_readByte, f_readMask, f_readEnd, f_decodedType0, f_decodedType1, nI pos, f_skipped, f_held, f_heldNumber, f_heldSize, f_heldForm, f_heldType0, f_heldType1, f_heldMissing, a_differences, a_bestBits, a_bestType, a_bestPartition, a_bestParameter, a_stream, a_masks, a_owner, a_starts, a_lengths, a_alteredByte, a_decoded, a_heldSamples) v1 v2 := by
  have R : i_Rel k (nI bl, nI b, nI cp, nI n, nI nx, f_planned, f_bestForm, nI L, nI fc, f_writeByte, f_writeMask, f_readByte, f_readMask, f_readEnd, f_decodedType0, f_decodedType1, nI pos, f_skipped, f_held, f_heldNumber, f_heldSize, f_heldForm, f_heldType0, f_heldType1, f_heldMissing, a_differences, a_bestBits, a_bestType, a_bestPartition, a_bestParameter, a_stream, a_masks, a_owner, a_starts, a_lengths, a_alteredByte, a_decoded, a_heldSamples) (nI bl, nI b, nI cp, nI n, nI nx, nI L, nI fc, nI pos, f_skipped, g_held, g_missing, e_left, e_right, a_owner, a_masks, e_frameNumber, e_frameSize, e_frameForm, e_frameType0, e_frameType1, e_frameLeft, e_frameRight) := zz_in hc hp hq hs hh
  obtain ⟨c1, c2, c3, c4, c5, c6, c7, c8, c9, c10⟩ := hc
  obtain ⟨p1, p2, p3⟩ := hp
  by_cases a : v1 < 0
  · exact br_t a (br_t a ⟨rfl, R⟩)
  by_cases a2 : 3 < v1
  · exact br_f a (br_t a2 (br_f a (br_t a2 ⟨rfl, R⟩)))
  by_cases a3 : v2 < 0
  · exact br_f a (br_f a2 (br_t a3 (br_f a (br_f a2 (br_t a3 ⟨rfl, R⟩)))))
  by_cases a4 : v2 < nI n
  · obtain ⟨s, hs3, rfl⟩ := nI_of2 (M := 3) (n := 3) (by decide) a (Int32.not_lt.mp a2)
    obtain ⟨t, ht, rfl⟩ := nI_of a3
    rw [nI_ltI ht (by omega)] at a4
    refine br_f a (br_f a2 (br_f a3 (br_t (nI_lt a4 (by omega)) ?_)))
    refine xcell (o := 0) ?_
    refine ⟨vp_in_nI (by omega) (by omega), ?_⟩
    have e := p2 s 0 t (by omega) (by omega) (by omega) a4
    dsimp only
    rw [nI_clamp (by omega), e]
    exact ysig c3 c4 p1 (by omega) p3 (by omega) a4 ⟨rfl, R⟩
  · exact br_f a (br_f a2 (br_f a3 (br_f a4 (br_f a (br_f a2 (br_f a3 (br_f a4 ⟨rfl, R⟩)))))))
theorem vc_frameStart (hc : RC bl b cp n nx L fc pos) (hp : RP b n a_differences e_left e_right l r) (hq : (f_planned = 0 ∨ (f_planned = 1 ∧ PLN b l r n f_bestForm a_bestBits a_bestType a_bestPartition a_bestParameter))) (hs : RS b L fc a_stream a_masks a_owner a_starts a_lengths a_alteredByte e_frameNumber e_frameSize e_frameForm e_frameType0 e_frameType1 e_frameLeft e_frameRight) (hh : RH fc f_held f_heldNumber f_heldSize f_heldForm f_heldType0 f_heldType1 f_heldMissing a_heldSamples g_held g_missing e_frameNumber e_frameSize e_frameForm e_frameType0 e_frameType1 e_frameLeft e_frameRight) (v1 : Int32) : wpX_frameStart (fun r => wpY_frameStart (fun r' => r' = r ∧ i_Rel k (nI bl, nI b, nI cp, nI n, nI nx, f_planned, f_bestForm, nI L, nI fc, f_writeByte, f_writeMask, f_readByte, f_readMask, f_readEnd, f_decodedType0, f_decodedType1, nI pos, f_skipped, f_held, f_heldNumber, f_heldSize, f_heldForm, f_heldType0, f_heldType1, f_heldMissing, a_differences, a_bestBits, a_bestType, a_bestPartition, a_bestParameter, a_stream, a_masks, a_owner, a_starts, a_lengths, a_alteredByte, a_decoded, a_heldSamples) (nI bl, nI b, nI cp, nI n, nI nx, nI L, nI fc, nI pos, f_skipped, g_held, g_missing, e_left, e_right, a_owner, a_masks, e_frameNumber, e_frameSize, e_frameForm, e_frameType0, e_frameType1, e_frameLeft, e_frameRight)) (nI bl, nI b, nI cp, nI n, nI nx, nI L, nI fc, nI pos, f_skipped, g_held, g_missing, e_left, e_right, a_owner, a_masks, e_frameNumber, e_frameSize, e_frameForm, e_frameType0, e_frameType1, e_frameLeft, e_frameRight) v1) (nI bl, nI b, nI cp, nI n, nI nx, f_planned, f_bestForm, nI L, nI fc, f_writeByte, f_writeMask, f_readByte, f_readMask, f_readEnd, f_decodedType0, f_decodedType1, nI pos, f_skipped, f_held, f_heldNumber, f_heldSize, f_heldForm, f_heldType0, f_heldType1, f_heldMissing, a_differences, a_bestBits, a_bestType, a_bestPartition, a_bestParameter, a_stream, a_masks, a_owner, a_starts, a_lengths, a_alteredByte, a_decoded, a_heldSamples) v1 := by
  have R : i_Rel k (nI bl, nI b, nI cp, nI n, nI nx, f_planned, f_bestForm, nI L, nI fc, f_writeByte, f_writeMask, f_readByte, f_readMask, f_readEnd, f_decodedType0, f_decodedType1, nI pos, f_skipped, f_held, f_heldNumber, f_heldSize, f_heldForm, f_heldType0, f_heldType1, f_heldMissing, a_differences, a_bestBits, a_bestType, a_bestPartition, a_bestParameter, a_stream, a_masks, a_owner, a_starts, a_lengths, a_alteredByte, a_decoded, a_heldSamples) (nI bl, nI b, nI cp, nI n, nI nx, nI L, nI fc, nI pos, f_skipped, g_held, g_missing, e_left, e_right, a_owner, a_masks, e_frameNumber, e_frameSize, e_frameForm, e_frameType0, e_frameType1, e_frameLeft, e_frameRight) := zz_in hc hp hq hs hh
  obtain ⟨c1, c2, c3, c4, c5, c6, c7, c8, c9, c10⟩ := hc
  obtain ⟨M, O, S, N, hY, hM, hF⟩ := hs
  by_cases a : v1 < 0
  · exact br_t a (br_t a ⟨rfl, R⟩)
  obtain ⟨f, hf, rfl⟩ := nI_of a
  by_cases a2 : f < fc
  · refine br_f a (br_t (nI_lt a2 (by omega)) ⟨vp_in_nI (by omega) (by omega), ?_⟩)
    rw [nI_clamp hf, (hF f a2).1]
    exact yfs hY c9 (by omega) a2 ⟨rfl, R⟩
  · exact br_f a (br_f (nI_nlt (by omega) (by omega)) (br_f a (br_f (nI_nlt (by omega) (by omega)) ⟨rfl, R⟩)))
theorem vc_frameLength (hc : RC bl b cp n nx L fc pos) (hp : RP b n a_differences e_left e_right l r) (hq : (f_planned = 0 ∨ (f_planned = 1 ∧ PLN b l r n f_bestForm a_bestBits a_bestType a_bestPartition a_bestParameter))) (hs : RS b L fc a_stream a_masks a_owner a_starts a_lengths a_alteredByte e_frameNumber e_frameSize e_frameForm e_frameType0 e_frameType1 e_frameLeft e_frameRight) (hh : RH fc f_held f_heldNumber f_heldSize f_heldForm f_heldType0 f_heldType1 f_heldMissing a_heldSamples g_held g_missing e_frameNumber e_frameSize e_frameForm e_frameType0 e_frameType1 e_frameLeft e_frameRight) (v1 : Int32) : wpX_frameLength (fun r => wpY_frameLength (fun r' => r' = r ∧ i_Rel k (nI bl, nI b, nI cp, nI n, nI nx, f_planned, f_bestForm, nI L, nI fc, f_writeByte, f_writeMask, f_readByte, f_readMask, f_readEnd, f_decodedType0, f_decodedType1, nI pos, f_skipped, f_held, f_heldNumber, f_heldSize, f_heldForm, f_heldType0, f_heldType1, f_heldMissing, a_differences, a_bestBits, a_bestType, a_bestPartition, a_bestParameter, a_stream, a_masks, a_owner, a_starts, a_lengths, a_alteredByte, a_decoded, a_heldSamples) (nI bl, nI b, nI cp, nI n, nI nx, nI L, nI fc, nI pos, f_skipped, g_held, g_missing, e_left, e_right, a_owner, a_masks, e_frameNumber, e_frameSize, e_frameForm, e_frameType0, e_frameType1, e_frameLeft, e_frameRight)) (nI bl, nI b, nI cp, nI n, nI nx, nI L, nI fc, nI pos, f_skipped, g_held, g_missing, e_left, e_right, a_owner, a_masks, e_frameNumber, e_frameSize, e_frameForm, e_frameType0, e_frameType1, e_frameLeft, e_frameRight) v1) (nI bl, nI b, nI cp, nI n, nI nx, f_planned, f_bestForm, nI L, nI fc, f_writeByte, f_writeMask, f_readByte, f_readMask, f_readEnd, f_decodedType0, f_decodedType1, nI pos, f_skipped, f_held, f_heldNumber, f_heldSize, f_heldForm, f_heldType0, f_heldType1, f_heldMissing, a_differences, a_bestBits, a_bestType, a_bestPartition, a_bestParameter, a_stream, a_masks, a_owner, a_starts, a_lengths, a_alteredByte, a_decoded, a_heldSamples) v1 := by
  have R : i_Rel k (nI bl, nI b, nI cp, nI n, nI nx, f_planned, f_bestForm, nI L, nI fc, f_writeByte, f_writeMask, f_readByte, f_readMask, f_readEnd, f_decodedType0, f_decodedType1, nI pos, f_skipped, f_held, f_heldNumber, f_heldSize, f_heldForm, f_heldType0, f_heldType1, f_heldMissing, a_differences, a_bestBits, a_bestType, a_bestPartition, a_bestParameter, a_stream, a_masks, a_owner, a_starts, a_lengths, a_alteredByte, a_decoded, a_heldSamples) (nI bl, nI b, nI cp, nI n, nI nx, nI L, nI fc, nI pos, f_skipped, g_held, g_missing, e_left, e_right, a_owner, a_masks, e_frameNumber, e_frameSize, e_frameForm, e_frameType0, e_frameType1, e_frameLeft, e_frameRight) := zz_in hc hp hq hs hh
  obtain ⟨c1, c2, c3, c4, c5, c6, c7, c8, c9, c10⟩ := hc
  obtain ⟨M, O, S, N, hY, hM, hF⟩ := hs
  by_cases a : v1 < 0
  · exact br_t a (br_t a ⟨rfl, R⟩)
  obtain ⟨f, hf, rfl⟩ := nI_of a
  by_cases a2 : f < fc
  · refine br_f a (br_t (nI_lt a2 (by omega)) ⟨vp_in_nI (by omega) (by omega), ?_⟩)
    rw [nI_clamp hf, (hF f a2).2.1]
    exact yfl hY c9 (by omega) a2 ⟨rfl, R⟩
  · exact br_f a (br_f (nI_nlt (by omega) (by omega)) (br_f a (br_f (nI_nlt (by omega) (by omega)) ⟨rfl, R⟩)))
theorem vc_alteredAt (hc : RC bl b cp n nx L fc pos) (hp : RP b n a_differences e_left e_right l r) (hq : (f_planned = 0 ∨ (f_planned = 1 ∧ PLN b l r n f_bestForm a_bestBits a_bestType a_bestPartition a_bestParameter))) (hs : RS b L fc a_stream a_masks a_owner a_starts a_lengths a_alteredByte e_frameNumber e_frameSize e_frameForm e_frameType0 e_frameType1 e_frameLeft e_frameRight) (hh : RH fc f_held f_heldNumber f_heldSize f_heldForm f_heldType0 f_heldType1 f_heldMissing a_heldSamples g_held g_missing e_frameNumber e_frameSize e_frameForm e_frameType0 e_frameType1 e_frameLeft e_frameRight) (v1 : Int32) : wpX_alteredAt (fun r => wpY_alteredAt (fun r' => r' = r ∧ i_Rel k (nI bl, nI b, nI cp, nI n, nI nx, f_planned, f_bestForm, nI L, nI fc, f_writeByte, f_writeMask, f_readByte, f_readMask, f_readEnd, f_decodedType0, f_decodedType1, nI pos, f_skipped, f_held, f_heldNumber, f_heldSize, f_heldForm, f_heldType0, f_heldType1, f_heldMissing, a_differences, a_bestBits, a_bestType, a_bestPartition, a_bestParameter, a_stream, a_masks, a_owner, a_starts, a_lengths, a_alteredByte, a_decoded, a_heldSamples) (nI bl, nI b, nI cp, nI n, nI nx, nI L, nI fc, nI pos, f_skipped, g_held, g_missing, e_left, e_right, a_owner, a_masks, e_frameNumber, e_frameSize, e_frameForm, e_frameType0, e_frameType1, e_frameLeft, e_frameRight)) (nI bl, nI b, nI cp, nI n, nI nx, nI L, nI fc, nI pos, f_skipped, g_held, g_missing, e_left, e_right, a_owner, a_masks, e_frameNumber, e_frameSize, e_frameForm, e_frameType0, e_frameType1, e_frameLeft, e_frameRight) v1) (nI bl, nI b, nI cp, nI n, nI nx, f_planned, f_bestForm, nI L, nI fc, f_writeByte, f_writeMask, f_readByte, f_readMask, f_readEnd, f_decodedType0, f_decodedType1, nI pos, f_skipped, f_held, f_heldNumber, f_heldSize, f_heldForm, f_heldType0, f_heldType1, f_heldMissing, a_differences, a_bestBits, a_bestType, a_bestPartition, a_bestParameter, a_stream, a_masks, a_owner, a_starts, a_lengths, a_alteredByte, a_decoded, a_heldSamples) v1 := by
  have R : i_Rel k (nI bl, nI b, nI cp, nI n, nI nx, f_planned, f_bestForm, nI L, nI fc, f_writeByte, f_writeMask, f_readByte, f_readMask, f_readEnd, f_decodedType0, f_decodedType1, nI pos, f_skipped, f_held, f_heldNumber, f_heldSize, f_heldForm, f_heldType0, f_heldType1, f_heldMissing, a_differences, a_bestBits, a_bestType, a_bestPartition, a_bestParameter, a_stream, a_masks, a_owner, a_starts, a_lengths, a_alteredByte, a_decoded, a_heldSamples) (nI bl, nI b, nI cp, nI n, nI nx, nI L, nI fc, nI pos, f_skipped, g_held, g_missing, e_left, e_right, a_owner, a_masks, e_frameNumber, e_frameSize, e_frameForm, e_frameType0, e_frameType1, e_frameLeft, e_frameRight) := zz_in hc hp hq hs hh
  obtain ⟨c1, c2, c3, c4, c5, c6, c7, c8, c9, c10⟩ := hc
  by_cases a : v1 < 0
  · exact br_t a (br_t a ⟨rfl, R⟩)
  obtain ⟨f, hf, rfl⟩ := nI_of a
  by_cases a2 : f < L
  · exact br_f a (br_t (nI_lt a2 (by omega)) ⟨vp_in_nI (by omega) (by omega), br_f a (br_t (nI_lt a2 (by omega)) ⟨vp_in_nI (by omega) (by omega), rfl, R⟩)⟩)
  · exact br_f a (br_f (nI_nlt (by omega) (by omega)) (br_f a (br_f (nI_nlt (by omega) (by omega)) ⟨rfl, R⟩)))
theorem vc_seek (hc : RC bl b cp n nx L fc pos) (hp : RP b n a_differences e_left e_right l r) (hq : (f_planned = 0 ∨ (f_planned = 1 ∧ PLN b l r n f_bestForm a_bestBits a_bestType a_bestPartition a_bestParameter))) (hs : RS b L fc a_stream a_masks a_owner a_starts a_lengths a_alteredByte e_frameNumber e_frameSize e_frameForm e_frameType0 e_frameType1 e_frameLeft e_frameRight) (hh : RH fc f_held f_heldNumber f_heldSize f_heldForm f_heldType0 f_heldType1 f_heldMissing a_heldSamples g_held g_missing e_frameNumber e_frameSize e_frameForm e_frameType0 e_frameType1 e_frameLeft e_frameRight) (v1 : Int32) : wpX_seek (fun r u' => wpY_seek (fun r' v' => r' = r ∧ i_Rel k u' v') (nI bl, nI b, nI cp, nI n, nI nx, nI L, nI fc, nI pos, f_skipped, g_held, g_missing, e_left, e_right, a_owner, a_masks, e_frameNumber, e_frameSize, e_frameForm, e_frameType0, e_frameType1, e_frameLeft, e_frameRight) v1) (nI bl, nI b, nI cp, nI n, nI nx, f_planned, f_bestForm, nI L, nI fc, f_writeByte, f_writeMask, f_readByte, f_readMask, f_readEnd, f_decodedType0, f_decodedType1, nI pos, f_skipped, f_held, f_heldNumber, f_heldSize, f_heldForm, f_heldType0, f_heldType1, f_heldMissing, a_differences, a_bestBits, a_bestType, a_bestPartition, a_bestParameter, a_stream, a_masks, a_owner, a_starts, a_lengths, a_alteredByte, a_decoded, a_heldSamples) v1 := by
  by_cases a : v1 < 0
  · exact br_t a (br_t a ⟨rfl, zz_in hc hp hq hs hh⟩)
  obtain ⟨c1, c2, c3, c4, c5, c6, c7, c8, c9, c10⟩ := hc
  obtain ⟨f, hf, rfl⟩ := nI_of a
  by_cases a2 : f ≤ L
  · refine br_f a (br_t (nI_le a2 (by omega)) ?_)
    exact br_f a (br_t (nI_le a2 (by omega)) ⟨rfl, zz_in ⟨c1, c2, c3, c4, c5, c6, c7, c8, c9, a2⟩ hp hq hs (Or.inl ⟨rfl, rfl⟩)⟩)
  · exact br_f a (br_f (nI_ge (by omega) (by omega)) (br_f a (br_f (nI_ge (by omega) (by omega)) ⟨rfl, zz_in ⟨c1, c2, c3, c4, c5, c6, c7, c8, c9, c10⟩ hp hq hs hh⟩)))
theorem RS_0 {b : Nat} {str masks own starts lens alt fN fS fF f0 f1 FL FR : Nat → Int32} : RS b 0 0 str masks own starts lens alt fN fS fF f0 f1 FL FR := ⟨fun _ => 0, fun _ => 0, fun _ => 0, fun _ => 0, ⟨fun f hf => by omega, fun f g h1 h2 => by omega, fun q hq => by omega, fun q hq => by omega, fun f hf => by omega⟩, fun q hq => by omega, fun f hf => by omega⟩
theorem vc_clear (hc : RC bl b cp n nx L fc pos) (hp : RP b n a_differences e_left e_right l r) (hq : (f_planned = 0 ∨ (f_planned = 1 ∧ PLN b l r n f_bestForm a_bestBits a_bestType a_bestPartition a_bestParameter))) (hs : RS b L fc a_stream a_masks a_owner a_starts a_lengths a_alteredByte e_frameNumber e_frameSize e_frameForm e_frameType0 e_frameType1 e_frameLeft e_frameRight) (hh : RH fc f_held f_heldNumber f_heldSize f_heldForm f_heldType0 f_heldType1 f_heldMissing a_heldSamples g_held g_missing e_frameNumber e_frameSize e_frameForm e_frameType0 e_frameType1 e_frameLeft e_frameRight) : wpX_clear (fun u' => wpY_clear (fun v' => i_Rel k u' v') (nI bl, nI b, nI cp, nI n, nI nx, nI L, nI fc, nI pos, f_skipped, g_held, g_missing, e_left, e_right, a_owner, a_masks, e_frameNumber, e_frameSize, e_frameForm, e_frameType0, e_frameType1, e_frameLeft, e_frameRight)) (nI bl, nI b, nI cp, nI n, nI nx, f_planned, f_bestForm, nI L, nI fc, f_writeByte, f_writeMask, f_readByte, f_readMask, f_readEnd, f_decodedType0, f_decodedType1, nI pos, f_skipped, f_held, f_heldNumber, f_heldSize, f_heldForm, f_heldType0, f_heldType1, f_heldMissing, a_differences, a_bestBits, a_bestType, a_bestPartition, a_bestParameter, a_stream, a_masks, a_owner, a_starts, a_lengths, a_alteredByte, a_decoded, a_heldSamples) := by
  obtain ⟨c1, c2, c3, c4, c5, c6, c7, c8, c9, c10⟩ := hc
  unfold wpX_clear wpX_resetReader wpY_clear
  dsimp only
  exact zz_in (L := 0) (fc := 0) (pos := 0) ⟨c1, c2, c3, c4, c5, c6, c7, by omega, by omega, by omega⟩ hp hq RS_0 (Or.inl ⟨rfl, rfl⟩)
theorem RP_0 {b : Nat} {D Lf Rt : Nat → Int32} {l r : Nat → Int} : RP b 0 D Lf Rt l r := ⟨fun t ht => by omega, fun s o t _ _ _ ht => by omega, fun t ht => by omega⟩
theorem vc_discard (hc : RC bl b cp n nx L fc pos) (hp : RP b n a_differences e_left e_right l r) (hq : (f_planned = 0 ∨ (f_planned = 1 ∧ PLN b l r n f_bestForm a_bestBits a_bestType a_bestPartition a_bestParameter))) (hs : RS b L fc a_stream a_masks a_owner a_starts a_lengths a_alteredByte e_frameNumber e_frameSize e_frameForm e_frameType0 e_frameType1 e_frameLeft e_frameRight) (hh : RH fc f_held f_heldNumber f_heldSize f_heldForm f_heldType0 f_heldType1 f_heldMissing a_heldSamples g_held g_missing e_frameNumber e_frameSize e_frameForm e_frameType0 e_frameType1 e_frameLeft e_frameRight) : wpX_discard (fun r u' => wpY_discard (fun r' v' => r' = r ∧ i_Rel k u' v') (nI bl, nI b, nI cp, nI n, nI nx, nI L, nI fc, nI pos, f_skipped, g_held, g_missing, e_left, e_right, a_owner, a_masks, e_frameNumber, e_frameSize, e_frameForm, e_frameType0, e_frameType1, e_frameLeft, e_frameRight)) (nI bl, nI b, nI cp, nI n, nI nx, f_planned, f_bestForm, nI L, nI fc, f_writeByte, f_writeMask, f_readByte, f_readMask, f_readEnd, f_decodedType0, f_decodedType1, nI pos, f_skipped, f_held, f_heldNumber, f_heldSize, f_heldForm, f_heldType0, f_heldType1, f_heldMissing, a_differences, a_bestBits, a_bestType, a_bestPartition, a_bestParameter, a_stream, a_masks, a_owner, a_starts, a_lengths, a_alteredByte, a_decoded, a_heldSamples) := by
  obtain ⟨c1, c2, c3, c4, c5, c6, c7, c8, c9, c10⟩ := hc
  exact And.intro rfl (zz_in (n := 0) (l := l) (r := r) ⟨c1, c2, c3, c4, c5, by omega, c7, c8, c9, c10⟩ RP_0 (Or.inl rfl) hs hh)
theorem vc_readField (hc : RC bl b cp n nx L fc pos) (hp : RP b n a_differences e_left e_right l r) (hq : (f_planned = 0 ∨ (f_planned = 1 ∧ PLN b l r n f_bestForm a_bestBits a_bestType a_bestPartition a_bestParameter))) (hs : RS b L fc a_stream a_masks a_owner a_starts a_lengths a_alteredByte e_frameNumber e_frameSize e_frameForm e_frameType0 e_frameType1 e_frameLeft e_frameRight) (hh : RH fc f_held f_heldNumber f_heldSize f_heldForm f_heldType0 f_heldType1 f_heldMissing a_heldSamples g_held g_missing e_frameNumber e_frameSize e_frameForm e_frameType0 e_frameType1 e_frameLeft e_frameRight) (v1 : Int32) : wpX_readField (fun r => wpY_readField (fun r' => r' = r ∧ i_Rel k (nI bl, nI b, nI cp, nI n, nI nx, f_planned, f_bestForm, nI L, nI fc, f_writeByte, f_writeMask, f_readByte, f_readMask, f_readEnd, f_decodedType0, f_decodedType1, nI pos, f_skipped, f_held, f_heldNumber, f_heldSize, f_heldForm, f_heldType0, f_heldType1, f_heldMissing, a_differences, a_bestBits, a_bestType, a_bestPartition, a_bestParameter, a_stream, a_masks, a_owner, a_starts, a_lengths, a_alteredByte, a_decoded, a_heldSamples) (nI bl, nI b, nI cp, nI n, nI nx, nI L, nI fc, nI pos, f_skipped, g_held, g_missing, e_left, e_right, a_owner, a_masks, e_frameNumber, e_frameSize, e_frameForm, e_frameType0, e_frameType1, e_frameLeft, e_frameRight)) (nI bl, nI b, nI cp, nI n, nI nx, nI L, nI fc, nI pos, f_skipped, g_held, g_missing, e_left, e_right, a_owner, a_masks, e_frameNumber, e_frameSize, e_frameForm, e_frameType0, e_frameType1, e_frameLeft, e_frameRight) v1) (nI bl, nI b, nI cp, nI n, nI nx, f_planned, f_bestForm, nI L, nI fc, f_writeByte, f_writeMask, f_readByte, f_readMask, f_readEnd, f_decodedType0, f_decodedType1, nI pos, f_skipped, f_held, f_heldNumber, f_heldSize, f_heldForm, f_heldType0, f_heldType1, f_heldMissing, a_differences, a_bestBits, a_bestType, a_bestPartition, a_bestParameter, a_stream, a_masks, a_owner, a_starts, a_lengths, a_alteredByte, a_decoded, a_heldSamples) v1 := by
  have R : i_Rel k (nI bl, nI b, nI cp, nI n, nI nx, f_planned, f_bestForm, nI L, nI fc, f_writeByte, f_writeMask, f_readByte, f_readMask, f_readEnd, f_decodedType0, f_decodedType1, nI pos, f_skipped, f_held, f_heldNumber, f_heldSize, f_heldForm, f_heldType0, f_heldType1, f_heldMissing, a_differences, a_bestBits, a_bestType, a_bestPartition, a_bestParameter, a_stream, a_masks, a_owner, a_starts, a_lengths, a_alteredByte, a_decoded, a_heldSamples) (nI bl, nI b, nI cp, nI n, nI nx, nI L, nI fc, nI pos, f_skipped, g_held, g_missing, e_left, e_right, a_owner, a_masks, e_frameNumber, e_frameSize, e_frameForm, e_frameType0, e_frameType1, e_frameLeft, e_frameRight) := zz_in hc hp hq hs hh
  obtain ⟨c1, c2, c3, c4, c5, c6, c7, c8, c9, c10⟩ := hc
  by_cases a6 : v1 = 6
  · exact br_t a6 (br_t a6 ⟨rfl, R⟩)
  rcases hh with ⟨h0, g0⟩ | ⟨h1, h, hf, g1, e1, e2, e3, e4, e5, e6, e7⟩
  · exact br_f a6 (br_t h0 (br_f a6 (br_f (by rw [g0]; decide) ⟨rfl, R⟩)))
  · have ne : ¬ f_held = 0 := by rw [h1]; decide
    have ge : (0 : Int32) ≤ g_held := by rw [g1]; exact nI_pos' (by omega)
    have vi : vp_in g_held 16 := by rw [g1]; exact vp_in_nI (by omega) (by omega)
    have cl : g_held.toNatClampNeg = h := by rw [g1]; exact nI_clamp (by omega)
    refine br_f a6 (br_f ne ?_)
    by_cases b0 : v1 = 0
    · refine br_t b0 (br_f a6 (br_t ge (br_t b0 ⟨vi, ?_, R⟩)))
      rw [cl]; exact e1.symm
    by_cases b1 : v1 = 1
    · refine br_f b0 (br_t b1 (br_f a6 (br_t ge (br_f b0 (br_t b1 ⟨vi, ?_, R⟩)))))
      rw [cl]; exact e2.symm
    by_cases b2 : v1 = 2
    · refine br_f b0 (br_f b1 (br_t b2 (br_f a6 (br_t ge (br_f b0 (br_f b1 (br_t b2 ⟨vi, ?_, R⟩)))))))
      rw [cl]; exact e3.symm
    by_cases b3 : v1 = 3
    · refine br_f b0 (br_f b1 (br_f b2 (br_t b3 (br_f a6 (br_t ge (br_f b0 (br_f b1 (br_f b2 (br_t b3 ⟨vi, ?_, R⟩)))))))))
      rw [cl]; exact e4.symm
    by_cases b4 : v1 = 4
    · refine br_f b0 (br_f b1 (br_f b2 (br_f b3 (br_t b4 (br_f a6 (br_t ge (br_f b0 (br_f b1 (br_f b2 (br_f b3 (br_t b4 ⟨vi, ?_, R⟩)))))))))))
      rw [cl]; exact e5.symm
    by_cases b5 : v1 = 5
    · exact br_f b0 (br_f b1 (br_f b2 (br_f b3 (br_f b4 (br_t b5 (br_f a6 (br_t ge (br_f b0 (br_f b1 (br_f b2 (br_f b3 (br_f b4 (br_t b5 ⟨e6.symm, R⟩)))))))))))))
    · exact br_f b0 (br_f b1 (br_f b2 (br_f b3 (br_f b4 (br_f b5 (br_f a6 (br_t ge (br_f b0 (br_f b1 (br_f b2 (br_f b3 (br_f b4 (br_f b5 ⟨rfl, R⟩)))))))))))))
theorem vc_readSample (hc : RC bl b cp n nx L fc pos) (hp : RP b n a_differences e_left e_right l r) (hq : (f_planned = 0 ∨ (f_planned = 1 ∧ PLN b l r n f_bestForm a_bestBits a_bestType a_bestPartition a_bestParameter))) (hs : RS b L fc a_stream a_masks a_owner a_starts a_lengths a_alteredByte e_frameNumber e_frameSize e_frameForm e_frameType0 e_frameType1 e_frameLeft e_frameRight) (hh : RH fc f_held f_heldNumber f_heldSize f_heldForm f_heldType0 f_heldType1 f_heldMissing a_heldSamples g_held g_missing e_frameNumber e_frameSize e_frameForm e_frameType0 e_frameType1 e_frameLeft e_frameRight) (v1 v2 : Int32) : wpX_readSample (fun r => wpY_readSample (fun r' => r' = r ∧ i_Rel k (nI bl, nI b, nI cp, nI n, nI nx, f_planned, f_bestForm, nI L, nI fc, f_writeByte, f_writeMask, f_readByte, f_readMask, f_readEnd, f_decodedType0, f_decodedType1, nI pos, f_skipped, f_held, f_heldNumber, f_heldSize, f_heldForm, f_heldType0, f_heldType1, f_heldMissing, a_differences, a_bestBits, a_bestType, a_bestPartition, a_bestParameter, a_stream, a_masks, a_owner, a_starts, a_lengths, a_alteredByte, a_decoded, a_heldSamples) (nI bl, nI b, nI cp, nI n, nI nx, nI L, nI fc, nI pos, f_skipped, g_held, g_missing, e_left, e_right, a_owner, a_masks, e_frameNumber, e_frameSize, e_frameForm, e_frameType0, e_frameType1, e_frameLeft, e_frameRight)) (nI bl, nI b, nI cp, nI n, nI nx, nI L, nI fc, nI pos, f_skipped, g_held, g_missing, e_left, e_right, a_owner, a_masks, e_frameNumber, e_frameSize, e_frameForm, e_frameType0, e_frameType1, e_frameLeft, e_frameRight) v1 v2) (nI bl, nI b, nI cp, nI n, nI nx, f_planned, f_bestForm, nI L, nI fc, f_writeByte, f_writeMask, f_readByte, f_readMask, f_readEnd, f_decodedType0, f_decodedType1, nI pos, f_skipped, f_held, f_heldNumber, f_heldSize, f_heldForm, f_heldType0, f_heldType1, f_heldMissing, a_differences, a_bestBits, a_bestType, a_bestPartition, a_bestParameter, a_stream, a_masks, a_owner, a_starts, a_lengths, a_alteredByte, a_decoded, a_heldSamples) v1 v2 := by
  have R : i_Rel k (nI bl, nI b, nI cp, nI n, nI nx, f_planned, f_bestForm, nI L, nI fc, f_writeByte, f_writeMask, f_readByte, f_readMask, f_readEnd, f_decodedType0, f_decodedType1, nI pos, f_skipped, f_held, f_heldNumber, f_heldSize, f_heldForm, f_heldType0, f_heldType1, f_heldMissing, a_differences, a_bestBits, a_bestType, a_bestPartition, a_bestParameter, a_stream, a_masks, a_owner, a_starts, a_lengths, a_alteredByte, a_decoded, a_heldSamples) (nI bl, nI b, nI cp, nI n, nI nx, nI L, nI fc, nI pos, f_skipped, g_held, g_missing, e_left, e_right, a_owner, a_masks, e_frameNumber, e_frameSize, e_frameForm, e_frameType0, e_frameType1, e_frameLeft, e_frameRight) := zz_in hc hp hq hs hh
  obtain ⟨c1, c2, c3, c4, c5, c6, c7, c8, c9, c10⟩ := hc
  rcases hh with ⟨h0, g0⟩ | ⟨h1, h, hf, g1, e1, e2, e3, e4, e5, e6, e7⟩
  · exact br_t h0 (br_t (by rw [g0]; decide) ⟨rfl, R⟩)
  · have ne : ¬ f_held = 0 := by rw [h1]; decide
    have ge : ¬ g_held < 0 := by rw [g1]; exact nI_pos (by omega)
    have vi : vp_in g_held 16 := by rw [g1]; exact vp_in_nI (by omega) (by omega)
    have cl : g_held.toNatClampNeg = h := by rw [g1]; exact nI_clamp (by omega)
    obtain ⟨M, O, S, N, hY, hM, hF⟩ := hs
    obtain ⟨num, m, fm, l', r', ⟨q1, q2, q3, q4, q5⟩, q6, ⟨q7, q8, q9, q10⟩, q11⟩ := (hF h hf).2.2
    refine br_f ne ?_
    by_cases a : v1 < 0
    · exact br_t a (br_f ge (br_t a ⟨rfl, R⟩))
    by_cases a1 : 1 < v1
    · exact br_f a (br_t a1 (br_f ge (br_f a (br_f (Int32.not_le.mpr a1) ⟨rfl, R⟩))))
    by_cases a2 : v2 < 0
    · exact br_f a (br_f a1 (br_t a2 (br_f ge (br_f a (br_t (Int32.not_lt.mp a1) (br_t a2 ⟨rfl, R⟩))))))
    obtain ⟨t, ht, rfl⟩ := nI_of a2
    by_cases a3 : t < m
    · obtain ⟨c, hc1, rfl⟩ := nI_of2 (M := 1) (n := 1) (by decide) a (Int32.not_lt.mp a1)
      have lt : nI t < e_frameSize h := by rw [q2]; exact nI_lt a3 (by omega)
      have lt2 : nI t < f_heldSize := by rw [e2]; exact lt
      have s7 := e7 t (by omega) lt
      have ex : nI c * 16 + nI t = nI (c * 16 + t) := by
        show nI c * nI 16 + nI t = _
        rw [pk_mul, nI_add]
      have ey : nI h * 16 + nI t = nI (h * 16 + t) := by
        show nI h * nI 16 + nI t = _
        rw [pk_mul, nI_add]
      refine br_f a (br_f a1 (br_f a2 (br_t lt2 ?_)))
      rw [ex, nI_clamp (by omega)]
      refine ⟨vp_in_nI (by omega) (by omega), ?_⟩
      refine br_f ge (br_f a (br_t (Int32.not_lt.mp a1) (br_f a2 ⟨vi, ?_⟩)))
      rw [cl]
      refine br_t lt ?_
      rw [g1, ey, nI_clamp (by omega)]
      refine pk_eq c 0 (fun e => ⟨vp_in_nI (by omega) (by omega), ?_, ?_⟩) (fun e => ⟨vp_in_nI (by omega) (by omega), ?_, ?_⟩)
      · rw [e, Nat.zero_mul, Nat.zero_add]; exact s7.1.symm
      · rw [g1] at R; exact R
      · rw [show c * 16 + t = 16 + t from by omega]; exact s7.2.symm
      · rw [g1] at R; exact R
    · have nlt : ¬ nI t < e_frameSize h := by rw [q2]; exact nI_nlt (by omega) ht
      have nlt2 : ¬ nI t < f_heldSize := by rw [e2]; exact nlt
      refine br_f a (br_f a1 (br_f a2 (br_f nlt2 ?_)))
      refine br_f ge (br_f a (br_t (Int32.not_lt.mp a1) (br_f a2 ⟨vi, ?_⟩)))
      rw [cl]
      exact br_f nlt ⟨rfl, R⟩
end
end
section
/-! push, the cost queries, the plan queries -/
theorem dI_cong {x y : Nat → Int} : ∀ o t, (∀ i, i ≤ t → x i = y i) → dI x o t = dI y o t := by
  intro o
  induction o with
  | zero => intro t h; exact h t (Nat.le_refl _)
  | succ o ih =>
    intro t h
    simp only [dI]
    rw [ih t h, ih (t - 1) (fun i hi => h i (by omega))]
def SV (D : Nat → Int32) (x : Nat → Int) (s t o : Nat) : Prop := ∀ o' t', o' ≤ 4 → o' ≤ t' → (t' < t ∨ (t' = t ∧ o' < o)) → D ((s * 5 + o') * 16 + t') = iI (dI x o' t')
def SO (D D0 : Nat → Int32) (s : Nat) : Prop := ∀ i, i < s * 80 ∨ s * 80 + 80 ≤ i → D i = D0 i
section
variable {f_blockLimit f_sampleBits f_capacity f_count f_nextFrame f_planned f_bestForm f_length f_frameCount f_writeByte f_writeMask f_readByte f_readMask f_readEnd f_decodedType0 f_decodedType1 f_position f_skipped f_held f_heldNumber f_heldSize f_heldForm f_heldType0 f_heldType1 f_heldMissing : Int32}
variable {a_differences a_bestBits a_bestType a_bestPartition a_bestParameter a_stream a_masks a_owner a_starts a_lengths a_alteredByte a_decoded a_heldSamples : Nat → Int32}
variable {post : SX → Prop}
theorem xst_loop {x : Nat → Int} {s t : Nat} {D0 : Nat → Int32} (hs : s < 4) (ht : t < 16) (K : ∀ D, SV D x s (t + 1) 0 → SO D D0 s → post (f_blockLimit, f_sampleBits, f_capacity, f_count, f_nextFrame, f_planned, f_bestForm, f_length, f_frameCount, f_writeByte, f_writeMask, f_readByte, f_readMask, f_readEnd, f_decodedType0, f_decodedType1, f_position, f_skipped, f_held, f_heldNumber, f_heldSize, f_heldForm, f_heldType0, f_heldType1, f_heldMissing, D, a_bestBits, a_bestType, a_bestPartition, a_bestParameter, a_stream, a_masks, a_owner, a_starts, a_lengths, a_alteredByte, a_decoded, a_heldSamples)) : ∀ d fuel o v D, o + d = 5 → d < fuel → SV D x s t o → SO D D0 s → (o ≤ t → v = iI (dI x o t)) → wX_storeValue_6 post (nI s) (nI t) f_blockLimit f_sampleBits f_capacity f_count f_nextFrame f_planned f_bestForm f_length f_frameCount f_writeByte f_writeMask f_readByte f_readMask f_readEnd f_decodedType0 f_decodedType1 f_position f_skipped f_held f_heldNumber f_heldSize f_heldForm f_heldType0 f_heldType1 f_heldMissing fuel v (nI o) D a_bestBits a_bestType a_bestPartition a_bestParameter a_stream a_masks a_owner a_starts a_lengths a_alteredByte a_decoded a_heldSamples := by
  intro d
  induction d with
  | zero =>
    intro fuel o v D h1 h2 h3 h4 h5
    obtain ⟨fuel, rfl⟩ : ∃ z, fuel = z + 1 := ⟨fuel - 1, by omega⟩
    refine br_t (nI_lt (a := 4) (by omega) (by omega)) (K D (fun o' t' a1 a2 a3 => h3 o' t' a1 a2 (by omega)) h4)
  | succ d ih =>
    intro fuel o v D h1 h2 h3 h4 h5
    obtain ⟨fuel, rfl⟩ : ∃ z, fuel = z + 1 := ⟨fuel - 1, by omega⟩
    refine br_f (nI_nlt (a := 4) (by omega) (by omega)) ?_
    refine pk_lt t o (fun c => K D (fun o' t' a1 a2 a3 => h3 o' t' a1 a2 (by omega)) h4) (fun c => ?_)
    refine xcell ?_
    have hv := h5 c
    refine ⟨vp_in_nI (by omega) (by omega), fun D' eD => ?_⟩
    rw [nI_clamp (by omega)] at eD
    have sv : SV D' x s t (o + 1) := by
      intro o' t' a1 a2 a3
      rw [eD]
      by_cases e : o' = o ∧ t' = t
      · rw [e.1, e.2, pk_us]; exact hv
      · rw [pk_un (by omega)]; exact h3 o' t' a1 a2 (by omega)
    have so : SO D' D0 s := by
      intro i hi
      rw [eD, pk_un (by omega)]; exact h4 i hi
    refine pk_le t o (fun c2 => nm_r (nI_1 o) ?_) (fun c2 => ?_)
    · exact ih fuel (o + 1) v D' (by omega) (by omega) sv so (fun z => by omega)
    · have e1 : nI ((s * 5 + o) * 16 + t) - 1 = nI ((s * 5 + o) * 16 + t - 1) := pk_sub (b := 1) (by omega)
      rw [e1, nI_clamp (by omega)]
      refine ⟨vp_in_nI (by omega) (by omega), nm_e (nm_r (nI_1 o) ?_)⟩
      refine ih fuel (o + 1) _ D' (by omega) (by omega) sv so (fun _ => ?_)
      have := sv o (t - 1) (by omega) (by omega) (by omega)
      rw [show (s * 5 + o) * 16 + t - 1 = (s * 5 + o) * 16 + (t - 1) from by omega, this, hv, zi_sub]
      rfl
theorem xstore {x : Nat → Int} {s t : Nat} {v : Int32} (hs : s < 4) (ht : t < 16) (hv : v = iI (x t)) (h3 : SV a_differences x s t 0) (K : ∀ D, SV D x s (t + 1) 0 → SO D a_differences s → post (f_blockLimit, f_sampleBits, f_capacity, f_count, f_nextFrame, f_planned, f_bestForm, f_length, f_frameCount, f_writeByte, f_writeMask, f_readByte, f_readMask, f_readEnd, f_decodedType0, f_decodedType1, f_position, f_skipped, f_held, f_heldNumber, f_heldSize, f_heldForm, f_heldType0, f_heldType1, f_heldMissing, D, a_bestBits, a_bestType, a_bestPartition, a_bestParameter, a_stream, a_masks, a_owner, a_starts, a_lengths, a_alteredByte, a_decoded, a_heldSamples)) : wpX_storeValue post (f_blockLimit, f_sampleBits, f_capacity, f_count, f_nextFrame, f_planned, f_bestForm, f_length, f_frameCount, f_writeByte, f_writeMask, f_readByte, f_readMask, f_readEnd, f_decodedType0, f_decodedType1, f_position, f_skipped, f_held, f_heldNumber, f_heldSize, f_heldForm, f_heldType0, f_heldType1, f_heldMissing, a_differences, a_bestBits, a_bestType, a_bestPartition, a_bestParameter, a_stream, a_masks, a_owner, a_starts, a_lengths, a_alteredByte, a_decoded, a_heldSamples) (nI s) (nI t) v := by
  unfold wpX_storeValue
  dsimp only
  exact ⟨6, xst_loop hs ht K 5 6 0 v a_differences (by omega) (by omega) h3 (fun i _ => rfl) (fun _ => hv)⟩
end
theorem SV_keep {D D0 : Nat → Int32} {x : Nat → Int} {s s' t : Nat} (ht : t ≤ 16) (h : SV D0 x s t 0) (o : SO D D0 s') (ne : s ≠ s') : SV D x s t 0 := by
  intro o' t' a1 a2 a3
  rw [o _ (by omega)]
  exact h o' t' a1 a2 a3
theorem sg_put {l r : Nat → Int} {n : Nat} {z1 z2 : Int} (s : Nat) : (∀ i, i < n → sg (fun i => if i = n then z1 else l i) (fun i => if i = n then z2 else r i) s i = sg l r s i) ∧ sg (fun i => if i = n then z1 else l i) (fun i => if i = n then z2 else r i) s n = sg (fun _ => z1) (fun _ => z2) s 0 := by
  constructor
  · intro i hi
    unfold sg
    dsimp only
    rw [if_neg (show ¬ i = n from by omega), if_neg (show ¬ i = n from by omega)]
  · unfold sg
    dsimp only
    rw [if_pos rfl, if_pos rfl]
def okP (b : Nat) (z : Int) : Prop := -(2 ^ (b - 1)) ≤ z ∧ z < 2 ^ (b - 1)
theorem okP_i {b : Nat} {z : Int} (h1 : 4 ≤ b) (h2 : b ≤ 12) (l1 : -2147483648 ≤ z) (u1 : z < 2147483648) : ∃ x : Int32, (1 : Int32) <<< ((nI b - 1) &&& 31) = x ∧ (iI z < -x ↔ z < -(2 ^ (b - 1))) ∧ (x ≤ iI z ↔ 2 ^ (b - 1) ≤ z) ∧ (iI z < x ↔ z < 2 ^ (b - 1)) ∧ (x - 1 < iI z ↔ 2 ^ (b - 1) ≤ z) ∧ (iI z ≤ x - 1 ↔ z < 2 ^ (b - 1)) := by
  have pw := rng_pw h1 h2
  obtain ⟨H, hH⟩ : ∃ H : Nat, H = 2 ^ (b - 1) := ⟨_, rfl⟩
  have hHi : (H : Int) = 2 ^ (b - 1) := by rw [hH]; simp
  have eh : (1 : Int32) <<< ((nI b - 1) &&& 31) = nI H := by
    rw [show nI b - 1 = nI (b - 1) from pk_sub (b := 1) (by omega), zi_1shl (by omega), hH]
  have e1 : -nI H = iI (-(H : Int)) := by rw [← zi_n, zi_neg]
  have e2 : nI H - 1 = iI ((H : Int) - 1) := by rw [← zi_n]; exact zi_sub _ 1
  have e3 : nI H = iI (H : Int) := (zi_n H).symm
  rw [← hHi] at pw ⊢
  refine ⟨nI H, eh, ?_⟩
  rw [e1, e2, e3, zi_lt l1 u1 (by omega) (by omega), zi_le (by omega) (by omega) l1 u1, zi_lt l1 u1 (by omega) (by omega), zi_lt (by omega) (by omega) l1 u1, zi_le l1 u1 (by omega) (by omega)]
  refine ⟨Iff.rfl, Iff.rfl, Iff.rfl, ?_, ?_⟩ <;> omega
section
variable {g_maxPairs g_width g_capacity g_n g_number g_length g_frames g_position g_skipped g_held g_missing : Int32}
variable {e_left e_right e_owner e_masks e_frameNumber e_frameSize e_frameForm e_frameType0 e_frameType1 e_frameLeft e_frameRight : Nat → Int32}
variable {post : Int32 → SY → Prop} {b n bl : Nat} {z1 z2 : Int}
theorem ypush_no (h1 : 4 ≤ b) (h2 : b ≤ 12) (l1 : -2147483648 ≤ z1) (u1 : z1 < 2147483648) (l2 : -2147483648 ≤ z2) (u2 : z2 < 2147483648) (no : ¬ (okP b z1 ∧ okP b z2)) (h : post (-1) (g_maxPairs, nI b, g_capacity, g_n, g_number, g_length, g_frames, g_position, g_skipped, g_held, g_missing, e_left, e_right, e_owner, e_masks, e_frameNumber, e_frameSize, e_frameForm, e_frameType0, e_frameType1, e_frameLeft, e_frameRight)) : wpY_push post (g_maxPairs, nI b, g_capacity, g_n, g_number, g_length, g_frames, g_position, g_skipped, g_held, g_missing, e_left, e_right, e_owner, e_masks, e_frameNumber, e_frameSize, e_frameForm, e_frameType0, e_frameType1, e_frameLeft, e_frameRight) (iI z1) (iI z2) := by
  obtain ⟨x, ex, a1, a2, a3, a4, a5⟩ := okP_i h1 h2 l1 u1
  obtain ⟨y, ey, b1, b2, b3, b4, b5⟩ := okP_i h1 h2 l2 u2
  obtain rfl : x = y := ex.symm.trans ey
  unfold okP at no
  unfold wpY_push
  dsimp only
  refine nm_r ex ?_
  rw [a1, a4, b1, b5]
  refine br_c (fun _ => h) (fun d1 => br_c (fun _ => h) (fun d2 => br_c (fun _ => h) (fun d3 => br_c (fun d4 => absurd ?_ no) (fun _ => h))))
  omega
theorem ypush_full (h1 : 4 ≤ b) (h2 : b ≤ 12) (l1 : -2147483648 ≤ z1) (u1 : z1 < 2147483648) (l2 : -2147483648 ≤ z2) (u2 : z2 < 2147483648) (ok1 : okP b z1) (ok2 : okP b z2) (hn : bl ≤ n) (hn2 : n ≤ 16) (h : post (-2) (nI bl, nI b, g_capacity, nI n, g_number, g_length, g_frames, g_position, g_skipped, g_held, g_missing, e_left, e_right, e_owner, e_masks, e_frameNumber, e_frameSize, e_frameForm, e_frameType0, e_frameType1, e_frameLeft, e_frameRight)) : wpY_push post (nI bl, nI b, g_capacity, nI n, g_number, g_length, g_frames, g_position, g_skipped, g_held, g_missing, e_left, e_right, e_owner, e_masks, e_frameNumber, e_frameSize, e_frameForm, e_frameType0, e_frameType1, e_frameLeft, e_frameRight) (iI z1) (iI z2) := by
  obtain ⟨x, ex, a1, a2, a3, a4, a5⟩ := okP_i h1 h2 l1 u1
  obtain ⟨y, ey, b1, b2, b3, b4, b5⟩ := okP_i h1 h2 l2 u2
  obtain rfl : x = y := ex.symm.trans ey
  unfold okP at ok1 ok2
  unfold wpY_push
  dsimp only
  refine nm_r ex ?_
  rw [a1, a4, b1, b5]
  exact br_f (by omega) (br_f (by omega) (br_f (by omega) (br_t ok2.2 (br_f (nI_nlt hn (by omega)) h))))
theorem ypush_ok (h1 : 4 ≤ b) (h2 : b ≤ 12) (l1 : -2147483648 ≤ z1) (u1 : z1 < 2147483648) (l2 : -2147483648 ≤ z2) (u2 : z2 < 2147483648) (ok1 : okP b z1) (ok2 : okP b z2) (hn : n < bl) (hn2 : bl ≤ 16) (h : post (nI (n + 1)) (nI bl, nI b, g_capacity, nI (n + 1), g_number, g_length, g_frames, g_position, g_skipped, g_held, g_missing, upd e_left n (iI z1), upd e_right n (iI z2), e_owner, e_masks, e_frameNumber, e_frameSize, e_frameForm, e_frameType0, e_frameType1, e_frameLeft, e_frameRight)) : wpY_push post (nI bl, nI b, g_capacity, nI n, g_number, g_length, g_frames, g_position, g_skipped, g_held, g_missing, e_left, e_right, e_owner, e_masks, e_frameNumber, e_frameSize, e_frameForm, e_frameType0, e_frameType1, e_frameLeft, e_frameRight) (iI z1) (iI z2) := by
  obtain ⟨x, ex, a1, a2, a3, a4, a5⟩ := okP_i h1 h2 l1 u1
  obtain ⟨y, ey, b1, b2, b3, b4, b5⟩ := okP_i h1 h2 l2 u2
  obtain rfl : x = y := ex.symm.trans ey
  have vi : vp_in (nI n) 16 := vp_in_nI (by omega) (by omega)
  unfold okP at ok1 ok2
  unfold wpY_push
  dsimp only
  refine nm_r ex ?_
  rw [a1, a4, b1, b5, nI_clamp (by omega)]
  exact br_f (by omega) (br_f (by omega) (br_f (by omega) (br_t ok2.2 (br_t (nI_lt hn (by omega)) ⟨vi, nm_e ⟨vi, nm_e (nm_r (nI_1 n) h)⟩⟩))))
end
section
variable {f_blockLimit f_sampleBits f_capacity f_count f_nextFrame f_planned f_bestForm f_length f_frameCount f_writeByte f_writeMask f_readByte f_readMask f_readEnd f_decodedType0 f_decodedType1 f_position f_skipped f_held f_heldNumber f_heldSize f_heldForm f_heldType0 f_heldType1 f_heldMissing : Int32}
variable {a_differences a_bestBits a_bestType a_bestPartition a_bestParameter a_stream a_masks a_owner a_starts a_lengths a_alteredByte a_decoded a_heldSamples : Nat → Int32}
variable {post : Int32 → SX → Prop} {b n bl : Nat} {z1 z2 : Int} {l r : Nat → Int}
theorem xpush_no (h1 : 4 ≤ b) (h2 : b ≤ 12) (l1 : -2147483648 ≤ z1) (u1 : z1 < 2147483648) (l2 : -2147483648 ≤ z2) (u2 : z2 < 2147483648) (no : ¬ (okP b z1 ∧ okP b z2)) (h : post (-1) (f_blockLimit, nI b, f_capacity, f_count, f_nextFrame, f_planned, f_bestForm, f_length, f_frameCount, f_writeByte, f_writeMask, f_readByte, f_readMask, f_readEnd, f_decodedType0, f_decodedType1, f_position, f_skipped, f_held, f_heldNumber, f_heldSize, f_heldForm, f_heldType0, f_heldType1, f_heldMissing, a_differences, a_bestBits, a_bestType, a_bestPartition, a_bestParameter, a_stream, a_masks, a_owner, a_starts, a_lengths, a_alteredByte, a_decoded, a_heldSamples)) : wpX_push post (f_blockLimit, nI b, f_capacity, f_count, f_nextFrame, f_planned, f_bestForm, f_length, f_frameCount, f_writeByte, f_writeMask, f_readByte, f_readMask, f_readEnd, f_decodedType0, f_decodedType1, f_position, f_skipped, f_held, f_heldNumber, f_heldSize, f_heldForm, f_heldType0, f_heldType1, f_heldMissing, a_differences, a_bestBits, a_bestType, a_bestPartition, a_bestParameter, a_stream, a_masks, a_owner, a_starts, a_lengths, a_alteredByte, a_decoded, a_heldSamples) (iI z1) (iI z2) := by
  obtain ⟨x, ex, a1, a2, a3, a4, a5⟩ := okP_i h1 h2 l1 u1
  obtain ⟨y, ey, b1, b2, b3, b4, b5⟩ := okP_i h1 h2 l2 u2
  obtain rfl : x = y := ex.symm.trans ey
  unfold okP at no
  refine nm_r ex ?_
  rw [a1, a2, b1, b3]
  refine br_c (fun _ => h) (fun d1 => br_c (fun _ => h) (fun d2 => br_c (fun _ => h) (fun d3 => br_c (fun d4 => absurd ?_ no) (fun _ => h))))
  omega
theorem xpush_full (h1 : 4 ≤ b) (h2 : b ≤ 12) (l1 : -2147483648 ≤ z1) (u1 : z1 < 2147483648) (l2 : -2147483648 ≤ z2) (u2 : z2 < 2147483648) (ok1 : okP b z1) (ok2 : okP b z2) (hn : bl ≤ n) (hn2 : n ≤ 16) (h : post (-2) (nI bl, nI b, f_capacity, nI n, f_nextFrame, f_planned, f_bestForm, f_length, f_frameCount, f_writeByte, f_writeMask, f_readByte, f_readMask, f_readEnd, f_decodedType0, f_decodedType1, f_position, f_skipped, f_held, f_heldNumber, f_heldSize, f_heldForm, f_heldType0, f_heldType1, f_heldMissing, a_differences, a_bestBits, a_bestType, a_bestPartition, a_bestParameter, a_stream, a_masks, a_owner, a_starts, a_lengths, a_alteredByte, a_decoded, a_heldSamples)) : wpX_push post (nI bl, nI b, f_capacity, nI n, f_nextFrame, f_planned, f_bestForm, f_length, f_frameCount, f_writeByte, f_writeMask, f_readByte, f_readMask, f_readEnd, f_decodedType0, f_decodedType1, f_position, f_skipped, f_held, f_heldNumber, f_heldSize, f_heldForm, f_heldType0, f_heldType1, f_heldMissing, a_differences, a_bestBits, a_bestType, a_bestPartition, a_bestParameter, a_stream, a_masks, a_owner, a_starts, a_lengths, a_alteredByte, a_decoded, a_heldSamples) (iI z1) (iI z2) := by
  obtain ⟨x, ex, a1, a2, a3, a4, a5⟩ := okP_i h1 h2 l1 u1
  obtain ⟨y, ey, b1, b2, b3, b4, b5⟩ := okP_i h1 h2 l2 u2
  obtain rfl : x = y := ex.symm.trans ey
  unfold okP at ok1 ok2
  refine nm_r ex ?_
  rw [a1, a2, b1, b3]
  exact br_f (by omega) (br_f (by omega) (br_f (by omega) (br_t ok2.2 (br_f (nI_nlt hn (by omega)) h))))
theorem xpush_ok (h1 : 4 ≤ b) (h2 : b ≤ 12) (l1 : -2147483648 ≤ z1) (u1 : z1 < 2147483648) (l2 : -2147483648 ≤ z2) (u2 : z2 < 2147483648) (ok1 : okP b z1) (ok2 : okP b z2) (hn : n < bl) (hn2 : bl ≤ 16) (p2 : DF a_differences l r n) (h : ∀ D, DF D (fun i => if i = n then z1 else l i) (fun i => if i = n then z2 else r i) (n + 1) → post (nI (n + 1)) (nI bl, nI b, f_capacity, nI (n + 1), f_nextFrame, 0, f_bestForm, f_length, f_frameCount, f_writeByte, f_writeMask, f_readByte, f_readMask, f_readEnd, f_decodedType0, f_decodedType1, f_position, f_skipped, f_held, f_heldNumber, f_heldSize, f_heldForm, f_heldType0, f_heldType1, f_heldMissing, D, a_bestBits, a_bestType, a_bestPartition, a_bestParameter, a_stream, a_masks, a_owner, a_starts, a_lengths, a_alteredByte, a_decoded, a_heldSamples)) : wpX_push post (nI bl, nI b, f_capacity, nI n, f_nextFrame, f_planned, f_bestForm, f_length, f_frameCount, f_writeByte, f_writeMask, f_readByte, f_readMask, f_readEnd, f_decodedType0, f_decodedType1, f_position, f_skipped, f_held, f_heldNumber, f_heldSize, f_heldForm, f_heldType0, f_heldType1, f_heldMissing, a_differences, a_bestBits, a_bestType, a_bestPartition, a_bestParameter, a_stream, a_masks, a_owner, a_starts, a_lengths, a_alteredByte, a_decoded, a_heldSamples) (iI z1) (iI z2) := by
  obtain ⟨x, ex, a1, a2, a3, a4, a5⟩ := okP_i h1 h2 l1 u1
  obtain ⟨y, ey, b1, b2, b3, b4, b5⟩ := okP_i h1 h2 l2 u2
  obtain rfl : x = y := ex.symm.trans ey
  have pw := rng_pw h1 h2
  unfold okP at ok1 ok2
  have sgp := fun s => sg_put (l := l) (r := r) (n := n) (z1 := z1) (z2 := z2) s
  generalize (fun i => if i = n then z1 else l i) = l' at *
  generalize (fun i => if i = n then z2 else r i) = r' at *
  have sv0 : ∀ s, s < 4 → SV a_differences (sg l' r' s) s n 0 := by
    intro s hs o t a1 a2 a3
    rw [p2 s o t hs a1 a2 (by omega)]
    exact congrArg iI (dI_cong o t (fun i hi => ((sgp s).1 i (by omega)).symm))
  refine nm_r ex ?_
  rw [a1, a2, b1, b3]
  refine br_f (by omega) (br_f (by omega) (br_f (by omega) (br_t ok2.2 (br_t (nI_lt hn (by omega)) ?_))))
  refine xstore (s := 0) (x := sg l' r' 0) (by omega) (by omega) (by rw [(sgp 0).2]; rfl) (sv0 0 (by omega)) (fun D1 s1 o1 => ?_)
  refine xstore (s := 1) (x := sg l' r' 1) (by omega) (by omega) (by rw [(sgp 1).2]; rfl) (SV_keep (by omega) (sv0 1 (by omega)) o1 (by omega)) (fun D2 s2 o2 => ?_)
  refine xstore (s := 2) (x := sg l' r' 2) (by omega) (by omega) ?_ (SV_keep (by omega) (SV_keep (by omega) (sv0 2 (by omega)) o1 (by omega)) o2 (by omega)) (fun D3 s3 o3 => ?_)
  · rw [(sgp 2).2, zi_add]
    exact zi_shr (k := 1) (by omega) (by omega) (by omega)
  refine xstore (s := 3) (x := sg l' r' 3) (by omega) (by omega) ?_ (SV_keep (by omega) (SV_keep (by omega) (SV_keep (by omega) (sv0 3 (by omega)) o1 (by omega)) o2 (by omega)) o3 (by omega)) (fun D4 s4 o4 => ?_)
  · rw [(sgp 3).2, zi_sub]; rfl
  refine nm_r (nI_1 n) (h D4 ?_)
  intro s o t a1 a2 a3 a4
  have k1 : SV D4 (sg l' r' s) s (n + 1) 0 := by
    have : s = 0 ∨ s = 1 ∨ s = 2 ∨ s = 3 := by omega
    rcases this with rfl | rfl | rfl | rfl
    · exact SV_keep (by omega) (SV_keep (by omega) (SV_keep (by omega) s1 o2 (by omega)) o3 (by omega)) o4 (by omega)
    · exact SV_keep (by omega) (SV_keep (by omega) s2 o3 (by omega)) o4 (by omega)
    · exact SV_keep (by omega) s3 o4 (by omega)
    · exact s4
  exact k1 o t a2 a3 (Or.inl a4)
end
section
variable {f_blockLimit f_sampleBits f_capacity f_count f_nextFrame f_planned f_bestForm f_length f_frameCount f_writeByte f_writeMask f_readByte f_readMask f_readEnd f_decodedType0 f_decodedType1 f_position f_skipped f_held f_heldNumber f_heldSize f_heldForm f_heldType0 f_heldType1 f_heldMissing : Int32}
variable {a_differences a_bestBits a_bestType a_bestPartition a_bestParameter a_stream a_masks a_owner a_starts a_lengths a_alteredByte a_decoded a_heldSamples : Nat → Int32}
variable {g_maxPairs g_width g_capacity g_n g_number g_length g_frames g_position g_skipped g_held g_missing : Int32}
variable {e_left e_right e_owner e_masks e_frameNumber e_frameSize e_frameForm e_frameType0 e_frameType1 e_frameLeft e_frameRight : Nat → Int32}
variable {bl b cp n nx L fc pos k : Nat} {l r : Nat → Int}
theorem vc_push (hc : RC bl b cp n nx L fc pos) (hp : RP b n a_differences e_left e_right l r) (hq : (f_planned = 0 ∨ (f_planned = 1 ∧ PLN b l r n f_bestForm a_bestBits a_bestType a_bestPartition a_bestParameter))) (hs : RS b L fc a_stream a_masks a_owner a_starts a_lengths a_alteredByte e_frameNumber e_frameSize e_frameForm e_frameType0 e_frameType1 e_frameLeft e_frameRight) (hh : RH fc f_held f_heldNumber f_heldSize f_heldForm f_heldType0 f_heldType1 f_heldMissing a_heldSamples g_held g_missing e_frameNumber e_frameSize e_frameForm e_frameType0 e_frameType1 e_frameLeft e_frameRight) (v1 v2 : Int32) : wpX_push (fun r u' => wpY_push (fun r' v' => r' = r ∧ i_Rel k u' v') (nI bl, nI b, nI cp, nI n, nI nx, nI L, nI fc, nI pos, f_skipped, g_held, g_missing, e_left, e_right, a_owner, a_masks, e_frameNumber, e_frameSize, e_frameForm, e_frameType0, e_frameType1, e_frameLeft, e_frameRight) v1 v2) (nI bl, nI b, nI cp, nI n, nI nx, f_planned, f_bestForm, nI L, nI fc, f_writeByte, f_writeMask, f_readByte, f_readMask, f_readEnd, f_decodedType0, f_decodedType1, nI pos, f_skipped, f_held, f_heldNumber, f_heldSize, f_heldForm, f_heldType0, f_heldType1, f_heldMissing, a_differences, a_bestBits, a_bestType, a_bestPartition, a_bestParameter, a_stream, a_masks, a_owner, a_starts, a_lengths, a_alteredByte, a_decoded, a_heldSamples) v1 v2 := by
  have R : i_Rel k (nI bl, nI b, nI cp, nI n, nI nx, f_planned, f_bestForm, nI L, nI fc, f_writeByte, f_writeMask, f_readByte, f_readMask, f_readEnd, f_decodedType0, f_decodedType1, nI pos, f_skipped, f_held, f_heldNumber, f_heldSize, f_heldForm, f_heldType0, f_heldType1, f_heldMissing, a_differences, a_bestBits, a_bestType, a_bestPartition, a_bestParameter, a_stream, a_masks, a_owner, a_starts, a_lengths, a_alteredByte, a_decoded, a_heldSamples) (nI bl, nI b, nI cp, nI n, nI nx, nI L, nI fc, nI pos, f_skipped, g_held, g_missing, e_left, e_right, a_owner, a_masks, e_frameNumber, e_frameSize, e_frameForm, e_frameType0, e_frameType1, e_frameLeft, e_frameRight) := zz_in hc hp hq hs hh
  obtain ⟨c1, c2, c3, c4, c5, c6, c7, c8, c9, c10⟩ := hc
  obtain ⟨p1, p2, p3⟩ := hp
  obtain ⟨z1, l1, u1, hv1⟩ : ∃ z : Int, -2147483648 ≤ z ∧ z < 2147483648 ∧ v1 = iI z := ⟨v1.toInt, v1.le_toInt, v1.toInt_lt, zi_of v1⟩
  obtain ⟨z2, l2, u2, hv2⟩ : ∃ z : Int, -2147483648 ≤ z ∧ z < 2147483648 ∧ v2 = iI z := ⟨v2.toInt, v2.le_toInt, v2.toInt_lt, zi_of v2⟩
  subst hv1 hv2
  by_cases ok : okP b z1 ∧ okP b z2
  · by_cases hn : n < bl
    · refine xpush_ok c3 c4 l1 u1 l2 u2 ok.1 ok.2 hn c2 p2 (fun D hD => ?_)
      refine ypush_ok c3 c4 l1 u1 l2 u2 ok.1 ok.2 hn c2 ⟨rfl, ?_⟩
      refine zz_in (n := n + 1) (l := fun i => if i = n then z1 else l i) (r := fun i => if i = n then z2 else r i) ⟨c1, c2, c3, c4, c5, by omega, c7, c8, c9, c10⟩ ⟨?_, hD, ?_⟩ (Or.inl rfl) hs hh
      · intro t ht
        dsimp only
        by_cases e : t = n
        · rw [if_pos e, if_pos e]; exact ok
        · rw [if_neg e, if_neg e]; exact p1 t (by omega)
      · intro t ht
        dsimp only
        by_cases e : t = n
        · rw [e, pk_us, pk_us, if_pos rfl, if_pos rfl]; exact ⟨rfl, rfl⟩
        · rw [pk_un e, pk_un e, if_neg e, if_neg e]; exact p3 t (by omega)
    · refine xpush_full c3 c4 l1 u1 l2 u2 ok.1 ok.2 (by omega) (by omega) ?_
      exact ypush_full c3 c4 l1 u1 l2 u2 ok.1 ok.2 (by omega) (by omega) ⟨rfl, R⟩
  · refine xpush_no c3 c4 l1 u1 l2 u2 ok ?_
    exact ypush_no c3 c4 l1 u1 l2 u2 ok ⟨rfl, R⟩
end
end
section
/-! the cost queries and the plan queries -/
section
variable {f_blockLimit f_sampleBits f_capacity f_count f_nextFrame f_planned f_bestForm f_length f_frameCount f_writeByte f_writeMask f_readByte f_readMask f_readEnd f_decodedType0 f_decodedType1 f_position f_skipped f_held f_heldNumber f_heldSize f_heldForm f_heldType0 f_heldType1 f_heldMissing : Int32}
variable {a_differences a_bestBits a_bestType a_bestPartition a_bestParameter a_stream a_masks a_owner a_starts a_lengths a_alteredByte a_decoded a_heldSamples : Nat → Int32}
variable {b n : Nat} {l r : Nat → Int}
theorem x76 {post : Int32 → Prop} (h1 : 4 ≤ b) (h2 : b ≤ 12) (hr : rng b l r n) (hn : n ≤ 16) (D : DF a_differences l r n) {s o p j k : Nat} (hs : s < 4) (ho : o ≤ 4) (hp : p ≤ 2) (hj : j < 2 ^ p) (hk : k ≤ 14) (h : post (if n % 2 ^ p = 0 ∧ o ≤ n / 2 ^ p then nI (pc l r n s o p j k) else -1)) : wX_partBits_76 post (nI s) (nI (o + 2)) (nI (2 ^ p + j)) (nI k) (nI p) f_blockLimit f_sampleBits f_capacity (nI n) f_nextFrame f_planned f_bestForm f_length f_frameCount f_writeByte f_writeMask f_readByte f_readMask f_readEnd f_decodedType0 f_decodedType1 f_position f_skipped f_held f_heldNumber f_heldSize f_heldForm f_heldType0 f_heldType1 f_heldMissing a_differences a_bestBits a_bestType a_bestPartition a_bestParameter a_stream a_masks a_owner a_starts a_lengths a_alteredByte a_decoded a_heldSamples := by
  have p4 := p4 hp
  unfold wX_partBits_76
  refine nm_r (e' := nI o) (pk_sub (a := o + 2) (b := 2) (by omega)) ?_
  refine xfixed hn hp ho ?_
  by_cases c : n % 2 ^ p = 0 ∧ o ≤ n / 2 ^ p
  · rw [if_pos c] at h ⊢
    refine br_f (by decide) ?_
    rw [zi_1shl (by omega), pk_sub (by omega), show 2 ^ p + j - 2 ^ p = j from by omega]
    exact xpcost h1 h2 hr hn D hs ho hp c.2 hj hk h
  · rw [if_neg c] at h ⊢
    exact br_t rfl h
end
section
variable {f_blockLimit f_sampleBits f_capacity f_count f_nextFrame f_planned f_bestForm f_length f_frameCount f_writeByte f_writeMask f_readByte f_readMask f_readEnd f_decodedType0 f_decodedType1 f_position f_skipped f_held f_heldNumber f_heldSize f_heldForm f_heldType0 f_heldType1 f_heldMissing : Int32}
variable {a_differences a_bestBits a_bestType a_bestPartition a_bestParameter a_stream a_masks a_owner a_starts a_lengths a_alteredByte a_decoded a_heldSamples : Nat → Int32}
variable {g_maxPairs g_width g_capacity g_n g_number g_length g_frames g_position g_skipped g_held g_missing : Int32}
variable {e_left e_right e_owner e_masks e_frameNumber e_frameSize e_frameForm e_frameType0 e_frameType1 e_frameLeft e_frameRight : Nat → Int32}
variable {bl b cp n nx L fc pos k : Nat} {l r : Nat → Int}
theorem n_pos {n : Nat} (h : ¬ nI n = 0) : 1 ≤ n := by
  by_cases e : n = 0
  · subst e; exact absurd rfl h
  · omega
theorem vc_partBits (hc : RC bl b cp n nx L fc pos) (hp : RP b n a_differences e_left e_right l r) (hq : (f_planned = 0 ∨ (f_planned = 1 ∧ PLN b l r n f_bestForm a_bestBits a_bestType a_bestPartition a_bestParameter))) (hs : RS b L fc a_stream a_masks a_owner a_starts a_lengths a_alteredByte e_frameNumber e_frameSize e_frameForm e_frameType0 e_frameType1 e_frameLeft e_frameRight) (hh : RH fc f_held f_heldNumber f_heldSize f_heldForm f_heldType0 f_heldType1 f_heldMissing a_heldSamples g_held g_missing e_frameNumber e_frameSize e_frameForm e_frameType0 e_frameType1 e_frameLeft e_frameRight) (v1 v2 v3 v4 : Int32) : wpX_partBits (fun r => wpY_partBits (fun r' => r' = r ∧ i_Rel k (nI bl, nI b, nI cp, nI n, nI nx, f_planned, f_bestForm, nI L, nI fc, f_writeByte, f_writeMask, f_readByte, f_readMask, f_readEnd, f_decodedType0, f_decodedType1, nI pos, f_skipped, f_held, f_heldNumber, f_heldSize, f_heldForm, f_heldType0, f_heldType1, f_heldMissing, a_differences, a_bestBits, a_bestType, a_bestPartition, a_bestParameter, a_stream, a_masks, a_owner, a_starts, a_lengths, a_alteredByte, a_decoded, a_heldSamples) (nI bl, nI b, nI cp, nI n, nI nx, nI L, nI fc, nI pos, f_skipped, g_held, g_missing, e_left, e_right, a_owner, a_masks, e_frameNumber, e_frameSize, e_frameForm, e_frameType0, e_frameType1, e_frameLeft, e_frameRight)) (nI bl, nI b, nI cp, nI n, nI nx, nI L, nI fc, nI pos, f_skipped, g_held, g_missing, e_left, e_right, a_owner, a_masks, e_frameNumber, e_frameSize, e_frameForm, e_frameType0, e_frameType1, e_frameLeft, e_frameRight) v1 v2 v3 v4) (nI bl, nI b, nI cp, nI n, nI nx, f_planned, f_bestForm, nI L, nI fc, f_writeByte, f_writeMask, f_readByte, f_readMask, f_readEnd, f_decodedType0, f_decodedType1, nI pos, f_skipped, f_held, f_heldNumber, f_heldSize, f_heldForm, f_heldType0, f_heldType1, f_heldMissing, a_differences, a_bestBits, a_bestType, a_bestPartition, a_bestParameter, a_stream, a_masks, a_owner, a_starts, a_lengths, a_alteredByte, a_decoded, a_heldSamples) v1 v2 v3 v4 := by
  have R : i_Rel k (nI bl, nI b, nI cp, nI n, nI nx, f_planned, f_bestForm, nI L, nI fc, f_writeByte, f_writeMask, f_readByte, f_readMask, f_readEnd, f_decodedType0, f_decodedType1, nI pos, f_skipped, f_held, f_heldNumber, f_heldSize, f_heldForm, f_heldType0, f_heldType1, f_heldMissing, a_differences, a_bestBits, a_bestType, a_bestPartition, a_bestParameter, a_stream, a_masks, a_owner, a_starts, a_lengths, a_alteredByte, a_decoded, a_heldSamples) (nI bl, nI b, nI cp, nI n, nI nx, nI L, nI fc, nI pos, f_skipped, g_held, g_missing, e_left, e_right, a_owner, a_masks, e_frameNumber, e_frameSize, e_frameForm, e_frameType0, e_frameType1, e_frameLeft, e_frameRight) := zz_in hc hp hq hs hh
  obtain ⟨c1, c2, c3, c4, c5, c6, c7, c8, c9, c10⟩ := hc
  obtain ⟨p1, p2, p3⟩ := hp
  by_cases a0 : nI n = 0
  · exact br_t a0 (br_t a0 ⟨rfl, R⟩)
  refine br_f a0 ?_
  by_cases a1 : v1 < 0
  · exact br_t a1 (br_f a0 (br_t a1 ⟨rfl, R⟩))
  refine br_f a1 ?_
  by_cases a2 : 3 < v1
  · exact br_t a2 (br_f a0 (br_f a1 (br_t a2 ⟨rfl, R⟩)))
  refine br_f a2 ?_
  by_cases a3 : v2 < 2
  · exact br_t a3 (br_f a0 (br_f a1 (br_f a2 (br_t a3 ⟨rfl, R⟩))))
  refine br_f a3 ?_
  by_cases a4 : v2 ≤ 6
  rotate_left
  · exact br_f a4 (br_f a0 (br_f a1 (br_f a2 (br_f a3 (br_f a4 ⟨rfl, R⟩)))))
  refine br_t a4 ?_
  by_cases a5 : v3 < 1
  · exact br_t a5 (br_f a0 (br_f a1 (br_f a2 (br_f a3 (br_t a4 (br_t a5 ⟨rfl, R⟩))))))
  refine br_f a5 ?_
  by_cases a6 : 7 < v3
  · exact br_t a6 (br_f a0 (br_f a1 (br_f a2 (br_f a3 (br_t a4 (br_f a5 (br_t a6 ⟨rfl, R⟩)))))))
  refine br_f a6 ?_
  by_cases a7 : v4 < 0
  · exact br_t a7 (br_f a0 (br_f a1 (br_f a2 (br_f a3 (br_t a4 (br_f a5 (br_f a6 (br_t a7 ⟨rfl, R⟩))))))))
  refine br_f a7 ?_
  by_cases a8 : v4 ≤ 14
  rotate_left
  · exact br_f a8 (br_f a0 (br_f a1 (br_f a2 (br_f a3 (br_t a4 (br_f a5 (br_f a6 (br_f a7 (br_f a8 ⟨rfl, R⟩)))))))))
  refine br_t a8 ?_
  have hn0 := n_pos a0
  obtain ⟨s, hs3, rfl⟩ := nI_of2 (M := 3) (n := 3) (by decide) a1 (Int32.not_lt.mp a2)
  have q2 : ¬ v2 < 0 := fun z => a3 (Int32.lt_trans z (by decide))
  obtain ⟨ty, ht, rfl⟩ := nI_of2 (M := 6) (n := 6) (by decide) q2 a4
  have q3 : ¬ v3 < 0 := fun z => a5 (Int32.lt_trans z (by decide))
  obtain ⟨pl, hpl, rfl⟩ := nI_of2 (M := 7) (n := 7) (by decide) q3 (Int32.not_lt.mp a6)
  obtain ⟨kx, hk, rfl⟩ := nI_of2 (M := 14) (n := 14) (by decide) a7 a8
  have t2 : 2 ≤ ty := by
    by_cases x : 2 ≤ ty
    · exact x
    · exact absurd (nI_lt (b := 2) (by omega) (by omega)) a3
  have l1 : 1 ≤ pl := by
    by_cases x : 1 ≤ pl
    · exact x
    · exact absurd (nI_lt (b := 1) (by omega) (by omega)) a5
  obtain ⟨o, rfl⟩ : ∃ o, ty = o + 2 := ⟨ty - 2, by omega⟩
  have Y : ∀ p j, p ≤ 2 → j < 2 ^ p → pl = 2 ^ p + j → wpY_partBits (fun r' => r' = (if n % 2 ^ p = 0 ∧ o ≤ n / 2 ^ p then nI (pc l r n s o p j kx) else -1) ∧ i_Rel k (nI bl, nI b, nI cp, nI n, nI nx, f_planned, f_bestForm, nI L, nI fc, f_writeByte, f_writeMask, f_readByte, f_readMask, f_readEnd, f_decodedType0, f_decodedType1, nI pos, f_skipped, f_held, f_heldNumber, f_heldSize, f_heldForm, f_heldType0, f_heldType1, f_heldMissing, a_differences, a_bestBits, a_bestType, a_bestPartition, a_bestParameter, a_stream, a_masks, a_owner, a_starts, a_lengths, a_alteredByte, a_decoded, a_heldSamples) (nI bl, nI b, nI cp, nI n, nI nx, nI L, nI fc, nI pos, f_skipped, g_held, g_missing, e_left, e_right, a_owner, a_masks, e_frameNumber, e_frameSize, e_frameForm, e_frameType0, e_frameType1, e_frameLeft, e_frameRight)) (nI bl, nI b, nI cp, nI n, nI nx, nI L, nI fc, nI pos, f_skipped, g_held, g_missing, e_left, e_right, a_owner, a_masks, e_frameNumber, e_frameSize, e_frameForm, e_frameType0, e_frameType1, e_frameLeft, e_frameRight) (nI s) (nI (o + 2)) (nI pl) (nI kx) := by
    intro p j hp2 hj e
    rw [e]
    exact ypart c3 c4 p1 hn0 (by omega) p3 (by omega) (by omega) hp2 hj hk ⟨rfl, R⟩
  have X : ∀ p j, p ≤ 2 → j < 2 ^ p → pl = 2 ^ p + j → wX_partBits_76 (fun r => wpY_partBits (fun r' => r' = r ∧ i_Rel k (nI bl, nI b, nI cp, nI n, nI nx, f_planned, f_bestForm, nI L, nI fc, f_writeByte, f_writeMask, f_readByte, f_readMask, f_readEnd, f_decodedType0, f_decodedType1, nI pos, f_skipped, f_held, f_heldNumber, f_heldSize, f_heldForm, f_heldType0, f_heldType1, f_heldMissing, a_differences, a_bestBits, a_bestType, a_bestPartition, a_bestParameter, a_stream, a_masks, a_owner, a_starts, a_lengths, a_alteredByte, a_decoded, a_heldSamples) (nI bl, nI b, nI cp, nI n, nI nx, nI L, nI fc, nI pos, f_skipped, g_held, g_missing, e_left, e_right, a_owner, a_masks, e_frameNumber, e_frameSize, e_frameForm, e_frameType0, e_frameType1, e_frameLeft, e_frameRight)) (nI bl, nI b, nI cp, nI n, nI nx, nI L, nI fc, nI pos, f_skipped, g_held, g_missing, e_left, e_right, a_owner, a_masks, e_frameNumber, e_frameSize, e_frameForm, e_frameType0, e_frameType1, e_frameLeft, e_frameRight) (nI s) (nI (o + 2)) (nI pl) (nI kx)) (nI s) (nI (o + 2)) (nI pl) (nI kx) (nI p) (nI bl) (nI b) (nI cp) (nI n) (nI nx) f_planned f_bestForm (nI L) (nI fc) f_writeByte f_writeMask f_readByte f_readMask f_readEnd f_decodedType0 f_decodedType1 (nI pos) f_skipped f_held f_heldNumber f_heldSize f_heldForm f_heldType0 f_heldType1 f_heldMissing a_differences a_bestBits a_bestType a_bestPartition a_bestParameter a_stream a_masks a_owner a_starts a_lengths a_alteredByte a_decoded a_heldSamples := by
    intro p j hp2 hj e
    have y := Y p j hp2 hj e
    subst e
    exact x76 c3 c4 p1 (by omega) p2 (by omega) (by omega) hp2 hj hk y
  refine pk_lt pl 4 (fun d1 => ?_) (fun d1 => ?_)
  · refine pk_lt pl 2 (fun d2 => ?_) (fun d2 => ?_)
    · exact X 0 0 (by omega) (by decide) (by omega)
    · exact X 1 (pl - 2) (by omega) (by omega) (by omega)
  · exact X 2 (pl - 4) (by omega) (by omega) (by omega)
theorem vc_trialBits (hc : RC bl b cp n nx L fc pos) (hp : RP b n a_differences e_left e_right l r) (hq : (f_planned = 0 ∨ (f_planned = 1 ∧ PLN b l r n f_bestForm a_bestBits a_bestType a_bestPartition a_bestParameter))) (hs : RS b L fc a_stream a_masks a_owner a_starts a_lengths a_alteredByte e_frameNumber e_frameSize e_frameForm e_frameType0 e_frameType1 e_frameLeft e_frameRight) (hh : RH fc f_held f_heldNumber f_heldSize f_heldForm f_heldType0 f_heldType1 f_heldMissing a_heldSamples g_held g_missing e_frameNumber e_frameSize e_frameForm e_frameType0 e_frameType1 e_frameLeft e_frameRight) (v1 v2 v3 : Int32) : wpX_trialBits (fun r => wpY_trialBits (fun r' => r' = r ∧ i_Rel k (nI bl, nI b, nI cp, nI n, nI nx, f_planned, f_bestForm, nI L, nI fc, f_writeByte, f_writeMask, f_readByte, f_readMask, f_readEnd, f_decodedType0, f_decodedType1, nI pos, f_skipped, f_held, f_heldNumber, f_heldSize, f_heldForm, f_heldType0, f_heldType1, f_heldMissing, a_differences, a_bestBits, a_bestType, a_bestPartition, a_bestParameter, a_stream, a_masks, a_owner, a_starts, a_lengths, a_alteredByte, a_decoded, a_heldSamples) (nI bl, nI b, nI cp, nI n, nI nx, nI L, nI fc, nI pos, f_skipped, g_held, g_missing, e_left, e_right, a_owner, a_masks, e_frameNumber, e_frameSize, e_frameForm, e_frameType0, e_frameType1, e_frameLeft, e_frameRight)) (nI bl, nI b, nI cp, nI n, nI nx, nI L, nI fc, nI pos, f_skipped, g_held, g_missing, e_left, e_right, a_owner, a_masks, e_frameNumber, e_frameSize, e_frameForm, e_frameType0, e_frameType1, e_frameLeft, e_frameRight) v1 v2 v3) (nI bl, nI b, nI cp, nI n, nI nx, f_planned, f_bestForm, nI L, nI fc, f_writeByte, f_writeMask, f_readByte, f_readMask, f_readEnd, f_decodedType0, f_decodedType1, nI pos, f_skipped, f_held, f_heldNumber, f_heldSize, f_heldForm, f_heldType0, f_heldType1, f_heldMissing, a_differences, a_bestBits, a_bestType, a_bestPartition, a_bestParameter, a_stream, a_masks, a_owner, a_starts, a_lengths, a_alteredByte, a_decoded, a_heldSamples) v1 v2 v3 := by
  have R : i_Rel k (nI bl, nI b, nI cp, nI n, nI nx, f_planned, f_bestForm, nI L, nI fc, f_writeByte, f_writeMask, f_readByte, f_readMask, f_readEnd, f_decodedType0, f_decodedType1, nI pos, f_skipped, f_held, f_heldNumber, f_heldSize, f_heldForm, f_heldType0, f_heldType1, f_heldMissing, a_differences, a_bestBits, a_bestType, a_bestPartition, a_bestParameter, a_stream, a_masks, a_owner, a_starts, a_lengths, a_alteredByte, a_decoded, a_heldSamples) (nI bl, nI b, nI cp, nI n, nI nx, nI L, nI fc, nI pos, f_skipped, g_held, g_missing, e_left, e_right, a_owner, a_masks, e_frameNumber, e_frameSize, e_frameForm, e_frameType0, e_frameType1, e_frameLeft, e_frameRight) := zz_in hc hp hq hs hh
  obtain ⟨c1, c2, c3, c4, c5, c6, c7, c8, c9, c10⟩ := hc
  obtain ⟨p1, p2, p3⟩ := hp
  by_cases a0 : nI n = 0
  · exact br_t a0 (br_t a0 ⟨rfl, R⟩)
  refine br_f a0 ?_
  by_cases a1 : v1 < 0
  · exact br_t a1 (br_f a0 (br_t a1 ⟨rfl, R⟩))
  refine br_f a1 ?_
  by_cases a2 : 3 < v1
  · exact br_t a2 (br_f a0 (br_f a1 (br_t a2 ⟨rfl, R⟩)))
  refine br_f a2 ?_
  by_cases a3 : v2 < 0
  · exact br_t a3 (br_f a0 (br_f a1 (br_f a2 (br_t a3 ⟨rfl, R⟩))))
  refine br_f a3 ?_
  by_cases a4 : v2 ≤ 6
  rotate_left
  · exact br_f a4 (br_f a0 (br_f a1 (br_f a2 (br_f a3 (br_f a4 ⟨rfl, R⟩)))))
  refine br_t a4 ?_
  by_cases a5 : v3 < 0
  · exact br_t a5 (br_f a0 (br_f a1 (br_f a2 (br_f a3 (br_t a4 (br_t a5 ⟨rfl, R⟩))))))
  refine br_f a5 ?_
  by_cases a6 : v3 ≤ 2
  rotate_left
  · exact br_f a6 (br_f a0 (br_f a1 (br_f a2 (br_f a3 (br_t a4 (br_f a5 (br_f a6 ⟨rfl, R⟩)))))))
  refine br_t a6 ?_
  have hn0 := n_pos a0
  obtain ⟨s, hs3, rfl⟩ := nI_of2 (M := 3) (n := 3) (by decide) a1 (Int32.not_lt.mp a2)
  obtain ⟨ty, ht, rfl⟩ := nI_of2 (M := 6) (n := 6) (by decide) a3 a4
  obtain ⟨p, hp2, rfl⟩ := nI_of2 (M := 2) (n := 2) (by decide) a5 a6
  refine xsubbits c3 c4 p1 (by omega) p2 (by omega) ht hp2 ?_
  exact ytrial c3 c4 p1 hn0 (by omega) p3 (by omega) ht hp2 ⟨rfl, R⟩
theorem vc_planForm (hc : RC bl b cp n nx L fc pos) (hp : RP b n a_differences e_left e_right l r) (hq : (f_planned = 0 ∨ (f_planned = 1 ∧ PLN b l r n f_bestForm a_bestBits a_bestType a_bestPartition a_bestParameter))) (hs : RS b L fc a_stream a_masks a_owner a_starts a_lengths a_alteredByte e_frameNumber e_frameSize e_frameForm e_frameType0 e_frameType1 e_frameLeft e_frameRight) (hh : RH fc f_held f_heldNumber f_heldSize f_heldForm f_heldType0 f_heldType1 f_heldMissing a_heldSamples g_held g_missing e_frameNumber e_frameSize e_frameForm e_frameType0 e_frameType1 e_frameLeft e_frameRight) : wpX_planForm (fun r u' => wpY_planForm (fun r' => r' = r ∧ i_Rel k u' (nI bl, nI b, nI cp, nI n, nI nx, nI L, nI fc, nI pos, f_skipped, g_held, g_missing, e_left, e_right, a_owner, a_masks, e_frameNumber, e_frameSize, e_frameForm, e_frameType0, e_frameType1, e_frameLeft, e_frameRight)) (nI bl, nI b, nI cp, nI n, nI nx, nI L, nI fc, nI pos, f_skipped, g_held, g_missing, e_left, e_right, a_owner, a_masks, e_frameNumber, e_frameSize, e_frameForm, e_frameType0, e_frameType1, e_frameLeft, e_frameRight)) (nI bl, nI b, nI cp, nI n, nI nx, f_planned, f_bestForm, nI L, nI fc, f_writeByte, f_writeMask, f_readByte, f_readMask, f_readEnd, f_decodedType0, f_decodedType1, nI pos, f_skipped, f_held, f_heldNumber, f_heldSize, f_heldForm, f_heldType0, f_heldType1, f_heldMissing, a_differences, a_bestBits, a_bestType, a_bestPartition, a_bestParameter, a_stream, a_masks, a_owner, a_starts, a_lengths, a_alteredByte, a_decoded, a_heldSamples) := by
  by_cases a0 : nI n = 0
  · exact br_t a0 (br_t a0 ⟨rfl, zz_in hc hp hq hs hh⟩)
  have hn0 := n_pos a0
  have hc0 := hc
  have hp0 := hp
  obtain ⟨c1, c2, c3, c4, c5, c6, c7, c8, c9, c10⟩ := hc
  obtain ⟨p1, p2, p3⟩ := hp
  refine br_f a0 ?_
  refine xprep c3 c4 p1 hn0 (by omega) p2 hq (fun form BB BT BP BK P => ?_)
  refine yform c3 c4 p1 hn0 (by omega) p3 ⟨P.2.symm, ?_⟩
  exact zz_in hc0 hp0 (Or.inr ⟨rfl, P⟩) hs hh
theorem vc_planField (hc : RC bl b cp n nx L fc pos) (hp : RP b n a_differences e_left e_right l r) (hq : (f_planned = 0 ∨ (f_planned = 1 ∧ PLN b l r n f_bestForm a_bestBits a_bestType a_bestPartition a_bestParameter))) (hs : RS b L fc a_stream a_masks a_owner a_starts a_lengths a_alteredByte e_frameNumber e_frameSize e_frameForm e_frameType0 e_frameType1 e_frameLeft e_frameRight) (hh : RH fc f_held f_heldNumber f_heldSize f_heldForm f_heldType0 f_heldType1 f_heldMissing a_heldSamples g_held g_missing e_frameNumber e_frameSize e_frameForm e_frameType0 e_frameType1 e_frameLeft e_frameRight) (v1 v2 : Int32) : wpX_planField (fun r u' => wpY_planField (fun r' => r' = r ∧ i_Rel k u' (nI bl, nI b, nI cp, nI n, nI nx, nI L, nI fc, nI pos, f_skipped, g_held, g_missing, e_left, e_right, a_owner, a_masks, e_frameNumber, e_frameSize, e_frameForm, e_frameType0, e_frameType1, e_frameLeft, e_frameRight)) (nI bl, nI b, nI cp, nI n, nI nx, nI L, nI fc, nI pos, f_skipped, g_held, g_missing, e_left, e_right, a_owner, a_masks, e_frameNumber, e_frameSize, e_frameForm, e_frameType0, e_frameType1, e_frameLeft, e_frameRight) v1 v2) (nI bl, nI b, nI cp, nI n, nI nx, f_planned, f_bestForm, nI L, nI fc, f_writeByte, f_writeMask, f_readByte, f_readMask, f_readEnd, f_decodedType0, f_decodedType1, nI pos, f_skipped, f_held, f_heldNumber, f_heldSize, f_heldForm, f_heldType0, f_heldType1, f_heldMissing, a_differences, a_bestBits, a_bestType, a_bestPartition, a_bestParameter, a_stream, a_masks, a_owner, a_starts, a_lengths, a_alteredByte, a_decoded, a_heldSamples) v1 v2 := by
  have hc0 := hc
  have hp0 := hp
  have R : i_Rel k (nI bl, nI b, nI cp, nI n, nI nx, f_planned, f_bestForm, nI L, nI fc, f_writeByte, f_writeMask, f_readByte, f_readMask, f_readEnd, f_decodedType0, f_decodedType1, nI pos, f_skipped, f_held, f_heldNumber, f_heldSize, f_heldForm, f_heldType0, f_heldType1, f_heldMissing, a_differences, a_bestBits, a_bestType, a_bestPartition, a_bestParameter, a_stream, a_masks, a_owner, a_starts, a_lengths, a_alteredByte, a_decoded, a_heldSamples) (nI bl, nI b, nI cp, nI n, nI nx, nI L, nI fc, nI pos, f_skipped, g_held, g_missing, e_left, e_right, a_owner, a_masks, e_frameNumber, e_frameSize, e_frameForm, e_frameType0, e_frameType1, e_frameLeft, e_frameRight) := zz_in hc hp hq hs hh
  obtain ⟨c1, c2, c3, c4, c5, c6, c7, c8, c9, c10⟩ := hc
  obtain ⟨p1, p2, p3⟩ := hp
  by_cases a0 : nI n = 0
  · exact br_t a0 (br_t a0 ⟨rfl, R⟩)
  refine br_f a0 ?_
  by_cases a1 : v1 < 0
  · exact br_t a1 (br_f a0 (br_t a1 ⟨rfl, R⟩))
  refine br_f a1 ?_
  by_cases a2 : 1 < v1
  · exact br_t a2 (br_f a0 (br_f a1 (br_t a2 ⟨rfl, R⟩)))
  refine br_f a2 ?_
  by_cases a3 : v2 < 0
  · exact br_t a3 (br_f a0 (br_f a1 (br_f a2 (br_t a3 ⟨rfl, R⟩))))
  refine br_f a3 ?_
  by_cases a4 : v2 ≤ 6
  rotate_left
  · exact br_f a4 (br_f a0 (br_f a1 (br_f a2 (br_f a3 (br_f a4 ⟨rfl, R⟩)))))
  refine br_t a4 ?_
  have hn0 := n_pos a0
  obtain ⟨c, hc1, rfl⟩ := nI_of2 (M := 1) (n := 1) (by decide) a1 (Int32.not_lt.mp a2)
  obtain ⟨f, hf, rfl⟩ := nI_of2 (M := 6) (n := 6) (by decide) a3 a4
  clear R
  refine xprep c3 c4 p1 hn0 (by omega) p2 hq (fun form BB BT BP BK P => ?_)
  have Y : ∀ v, pfv b l r n c f = v → wpY_planField (fun r' => r' = v ∧ i_Rel k (nI bl, nI b, nI cp, nI n, nI nx, 1, form, nI L, nI fc, f_writeByte, f_writeMask, f_readByte, f_readMask, f_readEnd, f_decodedType0, f_decodedType1, nI pos, f_skipped, f_held, f_heldNumber, f_heldSize, f_heldForm, f_heldType0, f_heldType1, f_heldMissing, a_differences, BB, BT, BP, BK, a_stream, a_masks, a_owner, a_starts, a_lengths, a_alteredByte, a_decoded, a_heldSamples) (nI bl, nI b, nI cp, nI n, nI nx, nI L, nI fc, nI pos, f_skipped, g_held, g_missing, e_left, e_right, a_owner, a_masks, e_frameNumber, e_frameSize, e_frameForm, e_frameType0, e_frameType1, e_frameLeft, e_frameRight)) (nI bl, nI b, nI cp, nI n, nI nx, nI L, nI fc, nI pos, f_skipped, g_held, g_missing, e_left, e_right, a_owner, a_masks, e_frameNumber, e_frameSize, e_frameForm, e_frameType0, e_frameType1, e_frameLeft, e_frameRight) (nI c) (nI f) := by
    intro v hv
    exact yfield c3 c4 p1 hn0 (by omega) p3 hc1 hf ⟨hv, zz_in hc0 hp0 (Or.inr ⟨rfl, P⟩) hs hh⟩
  obtain ⟨P1, P2⟩ := P
  have sl := sgO_lt (bfm b l r n) c
  obtain ⟨P3, P4, P5, P6⟩ := P1 (sgO (bfm b l r n) c) sl
  have bl3 := bfm_le (b := b) (l := l) (r := r) (n := n)
  dsimp only
  rw [P2]
  rw [P2] at Y
  refine xchan (by omega) (by omega) ?_
  unfold pfv at Y
  refine pk_eq f 0 (fun e => ?_) (fun e0 => ?_)
  · rw [nI_clamp (by omega), P3]
    rw [if_pos e] at Y
    exact ⟨vp_in_nI sl (by omega), Y _ rfl⟩
  rw [if_neg e0] at Y
  refine pk_eq f 1 (fun e => ?_) (fun e1 => ?_)
  · rw [nI_clamp (by omega), P4]
    rw [if_pos e] at Y
    exact ⟨vp_in_nI sl (by omega), Y _ rfl⟩
  rw [if_neg e1] at Y
  refine pk_eq f 2 (fun e => ?_) (fun e2 => ?_)
  · rw [nI_clamp (by omega), P5]
    rw [if_pos e] at Y
    exact ⟨vp_in_nI sl (by omega), Y _ rfl⟩
  rw [if_neg e2] at Y
  have ei : nI (sgO (bfm b l r n) c) * 4 + nI f - 3 = nI (sgO (bfm b l r n) c * 4 + (f - 3)) := by
    show nI (sgO (bfm b l r n) c) * nI 4 + nI f - nI 3 = _
    rw [pk_mul, nI_add, pk_sub (by omega)]
    exact congrArg nI (by omega)
  rw [ei, nI_clamp (by omega), P6 (f - 3) (by omega)]
  exact ⟨vp_in_nI (by omega) (by omega), Y _ rfl⟩
end
end
section
/-! stray and alter -/
theorem und_cong {S N M S' N' M' : Nat → Nat} {f : Nat} (eS : S' f = S f) (eN : N' f = N f) (e : ∀ q, inF S N f q → M' q = M q) (h : und S N M f) : und S' N' M' f := by
  intro q hq
  have i : inF S N f q := by unfold inF at hq ⊢; rw [eS, eN] at hq; exact hq
  rw [e q i]; exact h q i
theorem alt1_cong {S N M S' N' M' : Nat → Nat} {f : Nat} {x : Int32} (eS : S' f = S f) (eN : N' f = N f) (e : ∀ q, inF S N f q → M' q = M q) (h : alt1 S N M f x) : alt1 S' N' M' f x := by
  rcases h with ⟨a, b⟩ | ⟨a, h1, h2, h3, h4⟩
  · exact Or.inl ⟨a, und_cong eS eN e b⟩
  · refine Or.inr ⟨a, ?_, h2, ?_, fun q hq hqa => ?_⟩
    · unfold inF at h1 ⊢; rw [eS, eN]; exact h1
    · rw [e a h1]; exact h3
    · have i : inF S N f q := by unfold inF at hq ⊢; rw [eS, eN] at hq; exact hq
      rw [e q i]; exact h4 q i hqa
theorem LY_ext {own own' alt alt' : Nat → Int32} {M M' O O' S S' N N' : Nat → Nat} {L fc : Nat} (h : LY own alt M O L fc S N) (e : ∀ q, q < L → own' q = own q ∧ M' q = M q ∧ O' q = O q) (e2 : ∀ f, f < fc → S' f = S f ∧ N' f = N f ∧ alt' f = alt f) : LY own' alt' M' O' L fc S' N' := by
  obtain ⟨h1, h2, h3, h4, h5⟩ := h
  refine ⟨fun f hf => ?_, fun f g hfg hg => ?_, fun q hq => ?_, fun q hq => ?_, fun f hf => ?_⟩
  · obtain ⟨a, b, _⟩ := e2 f hf
    obtain ⟨F, l⟩ := h1 f hf
    rw [a, b]
    exact ⟨FH_cong F (fun i hi => (e _ (by omega)).2.2), l⟩
  · rw [(e2 f (by omega)).1, (e2 f (by omega)).2.1, (e2 g hg).1]
    exact h2 f g hfg hg
  · obtain ⟨a, b, c⟩ := e q hq
    rcases h3 q hq with ⟨x1, x2, x3, x4⟩ | ⟨f, x1, x2, x3⟩
    · refine Or.inl ⟨a.trans x1, b.trans x2, by rw [c]; exact x3, fun f hf hi => x4 f hf ?_⟩
      unfold inF at hi ⊢
      rw [(e2 f hf).1, (e2 f hf).2.1] at hi
      exact hi
    · refine Or.inr ⟨f, x1, a.trans x2, ?_⟩
      unfold inF at x3 ⊢
      rw [(e2 f x1).1, (e2 f x1).2.1]
      exact x3
  · obtain ⟨a, b, c⟩ := e q hq
    rw [b, c]; exact h4 q hq
  · obtain ⟨a, b, c⟩ := e2 f hf
    rw [c]
    refine alt1_cong a b (fun q hq => (e q ?_).2.1) (h5 f hf)
    have := (h1 f hf).2
    have := hq.2
    omega
theorem LY_stray {own alt : Nat → Int32} {M O S N : Nat → Nat} {L fc : Nat} (h : LY own alt M O L fc S N) (a : own L = -1) (m : M L = 0) (o : O L < 128) : LY own alt M O (L + 1) fc S N := by
  obtain ⟨h1, h2, h3, h4, h5⟩ := h
  refine ⟨fun f hf => ⟨(h1 f hf).1, by have := (h1 f hf).2; omega⟩, h2, fun q hq => ?_, fun q hq => ?_, h5⟩
  · by_cases e : q = L
    · subst e
      refine Or.inl ⟨a, m, o, fun f hf hi => ?_⟩
      have := (h1 f hf).2
      have := hi.2
      omega
    · exact h3 q (by omega)
  · by_cases e : q = L
    · subst e; omega
    · exact h4 q (by omega)
theorem FRM_cong {b : Nat} {O O' : Nat → Nat} {s z : Nat} {fN fS fF f0 f1 : Int32} {FL FR : Nat → Int32} (hz : 12 ≤ z) (e : ∀ i, i < z → O' (s + i) = O (s + i)) (h : FRM b O s z fN fS fF f0 f1 FL FR) : FRM b O' s z fN fS fF f0 f1 FL FR := by
  obtain ⟨num, n, fm, l, r, a1, a2, a3, a4, ⟨b1, b2, b3⟩, a5⟩ := h
  refine ⟨num, n, fm, l, r, a1, a2, a3, a4, ⟨?_, ?_, b3⟩, fun i hi => ?_⟩
  · rw [e 2 (by omega)]; exact b1
  · rw [e 4 (by omega)]; exact b2
  · have := e (7 + i) (by omega)
    rw [← Nat.add_assoc] at this
    rw [this]; exact a5 i hi
section
variable {f_blockLimit f_sampleBits f_capacity f_count f_nextFrame f_planned f_bestForm f_length f_frameCount f_writeByte f_writeMask f_readByte f_readMask f_readEnd f_decodedType0 f_decodedType1 f_position f_skipped f_held f_heldNumber f_heldSize f_heldForm f_heldType0 f_heldType1 f_heldMissing : Int32}
variable {a_differences a_bestBits a_bestType a_bestPartition a_bestParameter a_stream a_masks a_owner a_starts a_lengths a_alteredByte a_decoded a_heldSamples : Nat → Int32}
variable {g_maxPairs g_width g_capacity g_n g_number g_length g_frames g_position g_skipped g_held g_missing : Int32}
variable {e_left e_right e_owner e_masks e_frameNumber e_frameSize e_frameForm e_frameType0 e_frameType1 e_frameLeft e_frameRight : Nat → Int32}
variable {bl b cp n nx L fc pos k : Nat} {l r : Nat → Int}
theorem RS_stray {v : Nat} (hL : L < 256) (hv : v < 128) (hs : RS b L fc a_stream a_masks a_owner a_starts a_lengths a_alteredByte e_frameNumber e_frameSize e_frameForm e_frameType0 e_frameType1 e_frameLeft e_frameRight) : RS b (L + 1) fc (upd a_stream L (nI v)) (upd a_masks L 0) (upd a_owner L (-1)) a_starts a_lengths a_alteredByte e_frameNumber e_frameSize e_frameForm e_frameType0 e_frameType1 e_frameLeft e_frameRight := by
  obtain ⟨M, O, S, N, hY, hM, hF⟩ := hs
  refine ⟨fun q => if q = L then 0 else M q, fun q => if q = L then v else O q, S, N, ?_, fun q hq => ?_, fun f hf => ?_⟩
  · refine LY_stray (LY_ext hY (fun q hq => ⟨?_, ?_, ?_⟩) (fun f hf => ⟨rfl, rfl, rfl⟩)) ?_ ?_ ?_
    · exact pk_un (by omega)
    · exact if_neg (by omega)
    · exact if_neg (by omega)
    · exact pk_us
    · exact if_pos rfl
    · show (if L = L then v else O L) < 128
      rw [if_pos rfl]; exact hv
  · dsimp only
    by_cases e : q = L
    · rw [e, pk_us, pk_us, if_pos rfl, if_pos rfl, Nat.xor_zero]; exact ⟨rfl, rfl⟩
    · rw [pk_un e, pk_un e, if_neg e, if_neg e]; exact hM q (by omega)
  · obtain ⟨a, b', c⟩ := hF f hf
    have sz := ly_sz hY hf
    exact ⟨a, b', FRM_cong sz.1 (fun i hi => if_neg (by omega)) c⟩
theorem vc_stray (hc : RC bl b cp n nx L fc pos) (hp : RP b n a_differences e_left e_right l r) (hq : (f_planned = 0 ∨ (f_planned = 1 ∧ PLN b l r n f_bestForm a_bestBits a_bestType a_bestPartition a_bestParameter))) (hs : RS b L fc a_stream a_masks a_owner a_starts a_lengths a_alteredByte e_frameNumber e_frameSize e_frameForm e_frameType0 e_frameType1 e_frameLeft e_frameRight) (hh : RH fc f_held f_heldNumber f_heldSize f_heldForm f_heldType0 f_heldType1 f_heldMissing a_heldSamples g_held g_missing e_frameNumber e_frameSize e_frameForm e_frameType0 e_frameType1 e_frameLeft e_frameRight) (v1 : Int32) : wpX_stray (fun r u' => wpY_stray (fun r' v' => r' = r ∧ i_Rel k u' v') (nI bl, nI b, nI cp, nI n, nI nx, nI L, nI fc, nI pos, f_skipped, g_held, g_missing, e_left, e_right, a_owner, a_masks, e_frameNumber, e_frameSize, e_frameForm, e_frameType0, e_frameType1, e_frameLeft, e_frameRight) v1) (nI bl, nI b, nI cp, nI n, nI nx, f_planned, f_bestForm, nI L, nI fc, f_writeByte, f_writeMask, f_readByte, f_readMask, f_readEnd, f_decodedType0, f_decodedType1, nI pos, f_skipped, f_held, f_heldNumber, f_heldSize, f_heldForm, f_heldType0, f_heldType1, f_heldMissing, a_differences, a_bestBits, a_bestType, a_bestPartition, a_bestParameter, a_stream, a_masks, a_owner, a_starts, a_lengths, a_alteredByte, a_decoded, a_heldSamples) v1 := by
  by_cases a : v1 < 0
  · exact br_t a (br_t a ⟨rfl, zz_in hc hp hq hs hh⟩)
  refine br_f a ?_
  by_cases a1 : v1 ≤ 127
  rotate_left
  · exact br_f a1 (br_f a (br_f a1 ⟨rfl, zz_in hc hp hq hs hh⟩))
  refine br_t a1 ?_
  obtain ⟨v, hv, rfl⟩ := nI_of2 (M := 127) (n := 127) (by decide) a a1
  obtain ⟨c1, c2, c3, c4, c5, c6, c7, c8, c9, c10⟩ := hc
  by_cases a2 : L < cp
  · have lt : nI L < nI cp := nI_lt a2 (by omega)
    have vi : vp_in (nI L) 256 := vp_in_nI (by omega) (by omega)
    refine br_t lt ⟨vi, ?_⟩
    rw [nI_clamp (by omega)]
    refine nm_e ⟨vi, nm_e ⟨vi, nm_e (nm_r (nI_1 L) ?_)⟩⟩
    refine br_f a (br_t a1 (br_t lt ⟨vi, ?_⟩))
    rw [nI_clamp (by omega)]
    refine nm_e ⟨vi, nm_e (nm_r (nI_1 L) ⟨pk_sub (a := L + 1) (b := 1) (by omega), ?_⟩)⟩
    exact zz_in (L := L + 1) ⟨c1, c2, c3, c4, c5, c6, c7, by omega, c9, by omega⟩ hp hq (RS_stray (by omega) (by omega) hs) hh
  · have nlt : ¬ nI L < nI cp := nI_nlt (by omega) (by omega)
    exact br_f nlt (br_f a (br_t a1 (br_f nlt ⟨rfl, zz_in ⟨c1, c2, c3, c4, c5, c6, c7, c8, c9, c10⟩ hp hq hs hh⟩)))
end
section
variable {g_maxPairs g_width g_capacity g_n g_number g_length g_frames g_position g_skipped g_held g_missing : Int32}
variable {e_left e_right e_owner e_masks e_frameNumber e_frameSize e_frameForm e_frameType0 e_frameType1 e_frameLeft e_frameRight : Nat → Int32}
variable {post : Int32 → SY → Prop} {alt : Nat → Int32} {M O S N : Nat → Nat} {L fc : Nat}
theorem ya_ok (hY : LY e_owner alt M O L fc S N) (hM : ∀ q, q < L → e_masks q = nI (M q)) (hfc : fc ≤ 16) (hL : L ≤ 256) {f p m : Nat} (hf : f < fc) (hi : inF S N f p) (ho : ∀ q, inF S N f q → q ≠ p → M q = 0) (h : post (nI (M p ^^^ m)) (g_maxPairs, g_width, g_capacity, g_n, g_number, nI L, g_frames, g_position, g_skipped, g_held, g_missing, e_left, e_right, e_owner, upd e_masks p (nI (M p ^^^ m)), e_frameNumber, e_frameSize, e_frameForm, e_frameType0, e_frameType1, e_frameLeft, e_frameRight)) : ∀ d fuel q, q + d = L → d < fuel → wY_alter_41 post (nI p) (nI m) g_maxPairs g_width g_capacity g_n g_number (nI L) g_frames g_position g_skipped g_held g_missing e_left e_right e_owner e_masks e_frameNumber e_frameSize e_frameForm e_frameType0 e_frameType1 e_frameLeft e_frameRight fuel (nI q) := by
  have sz := ly_sz hY hf
  have hpL : p < L := by have := hi.2; omega
  have op := (own_iff hY hfc hpL hf).mpr hi
  have vp : vp_in (nI p) 256 := vp_in_nI (by omega) (by omega)
  intro d
  induction d with
  | zero =>
    intro fuel q h1 h2
    obtain ⟨fuel, rfl⟩ : ∃ z, fuel = z + 1 := ⟨fuel - 1, by omega⟩
    refine br_t (nI_le (by omega) (by omega)) ⟨vp, vp, ?_⟩
    rw [nI_clamp (by omega), hM p hpL, nx_xor]
    refine nm_e ⟨vp, ?_⟩
    rw [pk_us]
    exact h
  | succ d ih =>
    intro fuel q h1 h2
    obtain ⟨fuel, rfl⟩ : ∃ z, fuel = z + 1 := ⟨fuel - 1, by omega⟩
    have vq : vp_in (nI q) 256 := vp_in_nI (by omega) (by omega)
    have nx := ih fuel (q + 1) (by omega) (by omega)
    refine br_f (nI_ge (by omega) (by omega)) ?_
    refine pk_eq q p (fun e => nm_r (nI_1 q) nx) (fun e => ⟨vq, vp, ?_⟩)
    rw [nI_clamp (n := q) (by omega), nI_clamp (n := p) (by omega), op, hM q (by omega)]
    refine br_c (fun c => ⟨vq, ?_⟩) (fun c => nm_r (nI_1 q) nx)
    have iq := (own_iff hY hfc (q := q) (by omega) hf).mp c
    rw [ho q iq e]
    exact br_t rfl (nm_r (nI_1 q) nx)
theorem ya_busy (hY : LY e_owner alt M O L fc S N) (hM : ∀ q, q < L → e_masks q = nI (M q)) (hfc : fc ≤ 16) (hL : L ≤ 256) {f p m a : Nat} (hf : f < fc) (hi : inF S N f p) (ha : inF S N f a) (hap : a ≠ p) (hma : M a ≠ 0) (h : post (-3) (g_maxPairs, g_width, g_capacity, g_n, g_number, nI L, g_frames, g_position, g_skipped, g_held, g_missing, e_left, e_right, e_owner, e_masks, e_frameNumber, e_frameSize, e_frameForm, e_frameType0, e_frameType1, e_frameLeft, e_frameRight)) : ∀ d fuel q, q + d = a → d < fuel → wY_alter_41 post (nI p) (nI m) g_maxPairs g_width g_capacity g_n g_number (nI L) g_frames g_position g_skipped g_held g_missing e_left e_right e_owner e_masks e_frameNumber e_frameSize e_frameForm e_frameType0 e_frameType1 e_frameLeft e_frameRight fuel (nI q) := by
  have sz := ly_sz hY hf
  have hpL : p < L := by have := hi.2; omega
  have haL : a < L := by have := ha.2; omega
  have op := (own_iff hY hfc hpL hf).mpr hi
  have oa := (own_iff hY hfc haL hf).mpr ha
  have vp : vp_in (nI p) 256 := vp_in_nI (by omega) (by omega)
  intro d
  induction d with
  | zero =>
    intro fuel q h1 h2
    obtain ⟨fuel, rfl⟩ : ∃ z, fuel = z + 1 := ⟨fuel - 1, by omega⟩
    obtain rfl : q = a := by omega
    have vq : vp_in (nI q) 256 := vp_in_nI (by omega) (by omega)
    have mb := (hY.2.2.2.1 q haL).1
    refine br_f (nI_ge (by omega) (by omega)) ?_
    refine pk_eq q p (fun e => absurd e hap) (fun e => ⟨vq, vp, ?_⟩)
    rw [nI_clamp (n := q) (by omega), nI_clamp (n := p) (by omega), op, hM q (by omega)]
    exact br_t oa ⟨vq, br_f (nI_ne0 (by omega) (by omega)) h⟩
  | succ d ih =>
    intro fuel q h1 h2
    obtain ⟨fuel, rfl⟩ : ∃ z, fuel = z + 1 := ⟨fuel - 1, by omega⟩
    have vq : vp_in (nI q) 256 := vp_in_nI (by omega) (by omega)
    have nx := ih fuel (q + 1) (by omega) (by omega)
    refine br_f (nI_ge (by omega) (by omega)) ?_
    refine pk_eq q p (fun e => nm_r (nI_1 q) nx) (fun e => ⟨vq, vp, ?_⟩)
    rw [nI_clamp (n := q) (by omega), nI_clamp (n := p) (by omega), op, hM q (by omega)]
    exact br_c (fun c => ⟨vq, br_c (fun _ => nm_r (nI_1 q) nx) (fun _ => h)⟩) (fun c => nm_r (nI_1 q) nx)
end
section
variable {f_blockLimit f_sampleBits f_capacity f_count f_nextFrame f_planned f_bestForm f_length f_frameCount f_writeByte f_writeMask f_readByte f_readMask f_readEnd f_decodedType0 f_decodedType1 f_position f_skipped f_held f_heldNumber f_heldSize f_heldForm f_heldType0 f_heldType1 f_heldMissing : Int32}
variable {a_differences a_bestBits a_bestType a_bestPartition a_bestParameter a_stream a_masks a_owner a_starts a_lengths a_alteredByte a_decoded a_heldSamples : Nat → Int32}
theorem x63 {post : Int32 → SX → Prop} {p m f : Nat} {B M : Nat} (hp : p < 256) (hf : f < 16) (hB : a_stream p = nI B) (hM : a_masks p = nI M) (hm : m < 256) (hMb : M < 256) (h : post (nI (M ^^^ m)) (f_blockLimit, f_sampleBits, f_capacity, f_count, f_nextFrame, f_planned, f_bestForm, f_length, f_frameCount, f_writeByte, f_writeMask, f_readByte, f_readMask, f_readEnd, f_decodedType0, f_decodedType1, f_position, f_skipped, f_held, f_heldNumber, f_heldSize, f_heldForm, f_heldType0, f_heldType1, f_heldMissing, a_differences, a_bestBits, a_bestType, a_bestPartition, a_bestParameter, upd a_stream p (nI (B ^^^ m)), upd a_masks p (nI (M ^^^ m)), a_owner, a_starts, a_lengths, upd a_alteredByte f (if M ^^^ m = 0 then -1 else nI p), a_decoded, a_heldSamples)) : wX_alter_63 post (nI p) (nI m) (nI f) f_blockLimit f_sampleBits f_capacity f_count f_nextFrame f_planned f_bestForm f_length f_frameCount f_writeByte f_writeMask f_readByte f_readMask f_readEnd f_decodedType0 f_decodedType1 f_position f_skipped f_held f_heldNumber f_heldSize f_heldForm f_heldType0 f_heldType1 f_heldMissing a_differences a_bestBits a_bestType a_bestPartition a_bestParameter a_stream a_masks a_owner a_starts a_lengths a_alteredByte a_decoded a_heldSamples := by
  have vp : vp_in (nI p) 256 := vp_in_nI (by omega) (by omega)
  have vf : vp_in (nI f) 16 := vp_in_nI (by omega) (by omega)
  have lt := xor_lt256 hMb hm
  unfold wX_alter_63
  rw [nI_clamp (n := p) (by omega), nI_clamp (n := f) (by omega), hB, hM, nx_xor, nx_xor]
  refine ⟨vp, vp, nm_e ⟨vp, vp, nm_e ⟨vp, ?_⟩⟩⟩
  rw [pk_us]
  refine pk_eq (M ^^^ m) 0 (fun e => ⟨vf, nm_e ⟨vp, ?_⟩⟩) (fun e => ⟨vf, nm_e ⟨vp, ?_⟩⟩)
  · rw [if_pos e] at h; exact h
  · rw [if_neg e] at h; exact h
end
section
variable {f_blockLimit f_sampleBits f_capacity f_count f_nextFrame f_planned f_bestForm f_length f_frameCount f_writeByte f_writeMask f_readByte f_readMask f_readEnd f_decodedType0 f_decodedType1 f_position f_skipped f_held f_heldNumber f_heldSize f_heldForm f_heldType0 f_heldType1 f_heldMissing : Int32}
variable {a_differences a_bestBits a_bestType a_bestPartition a_bestParameter a_stream a_masks a_owner a_starts a_lengths a_alteredByte a_decoded a_heldSamples : Nat → Int32}
variable {g_maxPairs g_width g_capacity g_n g_number g_length g_frames g_position g_skipped g_held g_missing : Int32}
variable {e_left e_right e_owner e_masks e_frameNumber e_frameSize e_frameForm e_frameType0 e_frameType1 e_frameLeft e_frameRight : Nat → Int32}
variable {bl b cp n nx L fc pos k : Nat} {l r : Nat → Int}
theorem vc_alter (hc : RC bl b cp n nx L fc pos) (hp : RP b n a_differences e_left e_right l r) (hq : (f_planned = 0 ∨ (f_planned = 1 ∧ PLN b l r n f_bestForm a_bestBits a_bestType a_bestPartition a_bestParameter))) (hs : RS b L fc a_stream a_masks a_owner a_starts a_lengths a_alteredByte e_frameNumber e_frameSize e_frameForm e_frameType0 e_frameType1 e_frameLeft e_frameRight) (hh : RH fc f_held f_heldNumber f_heldSize f_heldForm f_heldType0 f_heldType1 f_heldMissing a_heldSamples g_held g_missing e_frameNumber e_frameSize e_frameForm e_frameType0 e_frameType1 e_frameLeft e_frameRight) (v1 v2 : Int32) : wpX_alter (fun r u' => wpY_alter (fun r' v' => r' = r ∧ i_Rel k u' v') (nI bl, nI b, nI cp, nI n, nI nx, nI L, nI fc, nI pos, f_skipped, g_held, g_missing, e_left, e_right, a_owner, a_masks, e_frameNumber, e_frameSize, e_frameForm, e_frameType0, e_frameType1, e_frameLeft, e_frameRight) v1 v2) (nI bl, nI b, nI cp, nI n, nI nx, f_planned, f_bestForm, nI L, nI fc, f_writeByte, f_writeMask, f_readByte, f_readMask, f_readEnd, f_decodedType0, f_decodedType1, nI pos, f_skipped, f_held, f_heldNumber, f_heldSize, f_heldForm, f_heldType0, f_heldType1, f_heldMissing, a_differences, a_bestBits, a_bestType, a_bestPartition, a_bestParameter, a_stream, a_masks, a_owner, a_starts, a_lengths, a_alteredByte, a_decoded, a_heldSamples) v1 v2 := by
  have R : i_Rel k (nI bl, nI b, nI cp, nI n, nI nx, f_planned, f_bestForm, nI L, nI fc, f_writeByte, f_writeMask, f_readByte, f_readMask, f_readEnd, f_decodedType0, f_decodedType1, nI pos, f_skipped, f_held, f_heldNumber, f_heldSize, f_heldForm, f_heldType0, f_heldType1, f_heldMissing, a_differences, a_bestBits, a_bestType, a_bestPartition, a_bestParameter, a_stream, a_masks, a_owner, a_starts, a_lengths, a_alteredByte, a_decoded, a_heldSamples) (nI bl, nI b, nI cp, nI n, nI nx, nI L, nI fc, nI pos, f_skipped, g_held, g_missing, e_left, e_right, a_owner, a_masks, e_frameNumber, e_frameSize, e_frameForm, e_frameType0, e_frameType1, e_frameLeft, e_frameRight) := zz_in hc hp hq hs hh
  have hc0 := hc
  obtain ⟨c1, c2, c3, c4, c5, c6, c7, c8, c9, c10⟩ := hc
  by_cases a : v1 < 0
  · exact br_t a (br_t a ⟨rfl, R⟩)
  refine br_f a ?_
  obtain ⟨p, hpp, rfl⟩ := nI_of a
  by_cases a1 : p < L
  rotate_left
  · have nlt : ¬ nI p < nI L := nI_nlt (by omega) (by omega)
    exact br_f nlt (br_f a (br_f nlt ⟨rfl, R⟩))
  have lt : nI p < nI L := nI_lt a1 (by omega)
  refine br_t lt ?_
  by_cases a2 : v2 < 1
  · exact br_t a2 (br_f a (br_t lt (br_t a2 ⟨rfl, R⟩)))
  refine br_f a2 ?_
  by_cases a3 : v2 ≤ 255
  rotate_left
  · exact br_f a3 (br_f a (br_t lt (br_f a2 (br_f a3 ⟨rfl, R⟩))))
  refine br_t a3 ?_
  have q2 : ¬ v2 < 0 := fun z => a2 (Int32.lt_trans z (by decide))
  obtain ⟨m, hm, rfl⟩ := nI_of2 (M := 255) (n := 255) (by decide) q2 a3
  have vp : vp_in (nI p) 256 := vp_in_nI (by omega) (by omega)
  obtain ⟨M, O, S, N, hY, hM, hF⟩ := hs
  have hMm : ∀ q, q < L → a_masks q = nI (M q) := fun q hq => (hM q hq).1
  refine ⟨vp, ?_⟩
  rw [nI_clamp (n := p) (by omega)]
  refine nm_e ?_
  rcases hY.2.2.1 p a1 with ⟨o1, m0, _, no⟩ | ⟨f, hf, o1, hi⟩
  · rw [o1]
    refine br_f (by decide) ?_
    refine br_f a (br_t lt (br_f a2 (br_t a3 ⟨vp, ?_⟩)))
    rw [nI_clamp (n := p) (by omega), o1]
    exact br_f (by decide) ⟨rfl, R⟩
  · have vf : vp_in (nI f) 16 := vp_in_nI (by omega) (by omega)
    have pf : (0 : Int32) ≤ nI f := nI_pos' (by omega)
    have sz := ly_sz hY hf
    have mb := (hY.2.2.2.1 p a1).1
    have ob := (hY.2.2.2.1 p a1).2
    have al := hY.2.2.2.2 f hf
    rw [o1]
    refine br_t pf ⟨vf, ?_⟩
    rw [nI_clamp (n := f) (by omega)]
    refine nm_e ?_
    have YB : ∀ {u' : SX} {a' : Nat}, i_Rel k u' (nI bl, nI b, nI cp, nI n, nI nx, nI L, nI fc, nI pos, f_skipped, g_held, g_missing, e_left, e_right, a_owner, a_masks, e_frameNumber, e_frameSize, e_frameForm, e_frameType0, e_frameType1, e_frameLeft, e_frameRight) → inF S N f a' → a' ≠ p → M a' ≠ 0 → wpY_alter (fun r' v' => r' = (-3 : Int32) ∧ i_Rel k u' v') (nI bl, nI b, nI cp, nI n, nI nx, nI L, nI fc, nI pos, f_skipped, g_held, g_missing, e_left, e_right, a_owner, a_masks, e_frameNumber, e_frameSize, e_frameForm, e_frameType0, e_frameType1, e_frameLeft, e_frameRight) (nI p) (nI m) := by
      intro u' a' R' h1 h2 h3
      refine br_f a (br_t lt (br_f a2 (br_t a3 ⟨vp, ?_⟩)))
      rw [nI_clamp (n := p) (by omega), o1]
      exact br_t pf ⟨a' + 1, ya_busy hY hMm c9 (by omega) hf hi h1 h2 h3 ⟨rfl, R'⟩ a' (a' + 1) 0 (by omega) (by omega)⟩
    have main : (∀ q, inF S N f q → q ≠ p → M q = 0) → wX_alter_63 (fun r u' => wpY_alter (fun r' v' => r' = r ∧ i_Rel k u' v') (nI bl, nI b, nI cp, nI n, nI nx, nI L, nI fc, nI pos, f_skipped, g_held, g_missing, e_left, e_right, a_owner, a_masks, e_frameNumber, e_frameSize, e_frameForm, e_frameType0, e_frameType1, e_frameLeft, e_frameRight) (nI p) (nI m)) (nI p) (nI m) (nI f) (nI bl) (nI b) (nI cp) (nI n) (nI nx) f_planned f_bestForm (nI L) (nI fc) f_writeByte f_writeMask f_readByte f_readMask f_readEnd f_decodedType0 f_decodedType1 (nI pos) f_skipped f_held f_heldNumber f_heldSize f_heldForm f_heldType0 f_heldType1 f_heldMissing a_differences a_bestBits a_bestType a_bestPartition a_bestParameter a_stream a_masks a_owner a_starts a_lengths a_alteredByte a_decoded a_heldSamples := by
      intro oz
      refine x63 (by omega) (by omega) (hM p a1).2 (hM p a1).1 (by omega) mb ?_
      refine br_f a (br_t lt (br_f a2 (br_t a3 ⟨vp, ?_⟩)))
      rw [nI_clamp (n := p) (by omega), o1]
      refine br_t pf ⟨L + 1, ya_ok hY hMm c9 (by omega) hf hi oz ⟨rfl, ?_⟩ L (L + 1) 0 (by omega) (by omega)⟩
      refine zz_in hc0 hp hq ⟨fun q => if q = p then M p ^^^ m else M q, O, S, N, ?_, fun q hq => ?_, hF⟩ hh
      · obtain ⟨h1, h2, h3, h4, h5⟩ := hY
        refine ⟨h1, h2, fun q hq => ?_, fun q hq => ?_, fun g hg => ?_⟩
        · rcases h3 q hq with ⟨x1, x2, x3, x4⟩ | x
          · refine Or.inl ⟨x1, ?_, x3, x4⟩
            have : q ≠ p := fun e => x4 f hf (e ▸ hi)
            show (if q = p then M p ^^^ m else M q) = 0
            rw [if_neg this]; exact x2
          · exact Or.inr x
        · refine ⟨?_, (h4 q hq).2⟩
          show (if q = p then M p ^^^ m else M q) < 256
          split
          · exact xor_lt256 mb (by omega)
          · exact (h4 q hq).1
        · by_cases e : g = f
          · subst e
            rw [pk_us]
            by_cases z : M p ^^^ m = 0
            · rw [if_pos z]
              refine Or.inl ⟨rfl, fun q hq => ?_⟩
              show (if q = p then M p ^^^ m else M q) = 0
              by_cases e : q = p
              · rw [if_pos e]; exact z
              · rw [if_neg e]; exact oz q hq e
            · rw [if_neg z]
              refine Or.inr ⟨p, hi, rfl, ?_, fun q hq e => ?_⟩
              · show (if p = p then M p ^^^ m else M p) ≠ 0
                rw [if_pos rfl]; exact z
              · show (if q = p then M p ^^^ m else M q) = 0
                rw [if_neg e]; exact oz q hq e
          · rw [pk_un e]
            refine alt1_cong rfl rfl (fun q hq => ?_) (h5 g hg)
            refine if_neg (fun x => ?_)
            subst x
            rcases Nat.lt_trichotomy f g with y | y | y
            · have := h2 f g y hg; have := hi.2; have := hq.1; omega
            · exact e y.symm
            · have := h2 g f y hf; have := hi.1; have := hq.2; omega
      · dsimp only
        by_cases e : q = p
        · rw [e, pk_us, pk_us, if_pos rfl, Nat.xor_assoc]; exact ⟨rfl, rfl⟩
        · rw [pk_un e, pk_un e, if_neg e]; exact hM q hq
    rcases al with ⟨x1, x2⟩ | ⟨a', x1, x2, x3, x4⟩
    · rw [x1]
      exact br_t (by decide) (main (fun q hq _ => x2 q hq))
    · rw [x2]
      have aL : a' < L := by have := x1.2; omega
      refine br_f (nI_pos (by omega)) ?_
      refine pk_eq a' p (fun e => ?_) (fun e => ?_)
      · subst e
        exact main x4
      · exact YB R x1 e x3
end
end
section
/-! commit -/
theorem LY_frame {own alt : Nat → Int32} {M O S N : Nat → Nat} {L fc z : Nat} (h : LY own alt M O L fc S N) (eS : S fc = L) (eN : N fc = z) (F : FH O L z) (hq : ∀ q, L ≤ q → q < L + z → own q = nI fc ∧ M q = 0 ∧ O q < 256) (ha : alt fc = -1) : LY own alt M O (L + z) (fc + 1) S N := by
  obtain ⟨h1, h2, h3, h4, h5⟩ := h
  refine ⟨fun f hf => ?_, fun f g hfg hg => ?_, fun q hl => ?_, fun q hl => ?_, fun f hf => ?_⟩
  · by_cases e : f = fc
    · rw [e, eS, eN]; exact ⟨F, by omega⟩
    · obtain ⟨a, b⟩ := h1 f (by omega)
      exact ⟨a, by omega⟩
  · by_cases e : g = fc
    · rw [e, eS]; exact (h1 f (by omega)).2
    · exact h2 f g hfg (by omega)
  · by_cases c : q < L
    · rcases h3 q c with ⟨x1, x2, x3, x4⟩ | ⟨f, x1, x2, x3⟩
      · refine Or.inl ⟨x1, x2, x3, fun f hf hi => ?_⟩
        by_cases e : f = fc
        · rw [e] at hi; have := hi.1; omega
        · exact x4 f (by omega) hi
      · exact Or.inr ⟨f, by omega, x2, x3⟩
    · refine Or.inr ⟨fc, by omega, (hq q (by omega) hl).1, ?_, ?_⟩
      · omega
      · omega
  · by_cases c : q < L
    · exact h4 q c
    · obtain ⟨a, b, d⟩ := hq q (by omega) hl
      rw [b]; exact ⟨by omega, d⟩
  · by_cases e : f = fc
    · subst e
      refine Or.inl ⟨ha, fun q hi => ?_⟩
      exact (hq q (by have := hi.1; omega) (by have := hi.2; omega)).2.1
    · exact h5 f (by omega)
theorem FRM_FL {b : Nat} {O : Nat → Nat} {s z : Nat} {fN fS fF f0 f1 : Int32} {FL FR FL' FR' : Nat → Int32} (e : ∀ t, t < 16 → FL' t = FL t ∧ FR' t = FR t) (h : FRM b O s z fN fS fF f0 f1 FL FR) : FRM b O s z fN fS fF f0 f1 FL' FR' := by
  obtain ⟨num, n, fm, l, r, a1, a2, a3, a4, a5, a6⟩ := h
  refine ⟨num, n, fm, l, r, a1, fun t ht => ?_, a3, a4, a5, a6⟩
  have := e t (by omega)
  rw [this.1, this.2]
  exact a2 t ht
def FLR (FL FR FL0 FR0 Lf Rt : Nat → Int32) (f m : Nat) : Prop := (∀ t, t < m → FL (f * 16 + t) = Lf t ∧ FR (f * 16 + t) = Rt t) ∧ ∀ i, i < f * 16 → FL i = FL0 i ∧ FR i = FR0 i
section
variable {g_maxPairs g_width g_capacity g_n g_number g_length g_frames g_position g_skipped g_held g_missing : Int32}
variable {e_left e_right e_owner e_masks e_frameNumber e_frameSize e_frameForm e_frameType0 e_frameType1 e_frameLeft e_frameRight : Nat → Int32}
variable {post : Int32 → SY → Prop} {b n nx L fc z : Nat} {l r : Nat → Int}
theorem y180 (hL : L + z ≤ 256) (hx : nx < 128) (h : post (nI fc) (g_maxPairs, g_width, g_capacity, 0, nI ((nx + 1) % 128), nI (L + z), nI (fc + 1), g_position, g_skipped, g_held, g_missing, e_left, e_right, rgv e_owner L z (nI fc), rgv e_masks L z 0, e_frameNumber, e_frameSize, e_frameForm, e_frameType0, e_frameType1, e_frameLeft, e_frameRight)) : ∀ d fuel i, i + d = z → d < fuel → wY_commit_180 post (nI z) (nI fc) g_maxPairs g_width g_capacity (nI n) (nI nx) (nI L) (nI fc) g_position g_skipped g_held g_missing fuel (nI i) e_left e_right (rgv e_owner L i (nI fc)) (rgv e_masks L i 0) e_frameNumber e_frameSize e_frameForm e_frameType0 e_frameType1 e_frameLeft e_frameRight := by
  intro d
  induction d with
  | zero =>
    intro fuel i h1 h2
    obtain ⟨fuel, rfl⟩ : ∃ q, fuel = q + 1 := ⟨fuel - 1, by omega⟩
    obtain rfl : i = z := by omega
    refine br_t (nI_le (by omega) (by omega)) (nm_r (nI_add L i) (nm_r (nI_1 fc) (nm_r (e' := nI ((nx + 1) % 128)) ?_ h)))
    rw [nI_1]
    exact pk_andN (by omega) 7 (by decide)
  | succ d ih =>
    intro fuel i h1 h2
    obtain ⟨fuel, rfl⟩ : ∃ q, fuel = q + 1 := ⟨fuel - 1, by omega⟩
    have vi : vp_in (nI (L + i)) 256 := vp_in_nI (by omega) (by omega)
    refine br_f (nI_ge (by omega) (by omega)) ?_
    rw [nI_add, nI_clamp (by omega)]
    refine ⟨vi, nm_r (rgv_s _ _ _ _) ⟨vi, nm_r (rgv_s _ _ _ _) (nm_r (nI_1 i) ?_)⟩⟩
    exact ih fuel (i + 1) (by omega) (by omega)
theorem y124 (hn : n ≤ 16) (hf : fc < 16) (hL : L + z ≤ 256) (hx : nx < 128) {FL0 FR0 : Nat → Int32} (h : ∀ FL FR, FLR FL FR FL0 FR0 e_left e_right fc n → post (nI fc) (g_maxPairs, g_width, g_capacity, 0, nI ((nx + 1) % 128), nI (L + z), nI (fc + 1), g_position, g_skipped, g_held, g_missing, e_left, e_right, rgv e_owner L z (nI fc), rgv e_masks L z 0, e_frameNumber, e_frameSize, e_frameForm, e_frameType0, e_frameType1, FL, FR)) : ∀ d fuel t FL FR, t + d = n → d < fuel → FLR FL FR FL0 FR0 e_left e_right fc t → wY_commit_124 post (nI z) (nI fc) g_maxPairs g_width g_capacity (nI n) (nI nx) (nI L) (nI fc) g_position g_skipped g_held g_missing fuel (nI t) e_left e_right e_owner e_masks e_frameNumber e_frameSize e_frameForm e_frameType0 e_frameType1 FL FR := by
  intro d
  induction d with
  | zero =>
    intro fuel t FL FR h1 h2 h3
    obtain ⟨fuel, rfl⟩ : ∃ q, fuel = q + 1 := ⟨fuel - 1, by omega⟩
    obtain rfl : t = n := by omega
    refine br_t (nI_le (by omega) (by omega)) ⟨z + 1, ?_⟩
    have key : wY_commit_180 post (nI z) (nI fc) g_maxPairs g_width g_capacity (nI t) (nI nx) (nI L) (nI fc) g_position g_skipped g_held g_missing (z + 1) (nI 0) e_left e_right (rgv e_owner L 0 (nI fc)) (rgv e_masks L 0 0) e_frameNumber e_frameSize e_frameForm e_frameType0 e_frameType1 FL FR := y180 hL hx (h FL FR h3) z (z + 1) 0 (by omega) (by omega)
    rw [rgv_0, rgv_0] at key
    exact key
  | succ d ih =>
    intro fuel t FL FR h1 h2 h3
    obtain ⟨fuel, rfl⟩ : ∃ q, fuel = q + 1 := ⟨fuel - 1, by omega⟩
    have v1 : vp_in (nI t) 16 := vp_in_nI (by omega) (by omega)
    have v2 : vp_in (nI (fc * 16 + t)) 256 := vp_in_nI (by omega) (by omega)
    have e : nI fc * 16 + nI t = nI (fc * 16 + t) := by
      show nI fc * nI 16 + nI t = _
      rw [pk_mul, nI_add]
    refine br_f (nI_ge (by omega) (by omega)) ?_
    rw [e, nI_clamp (n := t) (by omega), nI_clamp (n := fc * 16 + t) (by omega)]
    refine ⟨v1, v2, nm_e ⟨v1, v2, nm_e (nm_r (nI_1 t) (ih fuel (t + 1) _ _ (by omega) (by omega) ⟨fun i hi => ?_, fun i hi => ?_⟩))⟩⟩
    · by_cases x : i = t
      · rw [x, pk_us, pk_us]; exact ⟨rfl, rfl⟩
      · rw [pk_un (by omega), pk_un (by omega)]; exact h3.1 i (by omega)
    · rw [pk_un (by omega), pk_un (by omega)]; exact h3.2 i hi
theorem ycommit {cp : Nat} (h1 : 4 ≤ b) (h2 : b ≤ 12) (hr : rng b l r n) (hn0 : 1 ≤ n) (hn : n ≤ 16) (F : YF e_left e_right l r n) (hf : fc < 16) (hx : nx < 128) (hcp : cp ≤ 256) (hLc : L ≤ cp) (hz : z = 10 + (fbt b l r n (bfm b l r n) + 6) / 7) (full : cp < L + z → post (-2) (g_maxPairs, nI b, nI cp, nI n, nI nx, nI L, nI fc, g_position, g_skipped, g_held, g_missing, e_left, e_right, e_owner, e_masks, e_frameNumber, e_frameSize, e_frameForm, e_frameType0, e_frameType1, e_frameLeft, e_frameRight)) (h : L + z ≤ cp → ∀ FL FR, FLR FL FR e_frameLeft e_frameRight e_left e_right fc n → post (nI fc) (g_maxPairs, nI b, nI cp, 0, nI ((nx + 1) % 128), nI (L + z), nI (fc + 1), g_position, g_skipped, g_held, g_missing, e_left, e_right, rgv e_owner L z (nI fc), rgv e_masks L z 0, upd e_frameNumber fc (nI nx), upd e_frameSize fc (nI n), upd e_frameForm fc (nI (bfm b l r n)), upd e_frameType0 fc (nI (bT b l r n (sgO (bfm b l r n) 0))), upd e_frameType1 fc (nI (bT b l r n (sgO (bfm b l r n) 1))), FL, FR)) : wpY_commit post (g_maxPairs, nI b, nI cp, nI n, nI nx, nI L, nI fc, g_position, g_skipped, g_held, g_missing, e_left, e_right, e_owner, e_masks, e_frameNumber, e_frameSize, e_frameForm, e_frameType0, e_frameType1, e_frameLeft, e_frameRight) := by
  have fb := fbt_bd h1 h2 hr hn0 hn (bfm b l r n)
  have vf : vp_in (nI fc) 16 := vp_in_nI hf (by omega)
  unfold wpY_commit
  dsimp only
  refine br_f (nI_ne0 hn0 (by omega)) (br_t (nI_lt (b := 16) hf (by omega)) ?_)
  refine yfield (c := 0) (f := 0) h1 h2 hr hn0 hn F (by omega) (by omega) ?_
  refine yfield (c := 1) (f := 0) h1 h2 hr hn0 hn F (by omega) (by omega) ?_
  refine nm_r (e' := nI (fbt b l r n (bfm b l r n))) (nI_add _ _) ⟨by decide, nm_r (e' := nI z) ?_ ?_⟩
  · rw [show nI (fbt b l r n (bfm b l r n)) + 6 = nI (fbt b l r n (bfm b l r n) + 6) from nI_add _ 6]
    have : nI (fbt b l r n (bfm b l r n) + 6) / 7 = nI ((fbt b l r n (bfm b l r n) + 6) / 7) := pk_div (d := 7) (by omega) (by omega) (by omega)
    rw [this, hz]
    exact nI_add 10 _
  · rw [nI_add]
    refine pk_le (L + z) cp (fun c => ?_) (fun c => full (by omega))
    rw [nI_clamp (by omega)]
    refine ⟨vf, nm_e ⟨vf, nm_e ?_⟩⟩
    refine yform h1 h2 hr hn0 hn F ⟨vf, nm_e ?_⟩
    refine yfield (c := 0) (f := 1) h1 h2 hr hn0 hn F (by omega) (by omega) ⟨vf, nm_e ?_⟩
    refine yfield (c := 1) (f := 1) h1 h2 hr hn0 hn F (by omega) (by omega) ⟨vf, nm_e ?_⟩
    exact ⟨n + 1, y124 hn hf (by omega) hx (h c) n (n + 1) 0 _ _ (by omega) (by omega) ⟨fun t ht => by omega, fun i _ => ⟨rfl, rfl⟩⟩⟩
end
section
variable {f_blockLimit f_sampleBits f_capacity f_count f_nextFrame f_planned f_bestForm f_length f_frameCount f_writeByte f_writeMask f_readByte f_readMask f_readEnd f_decodedType0 f_decodedType1 f_position f_skipped f_held f_heldNumber f_heldSize f_heldForm f_heldType0 f_heldType1 f_heldMissing : Int32}
variable {a_differences a_bestBits a_bestType a_bestPartition a_bestParameter a_stream a_masks a_owner a_starts a_lengths a_alteredByte a_decoded a_heldSamples : Nat → Int32}
variable {post : Int32 → SX → Prop} {b n nx L fc z : Nat} {l r : Nat → Int}
theorem xcommit {cp : Nat} (h1 : 4 ≤ b) (h2 : b ≤ 12) (hr : rng b l r n) (hn0 : 1 ≤ n) (hn : n ≤ 16) (D : DF a_differences l r n) (hp : f_planned = 0 ∨ (f_planned = 1 ∧ PLN b l r n f_bestForm a_bestBits a_bestType a_bestPartition a_bestParameter)) (hf : fc < 16) (hx : nx < 128) (hcp : cp ≤ 256) (hLc : L ≤ cp) (hz : z = 10 + (fbt b l r n (bfm b l r n) + 6) / 7) (full : cp < L + z → ∀ form BB BT BP BK, PLN b l r n form BB BT BP BK → post (-2) (f_blockLimit, nI b, nI cp, nI n, nI nx, 1, form, nI L, nI fc, f_writeByte, f_writeMask, f_readByte, f_readMask, f_readEnd, f_decodedType0, f_decodedType1, f_position, f_skipped, f_held, f_heldNumber, f_heldSize, f_heldForm, f_heldType0, f_heldType1, f_heldMissing, a_differences, BB, BT, BP, BK, a_stream, a_masks, a_owner, a_starts, a_lengths, a_alteredByte, a_decoded, a_heldSamples)) (h : L + z ≤ cp → ∀ form BB BT BP BK str wb wm, FWF str (rgv a_stream L z 0) L z nx (bfm b l r n * 16 + (n - 1)) (enF b l r n (bfm b l r n)) → post (nI fc) (f_blockLimit, nI b, nI cp, 0, nI ((nx + 1) % 128), 0, form, nI (L + z), nI (fc + 1), wb, wm, f_readByte, f_readMask, f_readEnd, f_decodedType0, f_decodedType1, f_position, f_skipped, f_held, f_heldNumber, f_heldSize, f_heldForm, f_heldType0, f_heldType1, f_heldMissing, a_differences, BB, BT, BP, BK, str, rgv a_masks L z 0, rgv a_owner L z (nI fc), upd a_starts fc (nI L), upd a_lengths fc (nI z), upd a_alteredByte fc (-1), a_decoded, a_heldSamples)) : wpX_commit post (f_blockLimit, nI b, nI cp, nI n, nI nx, f_planned, f_bestForm, nI L, nI fc, f_writeByte, f_writeMask, f_readByte, f_readMask, f_readEnd, f_decodedType0, f_decodedType1, f_position, f_skipped, f_held, f_heldNumber, f_heldSize, f_heldForm, f_heldType0, f_heldType1, f_heldMissing, a_differences, a_bestBits, a_bestType, a_bestPartition, a_bestParameter, a_stream, a_masks, a_owner, a_starts, a_lengths, a_alteredByte, a_decoded, a_heldSamples) := by
  have fb := fbt_bd h1 h2 hr hn0 hn (bfm b l r n)
  have bl3 := bfm_le (b := b) (l := l) (r := r) (n := n)
  refine br_f (nI_ne0 hn0 (by omega)) (br_t (nI_lt (b := 16) hf (by omega)) ?_)
  refine xprep h1 h2 hr hn0 hn D hp (fun form BB BT BP BK P => ?_)
  obtain ⟨P1, rfl⟩ := P
  refine xformbits (by omega) (fun s hs => (P1 s hs).1) ⟨by decide, nm_r (e' := nI z) ?_ ?_⟩
  · rw [show nI (fbt b l r n (bfm b l r n)) + 6 = nI (fbt b l r n (bfm b l r n) + 6) from nI_add _ 6]
    have : nI (fbt b l r n (bfm b l r n) + 6) / 7 = nI ((fbt b l r n (bfm b l r n) + 6) / 7) := pk_div (d := 7) (by omega) (by omega) (by omega)
    rw [this, hz]
    exact nI_add 10 _
  · dsimp only
    rw [nI_add]
    refine pk_le (L + z) cp (fun c => ?_) (fun c => full (by omega) _ BB BT BP BK ⟨P1, rfl⟩)
    refine xclaim hf (by omega) ?_
    refine xwframe h1 h2 hr hn0 hn D (by omega) (by omega) (by omega) hx bl3 P1 (by omega) (fun i i1 i2 => rgv_in (by omega) (by omega)) (fun str wb wm W => ?_)
    refine nm_r (nI_add L z) (nm_r (nI_1 fc) (nm_r (e' := nI ((nx + 1) % 128)) ?_ (h c _ BB BT BP BK str wb wm W)))
    rw [nI_1]
    exact pk_andN (by omega) 7 (by decide)
end
section
variable {f_blockLimit f_sampleBits f_capacity f_count f_nextFrame f_planned f_bestForm f_length f_frameCount f_writeByte f_writeMask f_readByte f_readMask f_readEnd f_decodedType0 f_decodedType1 f_position f_skipped f_held f_heldNumber f_heldSize f_heldForm f_heldType0 f_heldType1 f_heldMissing : Int32}
variable {a_differences a_bestBits a_bestType a_bestPartition a_bestParameter a_stream a_masks a_owner a_starts a_lengths a_alteredByte a_decoded a_heldSamples : Nat → Int32}
variable {g_maxPairs g_width g_capacity g_n g_number g_length g_frames g_position g_skipped g_held g_missing : Int32}
variable {e_left e_right e_owner e_masks e_frameNumber e_frameSize e_frameForm e_frameType0 e_frameType1 e_frameLeft e_frameRight : Nat → Int32}
variable {bl b cp n nx L fc pos k : Nat} {l r : Nat → Int}
theorem vc_commit (hc : RC bl b cp n nx L fc pos) (hp : RP b n a_differences e_left e_right l r) (hq : (f_planned = 0 ∨ (f_planned = 1 ∧ PLN b l r n f_bestForm a_bestBits a_bestType a_bestPartition a_bestParameter))) (hs : RS b L fc a_stream a_masks a_owner a_starts a_lengths a_alteredByte e_frameNumber e_frameSize e_frameForm e_frameType0 e_frameType1 e_frameLeft e_frameRight) (hh : RH fc f_held f_heldNumber f_heldSize f_heldForm f_heldType0 f_heldType1 f_heldMissing a_heldSamples g_held g_missing e_frameNumber e_frameSize e_frameForm e_frameType0 e_frameType1 e_frameLeft e_frameRight) : wpX_commit (fun r u' => wpY_commit (fun r' v' => r' = r ∧ i_Rel k u' v') (nI bl, nI b, nI cp, nI n, nI nx, nI L, nI fc, nI pos, f_skipped, g_held, g_missing, e_left, e_right, a_owner, a_masks, e_frameNumber, e_frameSize, e_frameForm, e_frameType0, e_frameType1, e_frameLeft, e_frameRight)) (nI bl, nI b, nI cp, nI n, nI nx, f_planned, f_bestForm, nI L, nI fc, f_writeByte, f_writeMask, f_readByte, f_readMask, f_readEnd, f_decodedType0, f_decodedType1, nI pos, f_skipped, f_held, f_heldNumber, f_heldSize, f_heldForm, f_heldType0, f_heldType1, f_heldMissing, a_differences, a_bestBits, a_bestType, a_bestPartition, a_bestParameter, a_stream, a_masks, a_owner, a_starts, a_lengths, a_alteredByte, a_decoded, a_heldSamples) := by
  have hc0 := hc
  have hp0 := hp
  obtain ⟨c1, c2, c3, c4, c5, c6, c7, c8, c9, c10⟩ := hc
  obtain ⟨p1, p2, p3⟩ := hp
  by_cases a0 : nI n = 0
  · exact br_t a0 (br_t a0 ⟨rfl, zz_in hc0 hp0 hq hs hh⟩)
  have hn0 := n_pos a0
  by_cases a1 : fc < 16
  rotate_left
  · have nlt : ¬ nI fc < 16 := nI_nlt (b := 16) (by omega) (by omega)
    exact br_f a0 (br_f nlt (br_f a0 (br_f nlt ⟨rfl, zz_in hc0 hp0 hq hs hh⟩)))
  have fb := fbt_bd c3 c4 p1 hn0 (by omega) (bfm b l r n)
  have bl3 := bfm_le (b := b) (l := l) (r := r) (n := n)
  obtain ⟨z, hz⟩ : ∃ z, z = 10 + (fbt b l r n (bfm b l r n) + 6) / 7 := ⟨_, rfl⟩
  refine xcommit c3 c4 p1 hn0 (by omega) p2 hq a1 c7 c5 c8 hz (fun c form BB BT BP BK P => ?_) (fun c form BB BT BP BK str wb wm W => ?_)
  · exact ycommit c3 c4 p1 hn0 (by omega) p3 a1 c7 c5 c8 hz (fun _ => ⟨rfl, zz_in hc0 hp0 (Or.inr ⟨rfl, P⟩) hs hh⟩) (fun c' => by omega)
  · refine ycommit c3 c4 p1 hn0 (by omega) p3 a1 c7 c5 c8 hz (fun c' => by omega) (fun _ FL FR fl => ⟨rfl, ?_⟩)
    obtain ⟨w1, w2, w3, w4, w5, w6⟩ := W
    obtain ⟨M, O, S, N, hY, hM, hF⟩ := hs
    refine zz_in (n := 0) (nx := (nx + 1) % 128) (L := L + z) (fc := fc + 1) (l := l) (r := r) ⟨c1, c2, c3, c4, c5, by omega, by omega, by omega, by omega, by omega⟩ RP_0 (Or.inl rfl) ?_ ?_
    · refine ⟨fun q => if L ≤ q ∧ q < L + z then 0 else M q, fun q => if L ≤ q ∧ q < L + z then yt str q else O q, fun f => if f = fc then L else S f, fun f => if f = fc then z else N f, ?_, fun q hq => ?_, fun f hf => ?_⟩
      · refine LY_frame (LY_ext hY (fun q hq => ⟨?_, ?_, ?_⟩) (fun f hf => ⟨?_, ?_, ?_⟩)) ?_ ?_ ?_ (fun q q1 q2 => ⟨?_, ?_, ?_⟩) ?_
        · exact rgv_out (by omega)
        · exact if_neg (by omega)
        · exact if_neg (by omega)
        · exact if_neg (by omega)
        · exact if_neg (by omega)
        · exact pk_un (by omega)
        · exact if_pos rfl
        · exact if_pos rfl
        · exact FH_cong w3 (fun i hi => if_pos (by omega))
        · exact rgv_in q1 q2
        · exact if_pos ⟨q1, q2⟩
        · show (if L ≤ q ∧ q < L + z then yt str q else O q) < 256
          rw [if_pos ⟨q1, q2⟩]; exact (isB_yt w1 q1 q2).2
        · exact pk_us
      · dsimp only
        by_cases c' : L ≤ q
        · rw [if_pos ⟨c', hq⟩, if_pos ⟨c', hq⟩, Nat.xor_zero]
          exact ⟨rgv_in c' hq, (isB_yt w1 c' hq).1⟩
        · rw [if_neg (by omega), if_neg (by omega), w2 q (by omega), rgv_out (by omega), rgv_out (by omega)]
          exact hM q (by omega)
      · dsimp only
        by_cases e : f = fc
        · subst e
          rw [if_pos rfl, if_pos rfl, pk_us, pk_us, pk_us, pk_us, pk_us, pk_us, pk_us]
          refine ⟨rfl, rfl, nx, n, bfm b l r n, l, r, ⟨rfl, rfl, rfl, rfl, rfl⟩, fun t ht => ?_, ⟨c7, bl3, hn0, by omega⟩, p1, ⟨?_, ?_, by omega⟩, fun i hi => ?_⟩
          · obtain ⟨f1, f2⟩ := fl.1 t ht
            dsimp only
            rw [f1, f2]; exact p3 t ht
          · dsimp only; rw [if_pos (by omega)]; exact yt_of w4 (by omega)
          · dsimp only; rw [if_pos (by omega)]; exact yt_of w5 (by omega)
          · dsimp only
            rw [if_pos (by omega)]
            have := pk7_lt (enF b l r n (bfm b l r n)) i
            exact yt_of (w6 i hi) (by omega)
        · have sz := ly_sz hY (f := f) (by omega)
          rw [if_neg e, if_neg e, pk_un e, pk_un e, pk_un e, pk_un e, pk_un e, pk_un e, pk_un e]
          obtain ⟨x1, x2, x3⟩ := hF f (by omega)
          exact ⟨x1, x2, FRM_FL (fun t ht => fl.2 (f * 16 + t) (by omega)) (FRM_cong sz.1 (fun i hi => if_neg (by omega)) x3)⟩
    · rcases hh with hh | ⟨y1, h, y2, y3, y4, y5, y6, y7, y8, y9, y10⟩
      · exact Or.inl hh
      · refine Or.inr ⟨y1, h, by omega, y3, ?_, ?_, ?_, ?_, ?_, y9, fun t ht hlt => ?_⟩
        · rw [pk_un (by omega)]; exact y4
        · rw [pk_un (by omega)]; exact y5
        · rw [pk_un (by omega)]; exact y6
        · rw [pk_un (by omega)]; exact y7
        · rw [pk_un (by omega)]; exact y8
        · rw [pk_un (by omega)] at hlt
          obtain ⟨f1, f2⟩ := fl.2 (h * 16 + t) (by omega)
          rw [f1, f2]
          exact y10 t ht hlt
end
end
section
/-! next -/
section
variable {f_blockLimit f_sampleBits f_capacity f_count f_nextFrame f_planned f_bestForm f_length f_frameCount f_writeByte f_writeMask f_readByte f_readMask f_readEnd f_decodedType0 f_decodedType1 f_position f_skipped f_held f_heldNumber f_heldSize f_heldForm f_heldType0 f_heldType1 f_heldMissing : Int32}
variable {a_differences a_bestBits a_bestType a_bestPartition a_bestParameter a_stream a_masks a_owner a_starts a_lengths a_alteredByte a_decoded a_heldSamples : Nat → Int32}
variable {post : Int32 → SX → Prop} {B : Nat → Nat} {L pos : Nat}
theorem xn_skip (hB : ∀ i, i < L → a_stream i = nI (B i) ∧ B i < 256) (hL : L ≤ 256) {e fuel0 : Nat} (he : e ≤ L) (H : wX_next_5 post fuel0 (nI e) f_blockLimit f_sampleBits f_capacity f_count f_nextFrame f_planned f_bestForm (nI L) f_frameCount f_writeByte f_writeMask f_readByte f_readMask f_readEnd f_decodedType0 f_decodedType1 f_position f_skipped f_held f_heldNumber f_heldSize f_heldForm f_heldType0 f_heldType1 f_heldMissing a_differences a_bestBits a_bestType a_bestPartition a_bestParameter a_stream a_masks a_owner a_starts a_lengths a_alteredByte a_decoded a_heldSamples) : ∀ d k, k + d = e → (∀ q, k ≤ q → q < e → ¬ isF B L q) → wX_next_5 post (fuel0 + d) (nI k) f_blockLimit f_sampleBits f_capacity f_count f_nextFrame f_planned f_bestForm (nI L) f_frameCount f_writeByte f_writeMask f_readByte f_readMask f_readEnd f_decodedType0 f_decodedType1 f_position f_skipped f_held f_heldNumber f_heldSize f_heldForm f_heldType0 f_heldType1 f_heldMissing a_differences a_bestBits a_bestType a_bestPartition a_bestParameter a_stream a_masks a_owner a_starts a_lengths a_alteredByte a_decoded a_heldSamples := by
  intro d
  induction d with
  | zero =>
    intro k h1 _
    obtain rfl : k = e := by omega
    exact H
  | succ d ih =>
    intro k h1 h2
    have IH := ih (k + 1) (by omega) (fun q a b => h2 q (by omega) b)
    refine br_f (nI_ge (by omega) (by omega)) ?_
    refine xisframe hB hL (by omega) (fun I => absurd I (h2 k (by omega) (by omega))) (fun _ => br_t rfl (nm_r (nI_1 k) IH))
theorem xn_none (hB : ∀ i, i < L → a_stream i = nI (B i) ∧ B i < 256) (hL : L ≤ 256) (hp : pos ≤ L) (hno : ∀ q, pos ≤ q → q < L → ¬ isF B L q) (h : post (-1) (f_blockLimit, f_sampleBits, f_capacity, f_count, f_nextFrame, f_planned, f_bestForm, nI L, f_frameCount, f_writeByte, f_writeMask, f_readByte, f_readMask, f_readEnd, f_decodedType0, f_decodedType1, nI L, nI (L - pos), f_held, f_heldNumber, f_heldSize, f_heldForm, f_heldType0, f_heldType1, f_heldMissing, a_differences, a_bestBits, a_bestType, a_bestPartition, a_bestParameter, a_stream, a_masks, a_owner, a_starts, a_lengths, a_alteredByte, a_decoded, a_heldSamples)) : wpX_next post (f_blockLimit, f_sampleBits, f_capacity, f_count, f_nextFrame, f_planned, f_bestForm, nI L, f_frameCount, f_writeByte, f_writeMask, f_readByte, f_readMask, f_readEnd, f_decodedType0, f_decodedType1, nI pos, f_skipped, f_held, f_heldNumber, f_heldSize, f_heldForm, f_heldType0, f_heldType1, f_heldMissing, a_differences, a_bestBits, a_bestType, a_bestPartition, a_bestParameter, a_stream, a_masks, a_owner, a_starts, a_lengths, a_alteredByte, a_decoded, a_heldSamples) := by
  have H : wX_next_5 post 1 (nI L) f_blockLimit f_sampleBits f_capacity f_count f_nextFrame f_planned f_bestForm (nI L) f_frameCount f_writeByte f_writeMask f_readByte f_readMask f_readEnd f_decodedType0 f_decodedType1 (nI pos) f_skipped f_held f_heldNumber f_heldSize f_heldForm f_heldType0 f_heldType1 f_heldMissing a_differences a_bestBits a_bestType a_bestPartition a_bestParameter a_stream a_masks a_owner a_starts a_lengths a_alteredByte a_decoded a_heldSamples := br_t (nI_le (by omega) (by omega)) (nm_r (pk_sub hp) h)
  unfold wpX_next
  dsimp only
  exact ⟨_, xn_skip hB hL (Nat.le_refl _) H (L - pos) pos (by omega) hno⟩
theorem xn_some {b n S z form num : Nat} {l r : Nat → Int} (hB : ∀ i, i < L → a_stream i = nI (B i) ∧ B i < 256) (hL : L ≤ 256) (hps : pos ≤ S) (hSL : S + z ≤ L) (hno : ∀ q, pos ≤ q → q < S → ¬ isF B L q) (hyes : isF B L S) (h1 : 4 ≤ b) (h2 : b ≤ 12) (hr : rng b l r n) (hn0 : 1 ≤ n) (hn : n ≤ 16) (hf : form ≤ 3) (hz : 12 ≤ z) (q2 : a_stream (S + 2) = nI num) (q4 : a_stream (S + 4) = nI (form * 16 + (n - 1))) (q3 : a_stream (S + 3) = nI z) (hP : PB a_stream (S + 7) (S + (z - 3)) (enF b l r n form)) (h : ∀ dc rb rm re hs, hsO hs l r n → post (nI num) (f_blockLimit, nI b, f_capacity, f_count, f_nextFrame, f_planned, f_bestForm, nI L, f_frameCount, f_writeByte, f_writeMask, rb, rm, re, nI (bT b l r n (sgO form 0)), nI (bT b l r n (sgO form 1)), nI (S + z), nI (S - pos), 1, nI num, nI n, nI form, nI (bT b l r n (sgO form 0)), nI (bT b l r n (sgO form 1)), if f_held = 0 then 0 else ((nI num - f_heldNumber) - 1) &&& 127, a_differences, a_bestBits, a_bestType, a_bestPartition, a_bestParameter, a_stream, a_masks, a_owner, a_starts, a_lengths, a_alteredByte, dc, hs)) : wpX_next post (f_blockLimit, nI b, f_capacity, f_count, f_nextFrame, f_planned, f_bestForm, nI L, f_frameCount, f_writeByte, f_writeMask, f_readByte, f_readMask, f_readEnd, f_decodedType0, f_decodedType1, nI pos, f_skipped, f_held, f_heldNumber, f_heldSize, f_heldForm, f_heldType0, f_heldType1, f_heldMissing, a_differences, a_bestBits, a_bestType, a_bestPartition, a_bestParameter, a_stream, a_masks, a_owner, a_starts, a_lengths, a_alteredByte, a_decoded, a_heldSamples) := by
  have H : wX_next_5 post 1 (nI S) f_blockLimit (nI b) f_capacity f_count f_nextFrame f_planned f_bestForm (nI L) f_frameCount f_writeByte f_writeMask f_readByte f_readMask f_readEnd f_decodedType0 f_decodedType1 (nI pos) f_skipped f_held f_heldNumber f_heldSize f_heldForm f_heldType0 f_heldType1 f_heldMissing a_differences a_bestBits a_bestType a_bestPartition a_bestParameter a_stream a_masks a_owner a_starts a_lengths a_alteredByte a_decoded a_heldSamples := by
    refine br_f (nI_ge (by omega) (by omega)) ?_
    refine xisframe hB hL (by omega) (fun _ => br_f (by decide) ?_) (fun I => absurd hyes I)
    refine xdframe h1 h2 hr hn0 hn hf hz (by omega) q4 q3 hP (fun dc rb rm g0 g1 => br_f (by decide) ?_)
    exact xtake h1 h2 hr hn0 hn hf hz (by omega) q2 q4 q3 g0 g1 hps (fun hs g => h dc rb rm _ hs g)
  unfold wpX_next
  dsimp only
  exact ⟨_, xn_skip hB hL (by omega) H (S - pos) pos (by omega) hno⟩
end
section
variable {g_maxPairs g_width g_capacity g_n g_number g_length g_frames g_position g_skipped g_held g_missing : Int32}
variable {e_left e_right e_owner e_masks e_frameNumber e_frameSize e_frameForm e_frameType0 e_frameType1 e_frameLeft e_frameRight : Nat → Int32}
variable {post : Int32 → SY → Prop} {alt : Nat → Int32} {M O S N : Nat → Nat} {L fc pos : Nat}
theorem yn_skip (hY : LY e_owner alt M O L fc S N) (hM : ∀ q, q < L → e_masks q = nI (M q)) (hfc : fc ≤ 16) (hL : L ≤ 256) (hp : pos ≤ L) {g fuel0 : Nat} (hg : g ≤ fc) (H : wY_next_2 post g_maxPairs g_width g_capacity g_n g_number (nI L) (nI fc) (nI pos) g_skipped g_held g_missing e_left e_right e_owner e_masks e_frameNumber e_frameSize e_frameForm e_frameType0 e_frameType1 e_frameLeft e_frameRight fuel0 (nI g)) : ∀ d f, f + d = g → (∀ q, f ≤ q → q < g → ¬ (pos ≤ S q ∧ und S N M q)) → wY_next_2 post g_maxPairs g_width g_capacity g_n g_number (nI L) (nI fc) (nI pos) g_skipped g_held g_missing e_left e_right e_owner e_masks e_frameNumber e_frameSize e_frameForm e_frameType0 e_frameType1 e_frameLeft e_frameRight (fuel0 + d) (nI f) := by
  intro d
  induction d with
  | zero =>
    intro f h1 _
    obtain rfl : f = g := by omega
    exact H
  | succ d ih =>
    intro f h1 h2
    have IH := ih (f + 1) (by omega) (fun q a b => h2 q (by omega) b)
    have hf : f < fc := by omega
    have sz := ly_sz hY hf
    refine br_f (nI_ge (by omega) (by omega)) ?_
    refine yfs hY hfc hL hf ?_
    refine pk_lt (S f) pos (fun c => nm_r (nI_1 f) IH) (fun c => ?_)
    refine yund hY hM hfc hL hf (fun u => absurd ⟨c, u⟩ (h2 f (by omega) (by omega))) (fun _ => br_t rfl (nm_r (nI_1 f) IH))
theorem yn_none (hY : LY e_owner alt M O L fc S N) (hM : ∀ q, q < L → e_masks q = nI (M q)) (hfc : fc ≤ 16) (hL : L ≤ 256) (hp : pos ≤ L) (hno : ∀ q, q < fc → ¬ (pos ≤ S q ∧ und S N M q)) (h : post (-1) (g_maxPairs, g_width, g_capacity, g_n, g_number, nI L, nI fc, nI L, nI (L - pos), g_held, g_missing, e_left, e_right, e_owner, e_masks, e_frameNumber, e_frameSize, e_frameForm, e_frameType0, e_frameType1, e_frameLeft, e_frameRight)) : wpY_next post (g_maxPairs, g_width, g_capacity, g_n, g_number, nI L, nI fc, nI pos, g_skipped, g_held, g_missing, e_left, e_right, e_owner, e_masks, e_frameNumber, e_frameSize, e_frameForm, e_frameType0, e_frameType1, e_frameLeft, e_frameRight) := by
  have H : wY_next_2 post g_maxPairs g_width g_capacity g_n g_number (nI L) (nI fc) (nI pos) g_skipped g_held g_missing e_left e_right e_owner e_masks e_frameNumber e_frameSize e_frameForm e_frameType0 e_frameType1 e_frameLeft e_frameRight 1 (nI fc) := br_t (nI_le (by omega) (by omega)) (nm_r (pk_sub hp) h)
  unfold wpY_next
  dsimp only
  exact ⟨_, yn_skip hY hM hfc hL hp (Nat.le_refl _) H fc 0 (by omega) (fun q _ hq => hno q hq)⟩
theorem yn_some (hY : LY e_owner alt M O L fc S N) (hM : ∀ q, q < L → e_masks q = nI (M q)) (hfc : fc ≤ 16) (hL : L ≤ 256) (hp : pos ≤ L) {f : Nat} (hf : f < fc) (hno : ∀ q, q < f → ¬ (pos ≤ S q ∧ und S N M q)) (hps : pos ≤ S f) (hu : und S N M f) {ms : Int32} (hms : (g_held < 0 ∧ ms = 0) ∨ (∃ g, g < fc ∧ g_held = nI g ∧ ms = ((e_frameNumber f - e_frameNumber g) - 1) &&& 127)) (h : post (e_frameNumber f) (g_maxPairs, g_width, g_capacity, g_n, g_number, nI L, nI fc, nI (S f + N f), nI (S f - pos), nI f, ms, e_left, e_right, e_owner, e_masks, e_frameNumber, e_frameSize, e_frameForm, e_frameType0, e_frameType1, e_frameLeft, e_frameRight)) : wpY_next post (g_maxPairs, g_width, g_capacity, g_n, g_number, nI L, nI fc, nI pos, g_skipped, g_held, g_missing, e_left, e_right, e_owner, e_masks, e_frameNumber, e_frameSize, e_frameForm, e_frameType0, e_frameType1, e_frameLeft, e_frameRight) := by
  have sz := ly_sz hY hf
  have vf : vp_in (nI f) 16 := vp_in_nI (by omega) (by omega)
  have H : wY_next_2 post g_maxPairs g_width g_capacity g_n g_number (nI L) (nI fc) (nI pos) g_skipped g_held g_missing e_left e_right e_owner e_masks e_frameNumber e_frameSize e_frameForm e_frameType0 e_frameType1 e_frameLeft e_frameRight 1 (nI f) := by
    refine br_f (nI_ge (by omega) (by omega)) ?_
    refine yfs hY hfc hL hf ?_
    refine br_f (nI_nlt hps (by omega)) ?_
    refine yund hY hM hfc hL hf (fun _ => br_f (by decide) ?_) (fun x => absurd hu x)
    refine nm_r (pk_sub hps) ?_
    refine yfl hY hfc hL hf (nm_r (nI_add _ _) ?_)
    rcases hms with ⟨c, e⟩ | ⟨g, hg, c, e⟩
    · refine br_t c ?_
      unfold wY_next_90
      rw [nI_clamp (by omega)]
      rw [e] at h
      exact ⟨vf, h⟩
    · rw [c]
      refine br_f (nI_pos (by omega)) ⟨vf, vp_in_nI (by omega) (by omega), ?_⟩
      rw [nI_clamp (n := f) (by omega), nI_clamp (n := g) (by omega)]
      refine nm_r e.symm ?_
      unfold wY_next_90
      rw [nI_clamp (by omega)]
      exact ⟨vf, h⟩
  unfold wpY_next
  dsimp only
  exact ⟨_, yn_skip hY hM hfc hL hp (by omega) H f 0 (by omega) (fun q _ hq => hno q hq)⟩
end
section
variable {f_blockLimit f_sampleBits f_capacity f_count f_nextFrame f_planned f_bestForm f_length f_frameCount f_writeByte f_writeMask f_readByte f_readMask f_readEnd f_decodedType0 f_decodedType1 f_position f_skipped f_held f_heldNumber f_heldSize f_heldForm f_heldType0 f_heldType1 f_heldMissing : Int32}
variable {a_differences a_bestBits a_bestType a_bestPartition a_bestParameter a_stream a_masks a_owner a_starts a_lengths a_alteredByte a_decoded a_heldSamples : Nat → Int32}
variable {g_maxPairs g_width g_capacity g_n g_number g_length g_frames g_position g_skipped g_held g_missing : Int32}
variable {e_left e_right e_owner e_masks e_frameNumber e_frameSize e_frameForm e_frameType0 e_frameType1 e_frameLeft e_frameRight : Nat → Int32}
variable {bl b cp n nx L fc pos k : Nat} {l r : Nat → Int}
theorem vc_next (hc : RC bl b cp n nx L fc pos) (hp : RP b n a_differences e_left e_right l r) (hq : (f_planned = 0 ∨ (f_planned = 1 ∧ PLN b l r n f_bestForm a_bestBits a_bestType a_bestPartition a_bestParameter))) (hs : RS b L fc a_stream a_masks a_owner a_starts a_lengths a_alteredByte e_frameNumber e_frameSize e_frameForm e_frameType0 e_frameType1 e_frameLeft e_frameRight) (hh : RH fc f_held f_heldNumber f_heldSize f_heldForm f_heldType0 f_heldType1 f_heldMissing a_heldSamples g_held g_missing e_frameNumber e_frameSize e_frameForm e_frameType0 e_frameType1 e_frameLeft e_frameRight) : wpX_next (fun r u' => wpY_next (fun r' v' => r' = r ∧ i_Rel k u' v') (nI bl, nI b, nI cp, nI n, nI nx, nI L, nI fc, nI pos, f_skipped, g_held, g_missing, e_left, e_right, a_owner, a_masks, e_frameNumber, e_frameSize, e_frameForm, e_frameType0, e_frameType1, e_frameLeft, e_frameRight)) (nI bl, nI b, nI cp, nI n, nI nx, f_planned, f_bestForm, nI L, nI fc, f_writeByte, f_writeMask, f_readByte, f_readMask, f_readEnd, f_decodedType0, f_decodedType1, nI pos, f_skipped, f_held, f_heldNumber, f_heldSize, f_heldForm, f_heldType0, f_heldType1, f_heldMissing, a_differences, a_bestBits, a_bestType, a_bestPartition, a_bestParameter, a_stream, a_masks, a_owner, a_starts, a_lengths, a_alteredByte, a_decoded, a_heldSamples) := by
  have hs0 := hs
  obtain ⟨c1, c2, c3, c4, c5, c6, c7, c8, c9, c10⟩ := hc
  obtain ⟨M, O, S, N, hY, hM, hF⟩ := hs
  have hMm : ∀ q, q < L → a_masks q = nI (M q) := fun q hq => (hM q hq).1
  have hB : ∀ i, i < L → a_stream i = nI ((fun q => O q ^^^ M q) i) ∧ (fun q => O q ^^^ M q) i < 256 := fun i hi => ⟨(hM i hi).2, xor_lt256 (hY.2.2.2.1 i hi).2 (hY.2.2.2.1 i hi).1⟩
  have iff : ∀ {k : Nat}, isF (fun q => O q ^^^ M q) L k ↔ ∃ f, f < fc ∧ S f = k ∧ und S N M f := isF_iff hY (fun q _ => rfl)
  by_cases ex : ∃ f, f < fc ∧ pos ≤ S f ∧ und S N M f
  · obtain ⟨f, ⟨hf, hps, hu⟩, least⟩ := pk_least _ ex
    have sz := ly_sz hY hf
    obtain ⟨e1, e2, num, n', fm, l', r', ⟨q1, q2, q3, q4, q5⟩, q6, ⟨q7, q8, q9, q10⟩, q11, ⟨q12, q13, q14⟩, q15⟩ := hF f hf
    have FHf := (hY.1 f hf).1
    have str : ∀ i, i < N f → a_stream (S f + i) = nI (O (S f + i)) := fun i hi => by
      rw [(hM _ (by omega)).2, hu (S f + i) ⟨by omega, by omega⟩, Nat.xor_zero]
    have no : ∀ q, q < f → ¬ (pos ≤ S q ∧ und S N M q) := fun q hq hx => least q hq ⟨by omega, hx.1, hx.2⟩
    have hPB : PB a_stream (S f + 7) (S f + (N f - 3)) (enF b l' r' n' fm) := by
      refine ⟨?_, fun i hi => ?_⟩
      · rw [enF_len]
        have : S f + (N f - 3) - (S f + 7) = N f - 10 := by omega
        rw [this]; exact q14
      · have := str (7 + i) (by omega)
        rw [← Nat.add_assoc] at this
        rw [this, q15 i (by omega)]
    refine xn_some hB (by omega) hps sz.2.2 (fun q a1 a2 I => ?_) (iff.mpr ⟨f, hf, rfl, hu⟩) c3 c4 q11 q9 q10 q8 sz.1 (by rw [str 2 (by omega), q12]) (by rw [str 4 (by omega), q13]) (by rw [str 3 (by omega), FHf.2.2.2.2.1]) hPB (fun dc rb rm re hsm g => ?_)
    · obtain ⟨g, hg, e, u⟩ := iff.mp I
      rcases Nat.lt_trichotomy g f with y | y | y
      · exact no g y ⟨by omega, u⟩
      · subst y; omega
      · have := hY.2.1 f g y hg; omega
    · have RHn : ∀ (ms gm : Int32), ms = gm → RH fc 1 (nI num) (nI n') (nI fm) (nI (bT b l' r' n' (sgO fm 0))) (nI (bT b l' r' n' (sgO fm 1))) ms hsm (nI f) gm e_frameNumber e_frameSize e_frameForm e_frameType0 e_frameType1 e_frameLeft e_frameRight := by
        intro ms gm e
        refine Or.inr ⟨rfl, f, hf, rfl, q1.symm, q2.symm, q3.symm, q4.symm, q5.symm, e, fun t ht hlt => ?_⟩
        rw [q2, nI_ltI (by omega) (by omega)] at hlt
        obtain ⟨g1, g2⟩ := g t hlt
        obtain ⟨f1, f2⟩ := q6 t hlt
        exact ⟨g1.trans f1.symm, g2.trans f2.symm⟩
      have fin : ∀ ms gm : Int32, ms = gm → i_Rel k (nI bl, nI b, nI cp, nI n, nI nx, f_planned, f_bestForm, nI L, nI fc, f_writeByte, f_writeMask, rb, rm, re, nI (bT b l' r' n' (sgO fm 0)), nI (bT b l' r' n' (sgO fm 1)), nI (S f + N f), nI (S f - pos), 1, nI num, nI n', nI fm, nI (bT b l' r' n' (sgO fm 0)), nI (bT b l' r' n' (sgO fm 1)), ms, a_differences, a_bestBits, a_bestType, a_bestPartition, a_bestParameter, a_stream, a_masks, a_owner, a_starts, a_lengths, a_alteredByte, dc, hsm) (nI bl, nI b, nI cp, nI n, nI nx, nI L, nI fc, nI (S f + N f), nI (S f - pos), nI f, gm, e_left, e_right, a_owner, a_masks, e_frameNumber, e_frameSize, e_frameForm, e_frameType0, e_frameType1, e_frameLeft, e_frameRight) := fun ms gm e => zz_in ⟨c1, c2, c3, c4, c5, c6, c7, c8, c9, by omega⟩ hp hq hs0 (RHn ms gm e)
      rcases hh with ⟨x1, x2⟩ | ⟨x1, h, x2, x3, x4, _⟩
      · refine yn_some (ms := 0) hY hMm c9 (by omega) c10 hf no hps hu (Or.inl ⟨by rw [x2]; decide, rfl⟩) ⟨q1, fin _ _ ?_⟩
        rw [if_pos x1]
      · refine yn_some (ms := ((e_frameNumber f - e_frameNumber h) - 1) &&& 127) hY hMm c9 (by omega) c10 hf no hps hu (Or.inr ⟨h, x2, x3, rfl⟩) ⟨q1, fin _ _ ?_⟩
        rw [if_neg (by rw [x1]; decide), x4, q1]
  · refine xn_none hB (by omega) c10 (fun q a1 a2 I => ?_) ?_
    · obtain ⟨g, hg, e, u⟩ := iff.mp I
      exact ex ⟨g, hg, by omega, u⟩
    · refine yn_none hY hMm c9 (by omega) c10 (fun q hq hx => ex ⟨q, hq, hx.1, hx.2⟩) ⟨rfl, ?_⟩
      exact zz_in ⟨c1, c2, c3, c4, c5, c6, c7, c8, c9, by omega⟩ hp hq hs0 hh
end
end
section
/-! the constructors -/
def clN (v : Int32) (lo hi : Nat) : Nat := if nI lo ≤ v then (if v ≤ nI hi then v.toNatClampNeg else hi) else lo
theorem clN_bd {v : Int32} {lo hi : Nat} (h : lo ≤ hi) (hh : hi < 2147483648) : lo ≤ clN v lo hi ∧ clN v lo hi ≤ hi ∧ (nI lo ≤ v → v ≤ nI hi → v = nI (clN v lo hi)) := by
  unfold clN
  by_cases a : nI lo ≤ v
  · rw [if_pos a]
    by_cases c : v ≤ nI hi
    · rw [if_pos c]
      have n0 : ¬ v < 0 := fun z => by
        have e : nI lo < 0 := Int32.lt_of_le_of_lt a z
        exact nI_pos (n := lo) (by omega) e
      obtain ⟨m, hm, rfl⟩ := nI_of n0
      rw [nI_clamp hm]
      rw [nI_leI (by omega) hm] at a
      rw [nI_leI hm (by omega)] at c
      exact ⟨a, c, fun _ _ => rfl⟩
    · rw [if_neg c]
      exact ⟨h, Nat.le_refl _, fun _ x => absurd x c⟩
  · rw [if_neg a]
    exact ⟨Nat.le_refl _, h, fun x => absurd x a⟩
section
variable {f_blockLimit f_sampleBits f_capacity f_count f_nextFrame f_planned f_bestForm f_length f_frameCount f_writeByte f_writeMask f_readByte f_readMask f_readEnd f_decodedType0 f_decodedType1 f_position f_skipped f_held f_heldNumber f_heldSize f_heldForm f_heldType0 f_heldType1 f_heldMissing : Int32}
variable {a_differences a_bestBits a_bestType a_bestPartition a_bestParameter a_stream a_masks a_owner a_starts a_lengths a_alteredByte a_decoded a_heldSamples : Nat → Int32}
theorem xclamp {post : Int32 → Prop} {v : Int32} {lo hi : Nat} (h1 : lo ≤ hi) (h2 : hi < 2147483648) (h : post (nI (clN v lo hi))) : wpX_clamp post (f_blockLimit, f_sampleBits, f_capacity, f_count, f_nextFrame, f_planned, f_bestForm, f_length, f_frameCount, f_writeByte, f_writeMask, f_readByte, f_readMask, f_readEnd, f_decodedType0, f_decodedType1, f_position, f_skipped, f_held, f_heldNumber, f_heldSize, f_heldForm, f_heldType0, f_heldType1, f_heldMissing, a_differences, a_bestBits, a_bestType, a_bestPartition, a_bestParameter, a_stream, a_masks, a_owner, a_starts, a_lengths, a_alteredByte, a_decoded, a_heldSamples) v (nI lo) (nI hi) := by
  have bd := (clN_bd (v := v) h1 h2).2.2
  unfold wpX_clamp
  dsimp only
  refine br_c (fun a => br_c (fun c => ?_) (fun c => ?_)) (fun a => ?_)
  · rw [bd a c]; rw [← bd a c]; rw [← bd a c] at h; exact h
  · unfold clN at h; rw [if_pos a, if_neg c] at h; exact h
  · unfold clN at h; rw [if_neg a] at h; exact h
end
section
variable {g_maxPairs g_width g_capacity g_n g_number g_length g_frames g_position g_skipped g_held g_missing : Int32}
variable {e_left e_right e_owner e_masks e_frameNumber e_frameSize e_frameForm e_frameType0 e_frameType1 e_frameLeft e_frameRight : Nat → Int32}
theorem yclamp {post : Int32 → Prop} {v : Int32} {lo hi : Nat} (h1 : lo ≤ hi) (h2 : hi < 2147483648) (h : post (nI (clN v lo hi))) : wpY_clamp post (g_maxPairs, g_width, g_capacity, g_n, g_number, g_length, g_frames, g_position, g_skipped, g_held, g_missing, e_left, e_right, e_owner, e_masks, e_frameNumber, e_frameSize, e_frameForm, e_frameType0, e_frameType1, e_frameLeft, e_frameRight) v (nI lo) (nI hi) := by
  have bd := (clN_bd (v := v) h1 h2).2.2
  unfold wpY_clamp
  dsimp only
  refine br_c (fun a => br_c (fun c => ?_) (fun c => ?_)) (fun a => ?_)
  · rw [← bd a c] at h; exact h
  · unfold clN at h; rw [if_pos a, if_neg c] at h; exact h
  · unfold clN at h; rw [if_neg a] at h; exact h
end
theorem i_vc0 (k0 : Int32) (k1 : Int32) (k2 : Int32) (k3 : Int32) : wpX_init (fun u => wpY_init (fun v => i_Rel 4 u v) k0 k1 k2 k3) k0 k1 k2 k3 := by
  have b0 := clN_bd (v := k0) (lo := 4) (hi := 16) (by omega) (by omega)
  have b1 := clN_bd (v := k1) (lo := 4) (hi := 12) (by omega) (by omega)
  have b2 := clN_bd (v := k2) (lo := 32) (hi := 256) (by omega) (by omega)
  have b3 := clN_bd (v := k3) (lo := 0) (hi := 127) (by omega) (by omega)
  unfold wpX_init
  refine xclamp (lo := 4) (hi := 16) (by omega) (by omega) ?_
  refine xclamp (lo := 4) (hi := 12) (by omega) (by omega) ?_
  refine xclamp (lo := 32) (hi := 256) (by omega) (by omega) ?_
  refine xclamp (lo := 0) (hi := 127) (by omega) (by omega) ?_
  unfold wpY_init
  refine yclamp (lo := 4) (hi := 16) (by omega) (by omega) ?_
  refine yclamp (lo := 4) (hi := 12) (by omega) (by omega) ?_
  refine yclamp (lo := 32) (hi := 256) (by omega) (by omega) ?_
  refine yclamp (lo := 0) (hi := 127) (by omega) (by omega) ?_
  exact zz_in (bl := clN k0 4 16) (b := clN k1 4 12) (cp := clN k2 32 256) (n := 0) (nx := clN k3 0 127) (L := 0) (fc := 0) (pos := 0) (l := fun _ => 0) (r := fun _ => 0) ⟨b0.1, b0.2.1, b1.1, b1.2.1, b2.2.1, by omega, by omega, by omega, by omega, by omega⟩ RP_0 (Or.inl rfl) RS_0 (Or.inl ⟨rfl, rfl⟩)
end
section
/-! the owed statements -/
theorem i_vc_push {k : Nat} {u : SX} {v : SY} (I : i_Rel k u v) (hk : k + 5 ≤ 2564) (v1 : Int32) (v2 : Int32) : wpX_push (fun r u' => wpY_push (fun r' v' => r' = r ∧ i_Rel (k + 5) u' v') v v1 v2) u v1 v2 :=
  zz_el (P := fun u v => wpX_push (fun r u' => wpY_push (fun r' v' => r' = r ∧ i_Rel (k + 5) u' v') v v1 v2) u v1 v2) (fun hc hp hq hs hh => vc_push hc hp hq hs hh v1 v2) I
theorem i_vc_discard {k : Nat} {u : SX} {v : SY} (I : i_Rel k u v) (hk : k + 5 ≤ 2564) : wpX_discard (fun r u' => wpY_discard (fun r' v' => r' = r ∧ i_Rel (k + 5) u' v') v) u :=
  zz_el (P := fun u v => wpX_discard (fun r u' => wpY_discard (fun r' v' => r' = r ∧ i_Rel (k + 5) u' v') v) u) (fun hc hp hq hs hh => vc_discard hc hp hq hs hh) I
theorem i_vc_pending {k : Nat} {u : SX} {v : SY} (I : i_Rel k u v) (hk : k + 5 ≤ 2564) : wpX_pending (fun r => wpY_pending (fun r' => r' = r ∧ i_Rel (k + 5) u v) v) u :=
  zz_el (P := fun u v => wpX_pending (fun r => wpY_pending (fun r' => r' = r ∧ i_Rel (k + 5) u v) v) u) (fun hc hp hq hs hh => And.intro rfl (zz_in hc hp hq hs hh)) I
theorem i_vc_signalAt {k : Nat} {u : SX} {v : SY} (I : i_Rel k u v) (hk : k + 5 ≤ 2564) (v1 : Int32) (v2 : Int32) : wpX_signalAt (fun r => wpY_signalAt (fun r' => r' = r ∧ i_Rel (k + 5) u v) v v1 v2) u v1 v2 :=
  zz_el (P := fun u v => wpX_signalAt (fun r => wpY_signalAt (fun r' => r' = r ∧ i_Rel (k + 5) u v) v v1 v2) u v1 v2) (fun hc hp hq hs hh => vc_signalAt hc hp hq hs hh v1 v2) I
theorem i_vc_partBits {k : Nat} {u : SX} {v : SY} (I : i_Rel k u v) (hk : k + 5 ≤ 2564) (v1 : Int32) (v2 : Int32) (v3 : Int32) (v4 : Int32) : wpX_partBits (fun r => wpY_partBits (fun r' => r' = r ∧ i_Rel (k + 5) u v) v v1 v2 v3 v4) u v1 v2 v3 v4 :=
  zz_el (P := fun u v => wpX_partBits (fun r => wpY_partBits (fun r' => r' = r ∧ i_Rel (k + 5) u v) v v1 v2 v3 v4) u v1 v2 v3 v4) (fun hc hp hq hs hh => vc_partBits hc hp hq hs hh v1 v2 v3 v4) I
theorem i_vc_trialBits {k : Nat} {u : SX} {v : SY} (I : i_Rel k u v) (hk : k + 5 ≤ 2564) (v1 : Int32) (v2 : Int32) (v3 : Int32) : wpX_trialBits (fun r => wpY_trialBits (fun r' => r' = r ∧ i_Rel (k + 5) u v) v v1 v2 v3) u v1 v2 v3 :=
  zz_el (P := fun u v => wpX_trialBits (fun r => wpY_trialBits (fun r' => r' = r ∧ i_Rel (k + 5) u v) v v1 v2 v3) u v1 v2 v3) (fun hc hp hq hs hh => vc_trialBits hc hp hq hs hh v1 v2 v3) I
theorem i_vc_planForm {k : Nat} {u : SX} {v : SY} (I : i_Rel k u v) (hk : k + 5 ≤ 2564) : wpX_planForm (fun r u' => wpY_planForm (fun r' => r' = r ∧ i_Rel (k + 5) u' v) v) u :=
  zz_el (P := fun u v => wpX_planForm (fun r u' => wpY_planForm (fun r' => r' = r ∧ i_Rel (k + 5) u' v) v) u) (fun hc hp hq hs hh => vc_planForm hc hp hq hs hh) I
theorem i_vc_planField {k : Nat} {u : SX} {v : SY} (I : i_Rel k u v) (hk : k + 5 ≤ 2564) (v1 : Int32) (v2 : Int32) : wpX_planField (fun r u' => wpY_planField (fun r' => r' = r ∧ i_Rel (k + 5) u' v) v v1 v2) u v1 v2 :=
  zz_el (P := fun u v => wpX_planField (fun r u' => wpY_planField (fun r' => r' = r ∧ i_Rel (k + 5) u' v) v v1 v2) u v1 v2) (fun hc hp hq hs hh => vc_planField hc hp hq hs hh v1 v2) I
theorem i_vc_commit {k : Nat} {u : SX} {v : SY} (I : i_Rel k u v) (hk : k + 5 ≤ 2564) : wpX_commit (fun r u' => wpY_commit (fun r' v' => r' = r ∧ i_Rel (k + 5) u' v') v) u :=
  zz_el (P := fun u v => wpX_commit (fun r u' => wpY_commit (fun r' v' => r' = r ∧ i_Rel (k + 5) u' v') v) u) (fun hc hp hq hs hh => vc_commit hc hp hq hs hh) I
theorem i_vc_nextNumber {k : Nat} {u : SX} {v : SY} (I : i_Rel k u v) (hk : k + 5 ≤ 2564) : wpX_nextNumber (fun r => wpY_nextNumber (fun r' => r' = r ∧ i_Rel (k + 5) u v) v) u :=
  zz_el (P := fun u v => wpX_nextNumber (fun r => wpY_nextNumber (fun r' => r' = r ∧ i_Rel (k + 5) u v) v) u) (fun hc hp hq hs hh => And.intro rfl (zz_in hc hp hq hs hh)) I
theorem i_vc_streamLength {k : Nat} {u : SX} {v : SY} (I : i_Rel k u v) (hk : k + 5 ≤ 2564) : wpX_streamLength (fun r => wpY_streamLength (fun r' => r' = r ∧ i_Rel (k + 5) u v) v) u :=
  zz_el (P := fun u v => wpX_streamLength (fun r => wpY_streamLength (fun r' => r' = r ∧ i_Rel (k + 5) u v) v) u) (fun hc hp hq hs hh => And.intro rfl (zz_in hc hp hq hs hh)) I
theorem i_vc_frameStart {k : Nat} {u : SX} {v : SY} (I : i_Rel k u v) (hk : k + 5 ≤ 2564) (v1 : Int32) : wpX_frameStart (fun r => wpY_frameStart (fun r' => r' = r ∧ i_Rel (k + 5) u v) v v1) u v1 :=
  zz_el (P := fun u v => wpX_frameStart (fun r => wpY_frameStart (fun r' => r' = r ∧ i_Rel (k + 5) u v) v v1) u v1) (fun hc hp hq hs hh => vc_frameStart hc hp hq hs hh v1) I
theorem i_vc_frameLength {k : Nat} {u : SX} {v : SY} (I : i_Rel k u v) (hk : k + 5 ≤ 2564) (v1 : Int32) : wpX_frameLength (fun r => wpY_frameLength (fun r' => r' = r ∧ i_Rel (k + 5) u v) v v1) u v1 :=
  zz_el (P := fun u v => wpX_frameLength (fun r => wpY_frameLength (fun r' => r' = r ∧ i_Rel (k + 5) u v) v v1) u v1) (fun hc hp hq hs hh => vc_frameLength hc hp hq hs hh v1) I
theorem i_vc_stray {k : Nat} {u : SX} {v : SY} (I : i_Rel k u v) (hk : k + 5 ≤ 2564) (v1 : Int32) : wpX_stray (fun r u' => wpY_stray (fun r' v' => r' = r ∧ i_Rel (k + 5) u' v') v v1) u v1 :=
  zz_el (P := fun u v => wpX_stray (fun r u' => wpY_stray (fun r' v' => r' = r ∧ i_Rel (k + 5) u' v') v v1) u v1) (fun hc hp hq hs hh => vc_stray hc hp hq hs hh v1) I
theorem i_vc_alter {k : Nat} {u : SX} {v : SY} (I : i_Rel k u v) (hk : k + 5 ≤ 2564) (v1 : Int32) (v2 : Int32) : wpX_alter (fun r u' => wpY_alter (fun r' v' => r' = r ∧ i_Rel (k + 5) u' v') v v1 v2) u v1 v2 :=
  zz_el (P := fun u v => wpX_alter (fun r u' => wpY_alter (fun r' v' => r' = r ∧ i_Rel (k + 5) u' v') v v1 v2) u v1 v2) (fun hc hp hq hs hh => vc_alter hc hp hq hs hh v1 v2) I
theorem i_vc_alteredAt {k : Nat} {u : SX} {v : SY} (I : i_Rel k u v) (hk : k + 5 ≤ 2564) (v1 : Int32) : wpX_alteredAt (fun r => wpY_alteredAt (fun r' => r' = r ∧ i_Rel (k + 5) u v) v v1) u v1 :=
  zz_el (P := fun u v => wpX_alteredAt (fun r => wpY_alteredAt (fun r' => r' = r ∧ i_Rel (k + 5) u v) v v1) u v1) (fun hc hp hq hs hh => vc_alteredAt hc hp hq hs hh v1) I
theorem i_vc_clear {k : Nat} {u : SX} {v : SY} (I : i_Rel k u v) (hk : k + 5 ≤ 2564) : wpX_clear (fun u' => wpY_clear (fun v' => i_Rel (k + 5) u' v') v) u :=
  zz_el (P := fun u v => wpX_clear (fun u' => wpY_clear (fun v' => i_Rel (k + 5) u' v') v) u) (fun hc hp hq hs hh => vc_clear hc hp hq hs hh) I
theorem i_vc_seek {k : Nat} {u : SX} {v : SY} (I : i_Rel k u v) (hk : k + 5 ≤ 2564) (v1 : Int32) : wpX_seek (fun r u' => wpY_seek (fun r' v' => r' = r ∧ i_Rel (k + 5) u' v') v v1) u v1 :=
  zz_el (P := fun u v => wpX_seek (fun r u' => wpY_seek (fun r' v' => r' = r ∧ i_Rel (k + 5) u' v') v v1) u v1) (fun hc hp hq hs hh => vc_seek hc hp hq hs hh v1) I
theorem i_vc_next {k : Nat} {u : SX} {v : SY} (I : i_Rel k u v) (hk : k + 5 ≤ 2564) : wpX_next (fun r u' => wpY_next (fun r' v' => r' = r ∧ i_Rel (k + 5) u' v') v) u :=
  zz_el (P := fun u v => wpX_next (fun r u' => wpY_next (fun r' v' => r' = r ∧ i_Rel (k + 5) u' v') v) u) (fun hc hp hq hs hh => vc_next hc hp hq hs hh) I
theorem i_vc_readPosition {k : Nat} {u : SX} {v : SY} (I : i_Rel k u v) (hk : k + 5 ≤ 2564) : wpX_readPosition (fun r => wpY_readPosition (fun r' => r' = r ∧ i_Rel (k + 5) u v) v) u :=
  zz_el (P := fun u v => wpX_readPosition (fun r => wpY_readPosition (fun r' => r' = r ∧ i_Rel (k + 5) u v) v) u) (fun hc hp hq hs hh => And.intro rfl (zz_in hc hp hq hs hh)) I
theorem i_vc_readSample {k : Nat} {u : SX} {v : SY} (I : i_Rel k u v) (hk : k + 5 ≤ 2564) (v1 : Int32) (v2 : Int32) : wpX_readSample (fun r => wpY_readSample (fun r' => r' = r ∧ i_Rel (k + 5) u v) v v1 v2) u v1 v2 :=
  zz_el (P := fun u v => wpX_readSample (fun r => wpY_readSample (fun r' => r' = r ∧ i_Rel (k + 5) u v) v v1 v2) u v1 v2) (fun hc hp hq hs hh => vc_readSample hc hp hq hs hh v1 v2) I
theorem i_vc_readField {k : Nat} {u : SX} {v : SY} (I : i_Rel k u v) (hk : k + 5 ≤ 2564) (v1 : Int32) : wpX_readField (fun r => wpY_readField (fun r' => r' = r ∧ i_Rel (k + 5) u v) v v1) u v1 :=
  zz_el (P := fun u v => wpX_readField (fun r => wpY_readField (fun r' => r' = r ∧ i_Rel (k + 5) u v) v v1) u v1) (fun hc hp hq hs hh => vc_readField hc hp hq hs hh v1) I
end
