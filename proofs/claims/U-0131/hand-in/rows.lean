section
/-! pure rows to paste: stores, nI and lN arithmetic, masks, shifts, narrowing, branches by naturals (pk_le, pk_lt, pk_eq), loops (lp1 .. lp16: the measure of the state; rp1 ..: recursion), negatives. Take what you need -/
theorem pk_us {f : Nat → Int32} {k : Nat} {x : Int32} : upd f k x k = x := if_pos rfl
theorem pk_un {f : Nat → Int32} {k j : Nat} {x : Int32} (h : j ≠ k) : upd f k x j = f j := if_neg h
theorem pk_uLs {f : Nat → Int64} {k : Nat} {x : Int64} : vp_updL f k x k = x := if_pos rfl
theorem pk_uLn {f : Nat → Int64} {k j : Nat} {x : Int64} (h : j ≠ k) : vp_updL f k x j = f j := if_neg h
theorem pk_sub {a b : Nat} (h : b ≤ a) : nI a - nI b = nI (a - b) := by
  obtain ⟨c, rfl⟩ : ∃ c, a = c + b := ⟨a - b, by omega⟩
  rw [← nI_add, Int32.add_sub_cancel, Nat.add_sub_cancel]
theorem pk_m1 (n : Nat) : nI (n + 1) + (-1) = nI n := by
  rw [← nI_1, Int32.add_assoc, show (1 : Int32) + (-1) = 0 from rfl, Int32.add_zero]
theorem pk_mul (a b : Nat) : nI a * nI b = nI (a * b) := (Int32.ofNat_mul a b).symm
theorem pk_div {a d : Nat} (ha : a < 2 ^ 31) (h0 : 0 < d) (hd : d < 2 ^ 31) : nI a / nI d = nI (a / d) := by
  apply Int32.toInt_inj.mp
  rw [lg_idiv_nonneg (by rw [nI_toInt ha]; omega) (by rw [nI_toInt hd]; omega), nI_toInt ha, nI_toInt hd, nI_toInt (Nat.lt_of_le_of_lt (Nat.div_le_self a d) ha)]
  first | rfl | exact (Int.natCast_ediv _ _).symm
theorem pk_rem {a d : Nat} (ha : a < 2 ^ 31) (h0 : 0 < d) (hd : d < 2 ^ 31) : nI a - nI a / nI d * nI d = nI (a % d) := by
  rw [pk_div ha h0 hd, pk_mul, pk_sub (Nat.div_mul_le_self a d)]
  exact congrArg nI (by have := Nat.div_add_mod' a d; omega)
theorem pk_sub_toInt {a b : Nat} (ha : a < 2 ^ 30) (hb : b < 2 ^ 30) : (nI a - nI b).toInt = (a : Int) - b := by
  rw [Int32.toInt_sub, nI_toInt (by omega), nI_toInt (by omega)]
  exact Int.bmod_eq_of_le (by omega) (by omega)
theorem pk_sneg {a b : Nat} (hb : b < 2 ^ 30) (h : a < b) : nI a - nI b < 0 := by
  rw [Int32.lt_iff_toInt_lt, pk_sub_toInt (by omega) hb, show (0 : Int32).toInt = 0 from by decide]
  omega
theorem pk_ix (x : Int32) {n : Nat} (hn : n < 2 ^ 31) : x < 0 ∨ nI n ≤ x ∨ ∃ j : Nat, j < n ∧ x = nI j := by
  by_cases h : x < 0
  · exact Or.inl h
  · obtain ⟨j, hj, rfl⟩ := nI_of h
    by_cases h2 : j < n
    · exact Or.inr (Or.inr ⟨j, h2, rfl⟩)
    · exact Or.inr (Or.inl (nI_le (by omega) hj))
theorem pk_le {x y : Int32} {A B : Prop} (a b : Nat) (f : a ≤ b → A) (g : b < a → B) (hx : x = nI a := by rfl) (hy : y = nI b := by rfl) (ha : a < 2 ^ 31 := by omega) (hb : b < 2 ^ 31 := by omega) : (x ≤ y → A) ∧ (¬ x ≤ y → B) := by
  subst hx hy
  rw [nI_leI ha hb]
  exact ⟨f, fun z => g (by omega)⟩
theorem pk_lt {x y : Int32} {A B : Prop} (a b : Nat) (f : a < b → A) (g : b ≤ a → B) (hx : x = nI a := by rfl) (hy : y = nI b := by rfl) (ha : a < 2 ^ 31 := by omega) (hb : b < 2 ^ 31 := by omega) : (x < y → A) ∧ (¬ x < y → B) := by
  subst hx hy
  rw [nI_ltI ha hb]
  exact ⟨f, fun z => g (by omega)⟩
theorem pk_eq {x y : Int32} {A B : Prop} (a b : Nat) (f : a = b → A) (g : a ≠ b → B) (hx : x = nI a := by rfl) (hy : y = nI b := by rfl) (ha : a < 2 ^ 31 := by omega) (hb : b < 2 ^ 31 := by omega) : (x = y → A) ∧ (¬ x = y → B) := by
  subst hx hy
  rw [nI_eq ha hb]
  exact ⟨f, g⟩
theorem pk_in {x : Int32} (n N : Nat) (h : n < N) (hx : x = nI n := by rfl) (hN : N < 2 ^ 31 := by omega) : vp_in x N := by
  subst hx
  exact vp_in_nI h hN
theorem pk_cl {x : Int32} (n : Nat) (hx : x = nI n := by rfl) (h : n < 2 ^ 31 := by omega) : x.toNatClampNeg = n := by
  subst hx
  exact nI_clamp h
theorem pk_tn {n : Nat} (h : n < 2 ^ 32) : (nI n).toBitVec.toNat = n := Nat.mod_eq_of_lt h
theorem pk_and (x : Int32) {m : Int32} (k : Nat) (hm : m.toBitVec.toNat = 2 ^ k - 1) : x &&& m = nI (x.toBitVec.toNat % 2 ^ k) := by
  apply Int32.toBitVec_inj.mp
  apply BitVec.eq_of_toNat_eq
  rw [Int32.toBitVec_and, BitVec.toNat_and, hm, Nat.and_two_pow_sub_one_eq_mod]
  show _ = (BitVec.ofNat 32 _).toNat
  rw [BitVec.toNat_ofNat]
  exact (Nat.mod_eq_of_lt (Nat.lt_of_le_of_lt (Nat.mod_le _ _) x.toBitVec.isLt)).symm
theorem pk_andN {n : Nat} (h : n < 2 ^ 32) {m : Int32} (k : Nat) (hm : m.toBitVec.toNat = 2 ^ k - 1) : nI n &&& m = nI (n % 2 ^ k) := by
  rw [pk_and _ k hm, pk_tn h]
theorem pk_andE (x : Int32) {m : Int32} (k : Nat) (hm : m.toBitVec.toNat = 2 ^ k - 1) : ∃ j : Nat, j < 2 ^ k ∧ x &&& m = nI j := ⟨_, Nat.mod_lt _ (Nat.two_pow_pos k), pk_and x k hm⟩
theorem pk_andIn (x : Int32) {m : Int32} (k : Nat) (hm : m.toBitVec.toNat = 2 ^ k - 1) (hk : k ≤ 30) : vp_in (x &&& m) (2 ^ k) := by
  obtain ⟨j, hj, e⟩ := pk_andE x k hm
  rw [e]
  exact vp_in_nI hj (Nat.lt_of_le_of_lt (Nat.pow_le_pow_right (by decide) hk) (by decide))
theorem pk_shl (a s : Int32) (k : Nat) (hs : (s.toBitVec.smod 32).toNat = k) : (a <<< s).toBitVec.toNat = a.toBitVec.toNat * 2 ^ k % 2 ^ 32 := by
  show (a.toBitVec <<< (s.toBitVec.smod 32).toNat).toNat = _
  rw [hs, BitVec.toNat_shiftLeft, Nat.shiftLeft_eq]
theorem pk_shlN {n : Nat} (s : Int32) (k : Nat) (hs : (s.toBitVec.smod 32).toNat = k) (h : n * 2 ^ k < 2 ^ 32) : nI n <<< s = nI (n * 2 ^ k) := by
  apply Int32.toBitVec_inj.mp
  apply BitVec.eq_of_toNat_eq
  have hn : n < 2 ^ 32 := Nat.lt_of_le_of_lt (Nat.le_mul_of_pos_right n (Nat.two_pow_pos k)) h
  rw [pk_shl _ _ k hs, pk_tn hn, pk_tn h, Nat.mod_eq_of_lt h]
theorem pk_shr (a s : Int32) (k : Nat) (hs : (s.toBitVec.smod 32).toNat = k) : (a >>> s).toInt = a.toInt >>> k := by
  show (a.toBitVec.sshiftRight (s.toBitVec.smod 32).toNat).toInt = _
  rw [hs, BitVec.toInt_sshiftRight]
  rfl
theorem pk_shrN {n : Nat} (h : n < 2 ^ 31) (s : Int32) (k : Nat) (hs : (s.toBitVec.smod 32).toNat = k) : nI n >>> s = nI (n / 2 ^ k) := by
  apply Int32.toInt_inj.mp
  have h2 : n / 2 ^ k ≤ n := Nat.div_le_self _ _
  rw [pk_shr _ _ k hs, nI_toInt h, nI_toInt (by omega), Int.shiftRight_eq_div_pow]
  rfl
theorem pk_ushr (x s : Int32) (k : Nat) (hs : ((s.toUInt32 &&& Int32.toUInt32 31).toBitVec % 32).toNat = k) : (x.toUInt32 >>> (s.toUInt32 &&& Int32.toUInt32 31)).toInt32.toBitVec.toNat = x.toBitVec.toNat / 2 ^ k := by
  have e : (x.toUInt32 >>> (s.toUInt32 &&& Int32.toUInt32 31)).toInt32.toBitVec = x.toBitVec >>> k := by
    rw [← hs]
    exact UInt32.toBitVec_shiftRight _ _
  rw [e, BitVec.toNat_ushiftRight, Nat.shiftRight_eq_div_pow]
theorem pk_ushrN {n : Nat} (hn : n < 2 ^ 32) (s : Int32) (k : Nat) (hs : ((s.toUInt32 &&& Int32.toUInt32 31).toBitVec % 32).toNat = k) : ((nI n).toUInt32 >>> (s.toUInt32 &&& Int32.toUInt32 31)).toInt32 = nI (n / 2 ^ k) := by
  apply Int32.toBitVec_inj.mp
  apply BitVec.eq_of_toNat_eq
  rw [pk_ushr _ s k hs, pk_tn hn, pk_tn (Nat.lt_of_le_of_lt (Nat.div_le_self _ _) hn)]
theorem pk_nb (z : Int32) : narrow .byte (.int z.toInt8.toInt32) = .int z.toInt8.toInt32 := congrArg Value.int (by simp)
theorem pk_ns (z : Int32) : narrow .short (.int z.toInt16.toInt32) = .int z.toInt16.toInt32 := congrArg Value.int (by simp)
theorem pk_fb (r : Int32) : fits .byte (.int r.toInt8.toInt32) = true := by
  have ⟨a, b⟩ := lg_i2b_range r
  have h1 : (-128 : Int32).toInt = -128 := by decide
  have h2 : (127 : Int32).toInt = 127 := by decide
  simp only [fits, Bool.and_eq_true, decide_eq_true_eq, Int32.le_iff_toInt_le, h1, h2]
  omega
theorem pk_fs (r : Int32) : fits .short (.int r.toInt16.toInt32) = true := by
  have ⟨a, b⟩ := lg_i2s_range r
  have h1 : (-32768 : Int32).toInt = -32768 := by decide
  have h2 : (32767 : Int32).toInt = 32767 := by decide
  simp only [fits, Bool.and_eq_true, decide_eq_true_eq, Int32.le_iff_toInt_le, h1, h2]
  omega
theorem pk_charN {q : Nat} (hq : q < 65536) : narrow .char (.int (nI q)) = .int (nI q) ∧ fits .char (.int (nI q)) = true := by
  constructor
  · have e : (nI q).toUInt32.toUInt16.toUInt32.toInt32 = nI q := by
      apply Int32.toBitVec_inj.mp
      apply BitVec.eq_of_toNat_eq
      show (nI q).toUInt32.toUInt16.toUInt32.toNat = q % 2 ^ 32
      rw [UInt16.toNat_toUInt32, UInt32.toNat_toUInt16, show (nI q).toUInt32.toNat = q % 2 ^ 32 from rfl]
      omega
    exact congrArg Value.int e
  · have a : (0 : Int32) ≤ nI q := nI_pos' (by omega)
    have b : nI q ≤ 65535 := nI_le (b := 65535) (by omega) (by decide)
    show (decide ((0 : Int32) ≤ nI q) && decide (nI q ≤ 65535)) = true
    rw [decide_eq_true a, decide_eq_true b]
    rfl
theorem pk_char (x : Int32) : (x.toUInt32 % 65536).toInt32 = nI (x.toBitVec.toNat % 65536) := by
  apply Int32.toBitVec_inj.mp
  apply BitVec.eq_of_toNat_eq
  rw [pk_tn (by omega)]
  show (x.toUInt32 % 65536).toNat = _
  rw [UInt32.toNat_mod]
  rfl
theorem pk_nc (x : Int32) : narrow .char (.int (x.toUInt32 % 65536).toInt32) = .int (x.toUInt32 % 65536).toInt32 := by
  rw [pk_char]
  exact (pk_charN (Nat.mod_lt _ (by decide))).1
theorem pk_fc (x : Int32) : fits .char (.int (x.toUInt32 % 65536).toInt32) = true := by
  rw [pk_char]
  exact (pk_charN (Nat.mod_lt _ (by decide))).2
theorem pk_vb (z : Int32) : vp_nar .byte z.toInt8.toInt32 = z.toInt8.toInt32 := by rw [vp_nar_byte]; simp
theorem pk_vs (z : Int32) : vp_nar .short z.toInt16.toInt32 = z.toInt16.toInt32 := by rw [vp_nar_short]; simp
theorem pk_vc (z : Int32) : vp_nar .char (z.toUInt32 % 65536).toInt32 = (z.toUInt32 % 65536).toInt32 := Value.int.inj (pk_nc z)
theorem pk_lT {n : Nat} (h : n < 2 ^ 63) : (lN n).toInt = (n : Int) := lg_ofNat_toInt h
theorem pk_lLT {a b : Nat} (ha : a < 2 ^ 63) (hb : b < 2 ^ 63) : lN a < lN b ↔ a < b := by
  rw [Int64.lt_iff_toInt_lt, pk_lT ha, pk_lT hb]; omega
theorem pk_lLE {a b : Nat} (ha : a < 2 ^ 63) (hb : b < 2 ^ 63) : lN a ≤ lN b ↔ a ≤ b := by
  rw [Int64.le_iff_toInt_le, pk_lT ha, pk_lT hb]; omega
theorem pk_lEQ {a b : Nat} (ha : a < 2 ^ 63) (hb : b < 2 ^ 63) : lN a = lN b ↔ a = b := by
  rw [← Int64.toInt_inj, pk_lT ha, pk_lT hb]; omega
theorem pk_lOf {x : Int64} (h : ¬ x < 0) : ∃ k : Nat, k < 2 ^ 63 ∧ x = lN k := by
  rw [Int64.lt_iff_toInt_lt] at h
  have h0 : (0 : Int64).toInt = 0 := by decide
  have hx := Int64.toInt_lt x
  refine ⟨x.toInt.toNat, by omega, Int64.toInt_inj.mp ?_⟩
  rw [pk_lT (by omega)]
  omega
theorem pk_lDiv {a b : Nat} (ha : a < 2 ^ 63) (h0 : 0 < b) (hb : b < 2 ^ 63) : lN a / lN b = lN (a / b) := by
  apply Int64.toInt_inj.mp
  rw [lg_ldiv_nonneg (by rw [pk_lT ha]; omega) (by rw [pk_lT hb]; omega), pk_lT ha, pk_lT hb, pk_lT (Nat.lt_of_le_of_lt (Nat.div_le_self a b) ha)]
  rfl
theorem pk_lRem {a b : Nat} (ha : a < 2 ^ 63) (h0 : 0 < b) (hb : b < 2 ^ 63) : lN a - lN a / lN b * lN b = lN (a % b) := by
  rw [pk_lDiv ha h0 hb, lN_mul, lN_sub (Nat.div_mul_le_self a b)]
  exact congrArg lN (by have := Nat.div_add_mod' a b; omega)
theorem pk_loop {σ : Type} (W : Nat → Nat → σ → Prop) (I : Nat → σ → Prop) (e i0 : Nat) (s : σ) (hi : i0 ≤ e) (h0 : I i0 s) (hx : ∀ n s, I e s → W (n + 1) e s)
    (hs : ∀ n i s, i < e → I i s → (∀ s', I (i + 1) s' → W n (i + 1) s') → W (n + 1) i s) : ∃ n, W n i0 s :=
  ⟨e + 1, loop_i W I e hx hs (e + 1) i0 s hi (by omega) h0⟩
theorem pk_loopD {σ : Type} (W : Nat → Nat → σ → Prop) (I : Nat → σ → Prop) (hx : ∀ n s, I 0 s → W (n + 1) 0 s)
    (hs : ∀ n i s, I (i + 1) s → (∀ s', I i s' → W n i s') → W (n + 1) (i + 1) s) : ∀ (e : Nat) (s : σ), I e s → W (e + 1) e s := by
  intro e
  induction e with
  | zero => exact fun s h => hx 0 s h
  | succ e ih => exact fun s h => hs (e + 1) e s h (fun s' h' => ih s' h')
theorem lp1 {A1 : Type} (W : Nat → A1 → Prop) (I : A1 → Prop) (μ : A1 → Nat) (hs : ∀ (n : Nat) (a1 : A1), I a1 → (∀ (b1 : A1), I b1 → μ b1 < μ a1 → W n b1) → W (n + 1) a1) (a1 : A1) (h : I a1) : ∃ n, W n a1 :=
  loop_m (σ := A1) (fun n s => W n s) (fun s => I s) (fun s => μ s) (fun n s hI hk => hs n s hI (fun b1 h9 hm => hk b1 h9 hm)) a1 h
theorem lp2 {A1 A2 : Type} (W : Nat → A1 → A2 → Prop) (I : A1 → A2 → Prop) (μ : A1 → A2 → Nat) (hs : ∀ (n : Nat) (a1 : A1) (a2 : A2), I a1 a2 → (∀ (b1 : A1) (b2 : A2), I b1 b2 → μ b1 b2 < μ a1 a2 → W n b1 b2) → W (n + 1) a1 a2) (a1 : A1) (a2 : A2) (h : I a1 a2) : ∃ n, W n a1 a2 :=
  loop_m (σ := A1 × A2) (fun n s => W n s.1 s.2) (fun s => I s.1 s.2) (fun s => μ s.1 s.2) (fun n s hI hk => hs n s.1 s.2 hI (fun b1 b2 h9 hm => hk (b1, b2) h9 hm)) (a1, a2) h
theorem lp3 {A1 A2 A3 : Type} (W : Nat → A1 → A2 → A3 → Prop) (I : A1 → A2 → A3 → Prop) (μ : A1 → A2 → A3 → Nat) (hs : ∀ (n : Nat) (a1 : A1) (a2 : A2) (a3 : A3), I a1 a2 a3 → (∀ (b1 : A1) (b2 : A2) (b3 : A3), I b1 b2 b3 → μ b1 b2 b3 < μ a1 a2 a3 → W n b1 b2 b3) → W (n + 1) a1 a2 a3) (a1 : A1) (a2 : A2) (a3 : A3) (h : I a1 a2 a3) : ∃ n, W n a1 a2 a3 :=
  loop_m (σ := A1 × A2 × A3) (fun n s => W n s.1 s.2.1 s.2.2) (fun s => I s.1 s.2.1 s.2.2) (fun s => μ s.1 s.2.1 s.2.2) (fun n s hI hk => hs n s.1 s.2.1 s.2.2 hI (fun b1 b2 b3 h9 hm => hk (b1, b2, b3) h9 hm)) (a1, a2, a3) h
theorem lp4 {A1 A2 A3 A4 : Type} (W : Nat → A1 → A2 → A3 → A4 → Prop) (I : A1 → A2 → A3 → A4 → Prop) (μ : A1 → A2 → A3 → A4 → Nat) (hs : ∀ (n : Nat) (a1 : A1) (a2 : A2) (a3 : A3) (a4 : A4), I a1 a2 a3 a4 → (∀ (b1 : A1) (b2 : A2) (b3 : A3) (b4 : A4), I b1 b2 b3 b4 → μ b1 b2 b3 b4 < μ a1 a2 a3 a4 → W n b1 b2 b3 b4) → W (n + 1) a1 a2 a3 a4) (a1 : A1) (a2 : A2) (a3 : A3) (a4 : A4) (h : I a1 a2 a3 a4) : ∃ n, W n a1 a2 a3 a4 :=
  loop_m (σ := A1 × A2 × A3 × A4) (fun n s => W n s.1 s.2.1 s.2.2.1 s.2.2.2) (fun s => I s.1 s.2.1 s.2.2.1 s.2.2.2) (fun s => μ s.1 s.2.1 s.2.2.1 s.2.2.2) (fun n s hI hk => hs n s.1 s.2.1 s.2.2.1 s.2.2.2 hI (fun b1 b2 b3 b4 h9 hm => hk (b1, b2, b3, b4) h9 hm)) (a1, a2, a3, a4) h
theorem lp5 {A1 A2 A3 A4 A5 : Type} (W : Nat → A1 → A2 → A3 → A4 → A5 → Prop) (I : A1 → A2 → A3 → A4 → A5 → Prop) (μ : A1 → A2 → A3 → A4 → A5 → Nat) (hs : ∀ (n : Nat) (a1 : A1) (a2 : A2) (a3 : A3) (a4 : A4) (a5 : A5), I a1 a2 a3 a4 a5 → (∀ (b1 : A1) (b2 : A2) (b3 : A3) (b4 : A4) (b5 : A5), I b1 b2 b3 b4 b5 → μ b1 b2 b3 b4 b5 < μ a1 a2 a3 a4 a5 → W n b1 b2 b3 b4 b5) → W (n + 1) a1 a2 a3 a4 a5) (a1 : A1) (a2 : A2) (a3 : A3) (a4 : A4) (a5 : A5) (h : I a1 a2 a3 a4 a5) : ∃ n, W n a1 a2 a3 a4 a5 :=
  loop_m (σ := A1 × A2 × A3 × A4 × A5) (fun n s => W n s.1 s.2.1 s.2.2.1 s.2.2.2.1 s.2.2.2.2) (fun s => I s.1 s.2.1 s.2.2.1 s.2.2.2.1 s.2.2.2.2) (fun s => μ s.1 s.2.1 s.2.2.1 s.2.2.2.1 s.2.2.2.2) (fun n s hI hk => hs n s.1 s.2.1 s.2.2.1 s.2.2.2.1 s.2.2.2.2 hI (fun b1 b2 b3 b4 b5 h9 hm => hk (b1, b2, b3, b4, b5) h9 hm)) (a1, a2, a3, a4, a5) h
theorem lp6 {A1 A2 A3 A4 A5 A6 : Type} (W : Nat → A1 → A2 → A3 → A4 → A5 → A6 → Prop) (I : A1 → A2 → A3 → A4 → A5 → A6 → Prop) (μ : A1 → A2 → A3 → A4 → A5 → A6 → Nat) (hs : ∀ (n : Nat) (a1 : A1) (a2 : A2) (a3 : A3) (a4 : A4) (a5 : A5) (a6 : A6), I a1 a2 a3 a4 a5 a6 → (∀ (b1 : A1) (b2 : A2) (b3 : A3) (b4 : A4) (b5 : A5) (b6 : A6), I b1 b2 b3 b4 b5 b6 → μ b1 b2 b3 b4 b5 b6 < μ a1 a2 a3 a4 a5 a6 → W n b1 b2 b3 b4 b5 b6) → W (n + 1) a1 a2 a3 a4 a5 a6) (a1 : A1) (a2 : A2) (a3 : A3) (a4 : A4) (a5 : A5) (a6 : A6) (h : I a1 a2 a3 a4 a5 a6) : ∃ n, W n a1 a2 a3 a4 a5 a6 :=
  loop_m (σ := A1 × A2 × A3 × A4 × A5 × A6) (fun n s => W n s.1 s.2.1 s.2.2.1 s.2.2.2.1 s.2.2.2.2.1 s.2.2.2.2.2) (fun s => I s.1 s.2.1 s.2.2.1 s.2.2.2.1 s.2.2.2.2.1 s.2.2.2.2.2) (fun s => μ s.1 s.2.1 s.2.2.1 s.2.2.2.1 s.2.2.2.2.1 s.2.2.2.2.2) (fun n s hI hk => hs n s.1 s.2.1 s.2.2.1 s.2.2.2.1 s.2.2.2.2.1 s.2.2.2.2.2 hI (fun b1 b2 b3 b4 b5 b6 h9 hm => hk (b1, b2, b3, b4, b5, b6) h9 hm)) (a1, a2, a3, a4, a5, a6) h
theorem lp7 {A1 A2 A3 A4 A5 A6 A7 : Type} (W : Nat → A1 → A2 → A3 → A4 → A5 → A6 → A7 → Prop) (I : A1 → A2 → A3 → A4 → A5 → A6 → A7 → Prop) (μ : A1 → A2 → A3 → A4 → A5 → A6 → A7 → Nat) (hs : ∀ (n : Nat) (a1 : A1) (a2 : A2) (a3 : A3) (a4 : A4) (a5 : A5) (a6 : A6) (a7 : A7), I a1 a2 a3 a4 a5 a6 a7 → (∀ (b1 : A1) (b2 : A2) (b3 : A3) (b4 : A4) (b5 : A5) (b6 : A6) (b7 : A7), I b1 b2 b3 b4 b5 b6 b7 → μ b1 b2 b3 b4 b5 b6 b7 < μ a1 a2 a3 a4 a5 a6 a7 → W n b1 b2 b3 b4 b5 b6 b7) → W (n + 1) a1 a2 a3 a4 a5 a6 a7) (a1 : A1) (a2 : A2) (a3 : A3) (a4 : A4) (a5 : A5) (a6 : A6) (a7 : A7) (h : I a1 a2 a3 a4 a5 a6 a7) : ∃ n, W n a1 a2 a3 a4 a5 a6 a7 :=
  loop_m (σ := A1 × A2 × A3 × A4 × A5 × A6 × A7) (fun n s => W n s.1 s.2.1 s.2.2.1 s.2.2.2.1 s.2.2.2.2.1 s.2.2.2.2.2.1 s.2.2.2.2.2.2) (fun s => I s.1 s.2.1 s.2.2.1 s.2.2.2.1 s.2.2.2.2.1 s.2.2.2.2.2.1 s.2.2.2.2.2.2) (fun s => μ s.1 s.2.1 s.2.2.1 s.2.2.2.1 s.2.2.2.2.1 s.2.2.2.2.2.1 s.2.2.2.2.2.2) (fun n s hI hk => hs n s.1 s.2.1 s.2.2.1 s.2.2.2.1 s.2.2.2.2.1 s.2.2.2.2.2.1 s.2.2.2.2.2.2 hI (fun b1 b2 b3 b4 b5 b6 b7 h9 hm => hk (b1, b2, b3, b4, b5, b6, b7) h9 hm)) (a1, a2, a3, a4, a5, a6, a7) h
theorem lp8 {A1 A2 A3 A4 A5 A6 A7 A8 : Type} (W : Nat → A1 → A2 → A3 → A4 → A5 → A6 → A7 → A8 → Prop) (I : A1 → A2 → A3 → A4 → A5 → A6 → A7 → A8 → Prop) (μ : A1 → A2 → A3 → A4 → A5 → A6 → A7 → A8 → Nat) (hs : ∀ (n : Nat) (a1 : A1) (a2 : A2) (a3 : A3) (a4 : A4) (a5 : A5) (a6 : A6) (a7 : A7) (a8 : A8), I a1 a2 a3 a4 a5 a6 a7 a8 → (∀ (b1 : A1) (b2 : A2) (b3 : A3) (b4 : A4) (b5 : A5) (b6 : A6) (b7 : A7) (b8 : A8), I b1 b2 b3 b4 b5 b6 b7 b8 → μ b1 b2 b3 b4 b5 b6 b7 b8 < μ a1 a2 a3 a4 a5 a6 a7 a8 → W n b1 b2 b3 b4 b5 b6 b7 b8) → W (n + 1) a1 a2 a3 a4 a5 a6 a7 a8) (a1 : A1) (a2 : A2) (a3 : A3) (a4 : A4) (a5 : A5) (a6 : A6) (a7 : A7) (a8 : A8) (h : I a1 a2 a3 a4 a5 a6 a7 a8) : ∃ n, W n a1 a2 a3 a4 a5 a6 a7 a8 :=
  loop_m (σ := A1 × A2 × A3 × A4 × A5 × A6 × A7 × A8) (fun n s => W n s.1 s.2.1 s.2.2.1 s.2.2.2.1 s.2.2.2.2.1 s.2.2.2.2.2.1 s.2.2.2.2.2.2.1 s.2.2.2.2.2.2.2) (fun s => I s.1 s.2.1 s.2.2.1 s.2.2.2.1 s.2.2.2.2.1 s.2.2.2.2.2.1 s.2.2.2.2.2.2.1 s.2.2.2.2.2.2.2) (fun s => μ s.1 s.2.1 s.2.2.1 s.2.2.2.1 s.2.2.2.2.1 s.2.2.2.2.2.1 s.2.2.2.2.2.2.1 s.2.2.2.2.2.2.2) (fun n s hI hk => hs n s.1 s.2.1 s.2.2.1 s.2.2.2.1 s.2.2.2.2.1 s.2.2.2.2.2.1 s.2.2.2.2.2.2.1 s.2.2.2.2.2.2.2 hI (fun b1 b2 b3 b4 b5 b6 b7 b8 h9 hm => hk (b1, b2, b3, b4, b5, b6, b7, b8) h9 hm)) (a1, a2, a3, a4, a5, a6, a7, a8) h
theorem lp9 {A1 A2 A3 A4 A5 A6 A7 A8 A9 : Type} (W : Nat → A1 → A2 → A3 → A4 → A5 → A6 → A7 → A8 → A9 → Prop) (I : A1 → A2 → A3 → A4 → A5 → A6 → A7 → A8 → A9 → Prop) (μ : A1 → A2 → A3 → A4 → A5 → A6 → A7 → A8 → A9 → Nat) (hs : ∀ (n : Nat) (a1 : A1) (a2 : A2) (a3 : A3) (a4 : A4) (a5 : A5) (a6 : A6) (a7 : A7) (a8 : A8) (a9 : A9), I a1 a2 a3 a4 a5 a6 a7 a8 a9 → (∀ (b1 : A1) (b2 : A2) (b3 : A3) (b4 : A4) (b5 : A5) (b6 : A6) (b7 : A7) (b8 : A8) (b9 : A9), I b1 b2 b3 b4 b5 b6 b7 b8 b9 → μ b1 b2 b3 b4 b5 b6 b7 b8 b9 < μ a1 a2 a3 a4 a5 a6 a7 a8 a9 → W n b1 b2 b3 b4 b5 b6 b7 b8 b9) → W (n + 1) a1 a2 a3 a4 a5 a6 a7 a8 a9) (a1 : A1) (a2 : A2) (a3 : A3) (a4 : A4) (a5 : A5) (a6 : A6) (a7 : A7) (a8 : A8) (a9 : A9) (h : I a1 a2 a3 a4 a5 a6 a7 a8 a9) : ∃ n, W n a1 a2 a3 a4 a5 a6 a7 a8 a9 :=
  loop_m (σ := A1 × A2 × A3 × A4 × A5 × A6 × A7 × A8 × A9) (fun n s => W n s.1 s.2.1 s.2.2.1 s.2.2.2.1 s.2.2.2.2.1 s.2.2.2.2.2.1 s.2.2.2.2.2.2.1 s.2.2.2.2.2.2.2.1 s.2.2.2.2.2.2.2.2) (fun s => I s.1 s.2.1 s.2.2.1 s.2.2.2.1 s.2.2.2.2.1 s.2.2.2.2.2.1 s.2.2.2.2.2.2.1 s.2.2.2.2.2.2.2.1 s.2.2.2.2.2.2.2.2) (fun s => μ s.1 s.2.1 s.2.2.1 s.2.2.2.1 s.2.2.2.2.1 s.2.2.2.2.2.1 s.2.2.2.2.2.2.1 s.2.2.2.2.2.2.2.1 s.2.2.2.2.2.2.2.2) (fun n s hI hk => hs n s.1 s.2.1 s.2.2.1 s.2.2.2.1 s.2.2.2.2.1 s.2.2.2.2.2.1 s.2.2.2.2.2.2.1 s.2.2.2.2.2.2.2.1 s.2.2.2.2.2.2.2.2 hI (fun b1 b2 b3 b4 b5 b6 b7 b8 b9 h9 hm => hk (b1, b2, b3, b4, b5, b6, b7, b8, b9) h9 hm)) (a1, a2, a3, a4, a5, a6, a7, a8, a9) h
theorem lp10 {A1 A2 A3 A4 A5 A6 A7 A8 A9 A10 : Type} (W : Nat → A1 → A2 → A3 → A4 → A5 → A6 → A7 → A8 → A9 → A10 → Prop) (I : A1 → A2 → A3 → A4 → A5 → A6 → A7 → A8 → A9 → A10 → Prop) (μ : A1 → A2 → A3 → A4 → A5 → A6 → A7 → A8 → A9 → A10 → Nat) (hs : ∀ (n : Nat) (a1 : A1) (a2 : A2) (a3 : A3) (a4 : A4) (a5 : A5) (a6 : A6) (a7 : A7) (a8 : A8) (a9 : A9) (a10 : A10), I a1 a2 a3 a4 a5 a6 a7 a8 a9 a10 → (∀ (b1 : A1) (b2 : A2) (b3 : A3) (b4 : A4) (b5 : A5) (b6 : A6) (b7 : A7) (b8 : A8) (b9 : A9) (b10 : A10), I b1 b2 b3 b4 b5 b6 b7 b8 b9 b10 → μ b1 b2 b3 b4 b5 b6 b7 b8 b9 b10 < μ a1 a2 a3 a4 a5 a6 a7 a8 a9 a10 → W n b1 b2 b3 b4 b5 b6 b7 b8 b9 b10) → W (n + 1) a1 a2 a3 a4 a5 a6 a7 a8 a9 a10) (a1 : A1) (a2 : A2) (a3 : A3) (a4 : A4) (a5 : A5) (a6 : A6) (a7 : A7) (a8 : A8) (a9 : A9) (a10 : A10) (h : I a1 a2 a3 a4 a5 a6 a7 a8 a9 a10) : ∃ n, W n a1 a2 a3 a4 a5 a6 a7 a8 a9 a10 :=
  loop_m (σ := A1 × A2 × A3 × A4 × A5 × A6 × A7 × A8 × A9 × A10) (fun n s => W n s.1 s.2.1 s.2.2.1 s.2.2.2.1 s.2.2.2.2.1 s.2.2.2.2.2.1 s.2.2.2.2.2.2.1 s.2.2.2.2.2.2.2.1 s.2.2.2.2.2.2.2.2.1 s.2.2.2.2.2.2.2.2.2) (fun s => I s.1 s.2.1 s.2.2.1 s.2.2.2.1 s.2.2.2.2.1 s.2.2.2.2.2.1 s.2.2.2.2.2.2.1 s.2.2.2.2.2.2.2.1 s.2.2.2.2.2.2.2.2.1 s.2.2.2.2.2.2.2.2.2) (fun s => μ s.1 s.2.1 s.2.2.1 s.2.2.2.1 s.2.2.2.2.1 s.2.2.2.2.2.1 s.2.2.2.2.2.2.1 s.2.2.2.2.2.2.2.1 s.2.2.2.2.2.2.2.2.1 s.2.2.2.2.2.2.2.2.2) (fun n s hI hk => hs n s.1 s.2.1 s.2.2.1 s.2.2.2.1 s.2.2.2.2.1 s.2.2.2.2.2.1 s.2.2.2.2.2.2.1 s.2.2.2.2.2.2.2.1 s.2.2.2.2.2.2.2.2.1 s.2.2.2.2.2.2.2.2.2 hI (fun b1 b2 b3 b4 b5 b6 b7 b8 b9 b10 h9 hm => hk (b1, b2, b3, b4, b5, b6, b7, b8, b9, b10) h9 hm)) (a1, a2, a3, a4, a5, a6, a7, a8, a9, a10) h
theorem lp11 {A1 A2 A3 A4 A5 A6 A7 A8 A9 A10 A11 : Type} (W : Nat → A1 → A2 → A3 → A4 → A5 → A6 → A7 → A8 → A9 → A10 → A11 → Prop) (I : A1 → A2 → A3 → A4 → A5 → A6 → A7 → A8 → A9 → A10 → A11 → Prop) (μ : A1 → A2 → A3 → A4 → A5 → A6 → A7 → A8 → A9 → A10 → A11 → Nat) (hs : ∀ (n : Nat) (a1 : A1) (a2 : A2) (a3 : A3) (a4 : A4) (a5 : A5) (a6 : A6) (a7 : A7) (a8 : A8) (a9 : A9) (a10 : A10) (a11 : A11), I a1 a2 a3 a4 a5 a6 a7 a8 a9 a10 a11 → (∀ (b1 : A1) (b2 : A2) (b3 : A3) (b4 : A4) (b5 : A5) (b6 : A6) (b7 : A7) (b8 : A8) (b9 : A9) (b10 : A10) (b11 : A11), I b1 b2 b3 b4 b5 b6 b7 b8 b9 b10 b11 → μ b1 b2 b3 b4 b5 b6 b7 b8 b9 b10 b11 < μ a1 a2 a3 a4 a5 a6 a7 a8 a9 a10 a11 → W n b1 b2 b3 b4 b5 b6 b7 b8 b9 b10 b11) → W (n + 1) a1 a2 a3 a4 a5 a6 a7 a8 a9 a10 a11) (a1 : A1) (a2 : A2) (a3 : A3) (a4 : A4) (a5 : A5) (a6 : A6) (a7 : A7) (a8 : A8) (a9 : A9) (a10 : A10) (a11 : A11) (h : I a1 a2 a3 a4 a5 a6 a7 a8 a9 a10 a11) : ∃ n, W n a1 a2 a3 a4 a5 a6 a7 a8 a9 a10 a11 :=
  loop_m (σ := A1 × A2 × A3 × A4 × A5 × A6 × A7 × A8 × A9 × A10 × A11) (fun n s => W n s.1 s.2.1 s.2.2.1 s.2.2.2.1 s.2.2.2.2.1 s.2.2.2.2.2.1 s.2.2.2.2.2.2.1 s.2.2.2.2.2.2.2.1 s.2.2.2.2.2.2.2.2.1 s.2.2.2.2.2.2.2.2.2.1 s.2.2.2.2.2.2.2.2.2.2) (fun s => I s.1 s.2.1 s.2.2.1 s.2.2.2.1 s.2.2.2.2.1 s.2.2.2.2.2.1 s.2.2.2.2.2.2.1 s.2.2.2.2.2.2.2.1 s.2.2.2.2.2.2.2.2.1 s.2.2.2.2.2.2.2.2.2.1 s.2.2.2.2.2.2.2.2.2.2) (fun s => μ s.1 s.2.1 s.2.2.1 s.2.2.2.1 s.2.2.2.2.1 s.2.2.2.2.2.1 s.2.2.2.2.2.2.1 s.2.2.2.2.2.2.2.1 s.2.2.2.2.2.2.2.2.1 s.2.2.2.2.2.2.2.2.2.1 s.2.2.2.2.2.2.2.2.2.2) (fun n s hI hk => hs n s.1 s.2.1 s.2.2.1 s.2.2.2.1 s.2.2.2.2.1 s.2.2.2.2.2.1 s.2.2.2.2.2.2.1 s.2.2.2.2.2.2.2.1 s.2.2.2.2.2.2.2.2.1 s.2.2.2.2.2.2.2.2.2.1 s.2.2.2.2.2.2.2.2.2.2 hI (fun b1 b2 b3 b4 b5 b6 b7 b8 b9 b10 b11 h9 hm => hk (b1, b2, b3, b4, b5, b6, b7, b8, b9, b10, b11) h9 hm)) (a1, a2, a3, a4, a5, a6, a7, a8, a9, a10, a11) h
theorem lp12 {A1 A2 A3 A4 A5 A6 A7 A8 A9 A10 A11 A12 : Type} (W : Nat → A1 → A2 → A3 → A4 → A5 → A6 → A7 → A8 → A9 → A10 → A11 → A12 → Prop) (I : A1 → A2 → A3 → A4 → A5 → A6 → A7 → A8 → A9 → A10 → A11 → A12 → Prop) (μ : A1 → A2 → A3 → A4 → A5 → A6 → A7 → A8 → A9 → A10 → A11 → A12 → Nat) (hs : ∀ (n : Nat) (a1 : A1) (a2 : A2) (a3 : A3) (a4 : A4) (a5 : A5) (a6 : A6) (a7 : A7) (a8 : A8) (a9 : A9) (a10 : A10) (a11 : A11) (a12 : A12), I a1 a2 a3 a4 a5 a6 a7 a8 a9 a10 a11 a12 → (∀ (b1 : A1) (b2 : A2) (b3 : A3) (b4 : A4) (b5 : A5) (b6 : A6) (b7 : A7) (b8 : A8) (b9 : A9) (b10 : A10) (b11 : A11) (b12 : A12), I b1 b2 b3 b4 b5 b6 b7 b8 b9 b10 b11 b12 → μ b1 b2 b3 b4 b5 b6 b7 b8 b9 b10 b11 b12 < μ a1 a2 a3 a4 a5 a6 a7 a8 a9 a10 a11 a12 → W n b1 b2 b3 b4 b5 b6 b7 b8 b9 b10 b11 b12) → W (n + 1) a1 a2 a3 a4 a5 a6 a7 a8 a9 a10 a11 a12) (a1 : A1) (a2 : A2) (a3 : A3) (a4 : A4) (a5 : A5) (a6 : A6) (a7 : A7) (a8 : A8) (a9 : A9) (a10 : A10) (a11 : A11) (a12 : A12) (h : I a1 a2 a3 a4 a5 a6 a7 a8 a9 a10 a11 a12) : ∃ n, W n a1 a2 a3 a4 a5 a6 a7 a8 a9 a10 a11 a12 :=
  loop_m (σ := A1 × A2 × A3 × A4 × A5 × A6 × A7 × A8 × A9 × A10 × A11 × A12) (fun n s => W n s.1 s.2.1 s.2.2.1 s.2.2.2.1 s.2.2.2.2.1 s.2.2.2.2.2.1 s.2.2.2.2.2.2.1 s.2.2.2.2.2.2.2.1 s.2.2.2.2.2.2.2.2.1 s.2.2.2.2.2.2.2.2.2.1 s.2.2.2.2.2.2.2.2.2.2.1 s.2.2.2.2.2.2.2.2.2.2.2) (fun s => I s.1 s.2.1 s.2.2.1 s.2.2.2.1 s.2.2.2.2.1 s.2.2.2.2.2.1 s.2.2.2.2.2.2.1 s.2.2.2.2.2.2.2.1 s.2.2.2.2.2.2.2.2.1 s.2.2.2.2.2.2.2.2.2.1 s.2.2.2.2.2.2.2.2.2.2.1 s.2.2.2.2.2.2.2.2.2.2.2) (fun s => μ s.1 s.2.1 s.2.2.1 s.2.2.2.1 s.2.2.2.2.1 s.2.2.2.2.2.1 s.2.2.2.2.2.2.1 s.2.2.2.2.2.2.2.1 s.2.2.2.2.2.2.2.2.1 s.2.2.2.2.2.2.2.2.2.1 s.2.2.2.2.2.2.2.2.2.2.1 s.2.2.2.2.2.2.2.2.2.2.2) (fun n s hI hk => hs n s.1 s.2.1 s.2.2.1 s.2.2.2.1 s.2.2.2.2.1 s.2.2.2.2.2.1 s.2.2.2.2.2.2.1 s.2.2.2.2.2.2.2.1 s.2.2.2.2.2.2.2.2.1 s.2.2.2.2.2.2.2.2.2.1 s.2.2.2.2.2.2.2.2.2.2.1 s.2.2.2.2.2.2.2.2.2.2.2 hI (fun b1 b2 b3 b4 b5 b6 b7 b8 b9 b10 b11 b12 h9 hm => hk (b1, b2, b3, b4, b5, b6, b7, b8, b9, b10, b11, b12) h9 hm)) (a1, a2, a3, a4, a5, a6, a7, a8, a9, a10, a11, a12) h
theorem lp13 {A1 A2 A3 A4 A5 A6 A7 A8 A9 A10 A11 A12 A13 : Type} (W : Nat → A1 → A2 → A3 → A4 → A5 → A6 → A7 → A8 → A9 → A10 → A11 → A12 → A13 → Prop) (I : A1 → A2 → A3 → A4 → A5 → A6 → A7 → A8 → A9 → A10 → A11 → A12 → A13 → Prop) (μ : A1 → A2 → A3 → A4 → A5 → A6 → A7 → A8 → A9 → A10 → A11 → A12 → A13 → Nat) (hs : ∀ (n : Nat) (a1 : A1) (a2 : A2) (a3 : A3) (a4 : A4) (a5 : A5) (a6 : A6) (a7 : A7) (a8 : A8) (a9 : A9) (a10 : A10) (a11 : A11) (a12 : A12) (a13 : A13), I a1 a2 a3 a4 a5 a6 a7 a8 a9 a10 a11 a12 a13 → (∀ (b1 : A1) (b2 : A2) (b3 : A3) (b4 : A4) (b5 : A5) (b6 : A6) (b7 : A7) (b8 : A8) (b9 : A9) (b10 : A10) (b11 : A11) (b12 : A12) (b13 : A13), I b1 b2 b3 b4 b5 b6 b7 b8 b9 b10 b11 b12 b13 → μ b1 b2 b3 b4 b5 b6 b7 b8 b9 b10 b11 b12 b13 < μ a1 a2 a3 a4 a5 a6 a7 a8 a9 a10 a11 a12 a13 → W n b1 b2 b3 b4 b5 b6 b7 b8 b9 b10 b11 b12 b13) → W (n + 1) a1 a2 a3 a4 a5 a6 a7 a8 a9 a10 a11 a12 a13) (a1 : A1) (a2 : A2) (a3 : A3) (a4 : A4) (a5 : A5) (a6 : A6) (a7 : A7) (a8 : A8) (a9 : A9) (a10 : A10) (a11 : A11) (a12 : A12) (a13 : A13) (h : I a1 a2 a3 a4 a5 a6 a7 a8 a9 a10 a11 a12 a13) : ∃ n, W n a1 a2 a3 a4 a5 a6 a7 a8 a9 a10 a11 a12 a13 :=
  loop_m (σ := A1 × A2 × A3 × A4 × A5 × A6 × A7 × A8 × A9 × A10 × A11 × A12 × A13) (fun n s => W n s.1 s.2.1 s.2.2.1 s.2.2.2.1 s.2.2.2.2.1 s.2.2.2.2.2.1 s.2.2.2.2.2.2.1 s.2.2.2.2.2.2.2.1 s.2.2.2.2.2.2.2.2.1 s.2.2.2.2.2.2.2.2.2.1 s.2.2.2.2.2.2.2.2.2.2.1 s.2.2.2.2.2.2.2.2.2.2.2.1 s.2.2.2.2.2.2.2.2.2.2.2.2) (fun s => I s.1 s.2.1 s.2.2.1 s.2.2.2.1 s.2.2.2.2.1 s.2.2.2.2.2.1 s.2.2.2.2.2.2.1 s.2.2.2.2.2.2.2.1 s.2.2.2.2.2.2.2.2.1 s.2.2.2.2.2.2.2.2.2.1 s.2.2.2.2.2.2.2.2.2.2.1 s.2.2.2.2.2.2.2.2.2.2.2.1 s.2.2.2.2.2.2.2.2.2.2.2.2) (fun s => μ s.1 s.2.1 s.2.2.1 s.2.2.2.1 s.2.2.2.2.1 s.2.2.2.2.2.1 s.2.2.2.2.2.2.1 s.2.2.2.2.2.2.2.1 s.2.2.2.2.2.2.2.2.1 s.2.2.2.2.2.2.2.2.2.1 s.2.2.2.2.2.2.2.2.2.2.1 s.2.2.2.2.2.2.2.2.2.2.2.1 s.2.2.2.2.2.2.2.2.2.2.2.2) (fun n s hI hk => hs n s.1 s.2.1 s.2.2.1 s.2.2.2.1 s.2.2.2.2.1 s.2.2.2.2.2.1 s.2.2.2.2.2.2.1 s.2.2.2.2.2.2.2.1 s.2.2.2.2.2.2.2.2.1 s.2.2.2.2.2.2.2.2.2.1 s.2.2.2.2.2.2.2.2.2.2.1 s.2.2.2.2.2.2.2.2.2.2.2.1 s.2.2.2.2.2.2.2.2.2.2.2.2 hI (fun b1 b2 b3 b4 b5 b6 b7 b8 b9 b10 b11 b12 b13 h9 hm => hk (b1, b2, b3, b4, b5, b6, b7, b8, b9, b10, b11, b12, b13) h9 hm)) (a1, a2, a3, a4, a5, a6, a7, a8, a9, a10, a11, a12, a13) h
theorem lp14 {A1 A2 A3 A4 A5 A6 A7 A8 A9 A10 A11 A12 A13 A14 : Type} (W : Nat → A1 → A2 → A3 → A4 → A5 → A6 → A7 → A8 → A9 → A10 → A11 → A12 → A13 → A14 → Prop) (I : A1 → A2 → A3 → A4 → A5 → A6 → A7 → A8 → A9 → A10 → A11 → A12 → A13 → A14 → Prop) (μ : A1 → A2 → A3 → A4 → A5 → A6 → A7 → A8 → A9 → A10 → A11 → A12 → A13 → A14 → Nat) (hs : ∀ (n : Nat) (a1 : A1) (a2 : A2) (a3 : A3) (a4 : A4) (a5 : A5) (a6 : A6) (a7 : A7) (a8 : A8) (a9 : A9) (a10 : A10) (a11 : A11) (a12 : A12) (a13 : A13) (a14 : A14), I a1 a2 a3 a4 a5 a6 a7 a8 a9 a10 a11 a12 a13 a14 → (∀ (b1 : A1) (b2 : A2) (b3 : A3) (b4 : A4) (b5 : A5) (b6 : A6) (b7 : A7) (b8 : A8) (b9 : A9) (b10 : A10) (b11 : A11) (b12 : A12) (b13 : A13) (b14 : A14), I b1 b2 b3 b4 b5 b6 b7 b8 b9 b10 b11 b12 b13 b14 → μ b1 b2 b3 b4 b5 b6 b7 b8 b9 b10 b11 b12 b13 b14 < μ a1 a2 a3 a4 a5 a6 a7 a8 a9 a10 a11 a12 a13 a14 → W n b1 b2 b3 b4 b5 b6 b7 b8 b9 b10 b11 b12 b13 b14) → W (n + 1) a1 a2 a3 a4 a5 a6 a7 a8 a9 a10 a11 a12 a13 a14) (a1 : A1) (a2 : A2) (a3 : A3) (a4 : A4) (a5 : A5) (a6 : A6) (a7 : A7) (a8 : A8) (a9 : A9) (a10 : A10) (a11 : A11) (a12 : A12) (a13 : A13) (a14 : A14) (h : I a1 a2 a3 a4 a5 a6 a7 a8 a9 a10 a11 a12 a13 a14) : ∃ n, W n a1 a2 a3 a4 a5 a6 a7 a8 a9 a10 a11 a12 a13 a14 :=
  loop_m (σ := A1 × A2 × A3 × A4 × A5 × A6 × A7 × A8 × A9 × A10 × A11 × A12 × A13 × A14) (fun n s => W n s.1 s.2.1 s.2.2.1 s.2.2.2.1 s.2.2.2.2.1 s.2.2.2.2.2.1 s.2.2.2.2.2.2.1 s.2.2.2.2.2.2.2.1 s.2.2.2.2.2.2.2.2.1 s.2.2.2.2.2.2.2.2.2.1 s.2.2.2.2.2.2.2.2.2.2.1 s.2.2.2.2.2.2.2.2.2.2.2.1 s.2.2.2.2.2.2.2.2.2.2.2.2.1 s.2.2.2.2.2.2.2.2.2.2.2.2.2) (fun s => I s.1 s.2.1 s.2.2.1 s.2.2.2.1 s.2.2.2.2.1 s.2.2.2.2.2.1 s.2.2.2.2.2.2.1 s.2.2.2.2.2.2.2.1 s.2.2.2.2.2.2.2.2.1 s.2.2.2.2.2.2.2.2.2.1 s.2.2.2.2.2.2.2.2.2.2.1 s.2.2.2.2.2.2.2.2.2.2.2.1 s.2.2.2.2.2.2.2.2.2.2.2.2.1 s.2.2.2.2.2.2.2.2.2.2.2.2.2) (fun s => μ s.1 s.2.1 s.2.2.1 s.2.2.2.1 s.2.2.2.2.1 s.2.2.2.2.2.1 s.2.2.2.2.2.2.1 s.2.2.2.2.2.2.2.1 s.2.2.2.2.2.2.2.2.1 s.2.2.2.2.2.2.2.2.2.1 s.2.2.2.2.2.2.2.2.2.2.1 s.2.2.2.2.2.2.2.2.2.2.2.1 s.2.2.2.2.2.2.2.2.2.2.2.2.1 s.2.2.2.2.2.2.2.2.2.2.2.2.2) (fun n s hI hk => hs n s.1 s.2.1 s.2.2.1 s.2.2.2.1 s.2.2.2.2.1 s.2.2.2.2.2.1 s.2.2.2.2.2.2.1 s.2.2.2.2.2.2.2.1 s.2.2.2.2.2.2.2.2.1 s.2.2.2.2.2.2.2.2.2.1 s.2.2.2.2.2.2.2.2.2.2.1 s.2.2.2.2.2.2.2.2.2.2.2.1 s.2.2.2.2.2.2.2.2.2.2.2.2.1 s.2.2.2.2.2.2.2.2.2.2.2.2.2 hI (fun b1 b2 b3 b4 b5 b6 b7 b8 b9 b10 b11 b12 b13 b14 h9 hm => hk (b1, b2, b3, b4, b5, b6, b7, b8, b9, b10, b11, b12, b13, b14) h9 hm)) (a1, a2, a3, a4, a5, a6, a7, a8, a9, a10, a11, a12, a13, a14) h
theorem lp15 {A1 A2 A3 A4 A5 A6 A7 A8 A9 A10 A11 A12 A13 A14 A15 : Type} (W : Nat → A1 → A2 → A3 → A4 → A5 → A6 → A7 → A8 → A9 → A10 → A11 → A12 → A13 → A14 → A15 → Prop) (I : A1 → A2 → A3 → A4 → A5 → A6 → A7 → A8 → A9 → A10 → A11 → A12 → A13 → A14 → A15 → Prop) (μ : A1 → A2 → A3 → A4 → A5 → A6 → A7 → A8 → A9 → A10 → A11 → A12 → A13 → A14 → A15 → Nat) (hs : ∀ (n : Nat) (a1 : A1) (a2 : A2) (a3 : A3) (a4 : A4) (a5 : A5) (a6 : A6) (a7 : A7) (a8 : A8) (a9 : A9) (a10 : A10) (a11 : A11) (a12 : A12) (a13 : A13) (a14 : A14) (a15 : A15), I a1 a2 a3 a4 a5 a6 a7 a8 a9 a10 a11 a12 a13 a14 a15 → (∀ (b1 : A1) (b2 : A2) (b3 : A3) (b4 : A4) (b5 : A5) (b6 : A6) (b7 : A7) (b8 : A8) (b9 : A9) (b10 : A10) (b11 : A11) (b12 : A12) (b13 : A13) (b14 : A14) (b15 : A15), I b1 b2 b3 b4 b5 b6 b7 b8 b9 b10 b11 b12 b13 b14 b15 → μ b1 b2 b3 b4 b5 b6 b7 b8 b9 b10 b11 b12 b13 b14 b15 < μ a1 a2 a3 a4 a5 a6 a7 a8 a9 a10 a11 a12 a13 a14 a15 → W n b1 b2 b3 b4 b5 b6 b7 b8 b9 b10 b11 b12 b13 b14 b15) → W (n + 1) a1 a2 a3 a4 a5 a6 a7 a8 a9 a10 a11 a12 a13 a14 a15) (a1 : A1) (a2 : A2) (a3 : A3) (a4 : A4) (a5 : A5) (a6 : A6) (a7 : A7) (a8 : A8) (a9 : A9) (a10 : A10) (a11 : A11) (a12 : A12) (a13 : A13) (a14 : A14) (a15 : A15) (h : I a1 a2 a3 a4 a5 a6 a7 a8 a9 a10 a11 a12 a13 a14 a15) : ∃ n, W n a1 a2 a3 a4 a5 a6 a7 a8 a9 a10 a11 a12 a13 a14 a15 :=
  loop_m (σ := A1 × A2 × A3 × A4 × A5 × A6 × A7 × A8 × A9 × A10 × A11 × A12 × A13 × A14 × A15) (fun n s => W n s.1 s.2.1 s.2.2.1 s.2.2.2.1 s.2.2.2.2.1 s.2.2.2.2.2.1 s.2.2.2.2.2.2.1 s.2.2.2.2.2.2.2.1 s.2.2.2.2.2.2.2.2.1 s.2.2.2.2.2.2.2.2.2.1 s.2.2.2.2.2.2.2.2.2.2.1 s.2.2.2.2.2.2.2.2.2.2.2.1 s.2.2.2.2.2.2.2.2.2.2.2.2.1 s.2.2.2.2.2.2.2.2.2.2.2.2.2.1 s.2.2.2.2.2.2.2.2.2.2.2.2.2.2) (fun s => I s.1 s.2.1 s.2.2.1 s.2.2.2.1 s.2.2.2.2.1 s.2.2.2.2.2.1 s.2.2.2.2.2.2.1 s.2.2.2.2.2.2.2.1 s.2.2.2.2.2.2.2.2.1 s.2.2.2.2.2.2.2.2.2.1 s.2.2.2.2.2.2.2.2.2.2.1 s.2.2.2.2.2.2.2.2.2.2.2.1 s.2.2.2.2.2.2.2.2.2.2.2.2.1 s.2.2.2.2.2.2.2.2.2.2.2.2.2.1 s.2.2.2.2.2.2.2.2.2.2.2.2.2.2) (fun s => μ s.1 s.2.1 s.2.2.1 s.2.2.2.1 s.2.2.2.2.1 s.2.2.2.2.2.1 s.2.2.2.2.2.2.1 s.2.2.2.2.2.2.2.1 s.2.2.2.2.2.2.2.2.1 s.2.2.2.2.2.2.2.2.2.1 s.2.2.2.2.2.2.2.2.2.2.1 s.2.2.2.2.2.2.2.2.2.2.2.1 s.2.2.2.2.2.2.2.2.2.2.2.2.1 s.2.2.2.2.2.2.2.2.2.2.2.2.2.1 s.2.2.2.2.2.2.2.2.2.2.2.2.2.2) (fun n s hI hk => hs n s.1 s.2.1 s.2.2.1 s.2.2.2.1 s.2.2.2.2.1 s.2.2.2.2.2.1 s.2.2.2.2.2.2.1 s.2.2.2.2.2.2.2.1 s.2.2.2.2.2.2.2.2.1 s.2.2.2.2.2.2.2.2.2.1 s.2.2.2.2.2.2.2.2.2.2.1 s.2.2.2.2.2.2.2.2.2.2.2.1 s.2.2.2.2.2.2.2.2.2.2.2.2.1 s.2.2.2.2.2.2.2.2.2.2.2.2.2.1 s.2.2.2.2.2.2.2.2.2.2.2.2.2.2 hI (fun b1 b2 b3 b4 b5 b6 b7 b8 b9 b10 b11 b12 b13 b14 b15 h9 hm => hk (b1, b2, b3, b4, b5, b6, b7, b8, b9, b10, b11, b12, b13, b14, b15) h9 hm)) (a1, a2, a3, a4, a5, a6, a7, a8, a9, a10, a11, a12, a13, a14, a15) h
theorem lp16 {A1 A2 A3 A4 A5 A6 A7 A8 A9 A10 A11 A12 A13 A14 A15 A16 : Type} (W : Nat → A1 → A2 → A3 → A4 → A5 → A6 → A7 → A8 → A9 → A10 → A11 → A12 → A13 → A14 → A15 → A16 → Prop) (I : A1 → A2 → A3 → A4 → A5 → A6 → A7 → A8 → A9 → A10 → A11 → A12 → A13 → A14 → A15 → A16 → Prop) (μ : A1 → A2 → A3 → A4 → A5 → A6 → A7 → A8 → A9 → A10 → A11 → A12 → A13 → A14 → A15 → A16 → Nat) (hs : ∀ (n : Nat) (a1 : A1) (a2 : A2) (a3 : A3) (a4 : A4) (a5 : A5) (a6 : A6) (a7 : A7) (a8 : A8) (a9 : A9) (a10 : A10) (a11 : A11) (a12 : A12) (a13 : A13) (a14 : A14) (a15 : A15) (a16 : A16), I a1 a2 a3 a4 a5 a6 a7 a8 a9 a10 a11 a12 a13 a14 a15 a16 → (∀ (b1 : A1) (b2 : A2) (b3 : A3) (b4 : A4) (b5 : A5) (b6 : A6) (b7 : A7) (b8 : A8) (b9 : A9) (b10 : A10) (b11 : A11) (b12 : A12) (b13 : A13) (b14 : A14) (b15 : A15) (b16 : A16), I b1 b2 b3 b4 b5 b6 b7 b8 b9 b10 b11 b12 b13 b14 b15 b16 → μ b1 b2 b3 b4 b5 b6 b7 b8 b9 b10 b11 b12 b13 b14 b15 b16 < μ a1 a2 a3 a4 a5 a6 a7 a8 a9 a10 a11 a12 a13 a14 a15 a16 → W n b1 b2 b3 b4 b5 b6 b7 b8 b9 b10 b11 b12 b13 b14 b15 b16) → W (n + 1) a1 a2 a3 a4 a5 a6 a7 a8 a9 a10 a11 a12 a13 a14 a15 a16) (a1 : A1) (a2 : A2) (a3 : A3) (a4 : A4) (a5 : A5) (a6 : A6) (a7 : A7) (a8 : A8) (a9 : A9) (a10 : A10) (a11 : A11) (a12 : A12) (a13 : A13) (a14 : A14) (a15 : A15) (a16 : A16) (h : I a1 a2 a3 a4 a5 a6 a7 a8 a9 a10 a11 a12 a13 a14 a15 a16) : ∃ n, W n a1 a2 a3 a4 a5 a6 a7 a8 a9 a10 a11 a12 a13 a14 a15 a16 :=
  loop_m (σ := A1 × A2 × A3 × A4 × A5 × A6 × A7 × A8 × A9 × A10 × A11 × A12 × A13 × A14 × A15 × A16) (fun n s => W n s.1 s.2.1 s.2.2.1 s.2.2.2.1 s.2.2.2.2.1 s.2.2.2.2.2.1 s.2.2.2.2.2.2.1 s.2.2.2.2.2.2.2.1 s.2.2.2.2.2.2.2.2.1 s.2.2.2.2.2.2.2.2.2.1 s.2.2.2.2.2.2.2.2.2.2.1 s.2.2.2.2.2.2.2.2.2.2.2.1 s.2.2.2.2.2.2.2.2.2.2.2.2.1 s.2.2.2.2.2.2.2.2.2.2.2.2.2.1 s.2.2.2.2.2.2.2.2.2.2.2.2.2.2.1 s.2.2.2.2.2.2.2.2.2.2.2.2.2.2.2) (fun s => I s.1 s.2.1 s.2.2.1 s.2.2.2.1 s.2.2.2.2.1 s.2.2.2.2.2.1 s.2.2.2.2.2.2.1 s.2.2.2.2.2.2.2.1 s.2.2.2.2.2.2.2.2.1 s.2.2.2.2.2.2.2.2.2.1 s.2.2.2.2.2.2.2.2.2.2.1 s.2.2.2.2.2.2.2.2.2.2.2.1 s.2.2.2.2.2.2.2.2.2.2.2.2.1 s.2.2.2.2.2.2.2.2.2.2.2.2.2.1 s.2.2.2.2.2.2.2.2.2.2.2.2.2.2.1 s.2.2.2.2.2.2.2.2.2.2.2.2.2.2.2) (fun s => μ s.1 s.2.1 s.2.2.1 s.2.2.2.1 s.2.2.2.2.1 s.2.2.2.2.2.1 s.2.2.2.2.2.2.1 s.2.2.2.2.2.2.2.1 s.2.2.2.2.2.2.2.2.1 s.2.2.2.2.2.2.2.2.2.1 s.2.2.2.2.2.2.2.2.2.2.1 s.2.2.2.2.2.2.2.2.2.2.2.1 s.2.2.2.2.2.2.2.2.2.2.2.2.1 s.2.2.2.2.2.2.2.2.2.2.2.2.2.1 s.2.2.2.2.2.2.2.2.2.2.2.2.2.2.1 s.2.2.2.2.2.2.2.2.2.2.2.2.2.2.2) (fun n s hI hk => hs n s.1 s.2.1 s.2.2.1 s.2.2.2.1 s.2.2.2.2.1 s.2.2.2.2.2.1 s.2.2.2.2.2.2.1 s.2.2.2.2.2.2.2.1 s.2.2.2.2.2.2.2.2.1 s.2.2.2.2.2.2.2.2.2.1 s.2.2.2.2.2.2.2.2.2.2.1 s.2.2.2.2.2.2.2.2.2.2.2.1 s.2.2.2.2.2.2.2.2.2.2.2.2.1 s.2.2.2.2.2.2.2.2.2.2.2.2.2.1 s.2.2.2.2.2.2.2.2.2.2.2.2.2.2.1 s.2.2.2.2.2.2.2.2.2.2.2.2.2.2.2 hI (fun b1 b2 b3 b4 b5 b6 b7 b8 b9 b10 b11 b12 b13 b14 b15 b16 h9 hm => hk (b1, b2, b3, b4, b5, b6, b7, b8, b9, b10, b11, b12, b13, b14, b15, b16) h9 hm)) (a1, a2, a3, a4, a5, a6, a7, a8, a9, a10, a11, a12, a13, a14, a15, a16) h
theorem pk_least (P : Nat → Prop) (h : ∃ k, P k) : ∃ k, P k ∧ ∀ j, j < k → ¬ P j := by
  obtain ⟨k, hk⟩ := h
  induction k using Nat.strongRecOn with
  | ind k ih =>
    by_cases e : ∃ j, j < k ∧ P j
    · obtain ⟨j, hj, pj⟩ := e
      exact ih j hj pj
    · exact ⟨k, hk, fun j hj pj => e ⟨j, hj, pj⟩⟩
theorem rp1 {ρ A1 : Type} (W : Nat → (ρ → Prop) → A1 → Prop) (ok : A1 → Prop) (μ : A1 → Nat) (val : A1 → ρ)
    (hs : ∀ (d : Nat) (post : ρ → Prop) (a1 : A1), ok a1 → post (val a1) → (∀ (post' : ρ → Prop) (b1 : A1), ok b1 → μ b1 < μ a1 → post' (val b1) → W d post' b1) → W (d + 1) post a1) :
    ∀ (d : Nat) (post : ρ → Prop) (a1 : A1), ok a1 → μ a1 < d → post (val a1) → W d post a1 := by
  intro d
  induction d with
  | zero => intro post a1 _ h; omega
  | succ d ih =>
    intro post a1 ho hm hp
    exact hs d post a1 ho hp (fun post' b1 ho' hm' hp' => ih post' b1 ho' (by omega) hp')
theorem rp2 {ρ A1 A2 : Type} (W : Nat → (ρ → Prop) → A1 → A2 → Prop) (ok : A1 → A2 → Prop) (μ : A1 → A2 → Nat) (val : A1 → A2 → ρ)
    (hs : ∀ (d : Nat) (post : ρ → Prop) (a1 : A1) (a2 : A2), ok a1 a2 → post (val a1 a2) → (∀ (post' : ρ → Prop) (b1 : A1) (b2 : A2), ok b1 b2 → μ b1 b2 < μ a1 a2 → post' (val b1 b2) → W d post' b1 b2) → W (d + 1) post a1 a2) :
    ∀ (d : Nat) (post : ρ → Prop) (a1 : A1) (a2 : A2), ok a1 a2 → μ a1 a2 < d → post (val a1 a2) → W d post a1 a2 := by
  intro d
  induction d with
  | zero => intro post a1 a2 _ h; omega
  | succ d ih =>
    intro post a1 a2 ho hm hp
    exact hs d post a1 a2 ho hp (fun post' b1 b2 ho' hm' hp' => ih post' b1 b2 ho' (by omega) hp')
theorem rp3 {ρ A1 A2 A3 : Type} (W : Nat → (ρ → Prop) → A1 → A2 → A3 → Prop) (ok : A1 → A2 → A3 → Prop) (μ : A1 → A2 → A3 → Nat) (val : A1 → A2 → A3 → ρ)
    (hs : ∀ (d : Nat) (post : ρ → Prop) (a1 : A1) (a2 : A2) (a3 : A3), ok a1 a2 a3 → post (val a1 a2 a3) → (∀ (post' : ρ → Prop) (b1 : A1) (b2 : A2) (b3 : A3), ok b1 b2 b3 → μ b1 b2 b3 < μ a1 a2 a3 → post' (val b1 b2 b3) → W d post' b1 b2 b3) → W (d + 1) post a1 a2 a3) :
    ∀ (d : Nat) (post : ρ → Prop) (a1 : A1) (a2 : A2) (a3 : A3), ok a1 a2 a3 → μ a1 a2 a3 < d → post (val a1 a2 a3) → W d post a1 a2 a3 := by
  intro d
  induction d with
  | zero => intro post a1 a2 a3 _ h; omega
  | succ d ih =>
    intro post a1 a2 a3 ho hm hp
    exact hs d post a1 a2 a3 ho hp (fun post' b1 b2 b3 ho' hm' hp' => ih post' b1 b2 b3 ho' (by omega) hp')
theorem rp4 {ρ A1 A2 A3 A4 : Type} (W : Nat → (ρ → Prop) → A1 → A2 → A3 → A4 → Prop) (ok : A1 → A2 → A3 → A4 → Prop) (μ : A1 → A2 → A3 → A4 → Nat) (val : A1 → A2 → A3 → A4 → ρ)
    (hs : ∀ (d : Nat) (post : ρ → Prop) (a1 : A1) (a2 : A2) (a3 : A3) (a4 : A4), ok a1 a2 a3 a4 → post (val a1 a2 a3 a4) → (∀ (post' : ρ → Prop) (b1 : A1) (b2 : A2) (b3 : A3) (b4 : A4), ok b1 b2 b3 b4 → μ b1 b2 b3 b4 < μ a1 a2 a3 a4 → post' (val b1 b2 b3 b4) → W d post' b1 b2 b3 b4) → W (d + 1) post a1 a2 a3 a4) :
    ∀ (d : Nat) (post : ρ → Prop) (a1 : A1) (a2 : A2) (a3 : A3) (a4 : A4), ok a1 a2 a3 a4 → μ a1 a2 a3 a4 < d → post (val a1 a2 a3 a4) → W d post a1 a2 a3 a4 := by
  intro d
  induction d with
  | zero => intro post a1 a2 a3 a4 _ h; omega
  | succ d ih =>
    intro post a1 a2 a3 a4 ho hm hp
    exact hs d post a1 a2 a3 a4 ho hp (fun post' b1 b2 b3 b4 ho' hm' hp' => ih post' b1 b2 b3 b4 ho' (by omega) hp')
theorem rp5 {ρ A1 A2 A3 A4 A5 : Type} (W : Nat → (ρ → Prop) → A1 → A2 → A3 → A4 → A5 → Prop) (ok : A1 → A2 → A3 → A4 → A5 → Prop) (μ : A1 → A2 → A3 → A4 → A5 → Nat) (val : A1 → A2 → A3 → A4 → A5 → ρ)
    (hs : ∀ (d : Nat) (post : ρ → Prop) (a1 : A1) (a2 : A2) (a3 : A3) (a4 : A4) (a5 : A5), ok a1 a2 a3 a4 a5 → post (val a1 a2 a3 a4 a5) → (∀ (post' : ρ → Prop) (b1 : A1) (b2 : A2) (b3 : A3) (b4 : A4) (b5 : A5), ok b1 b2 b3 b4 b5 → μ b1 b2 b3 b4 b5 < μ a1 a2 a3 a4 a5 → post' (val b1 b2 b3 b4 b5) → W d post' b1 b2 b3 b4 b5) → W (d + 1) post a1 a2 a3 a4 a5) :
    ∀ (d : Nat) (post : ρ → Prop) (a1 : A1) (a2 : A2) (a3 : A3) (a4 : A4) (a5 : A5), ok a1 a2 a3 a4 a5 → μ a1 a2 a3 a4 a5 < d → post (val a1 a2 a3 a4 a5) → W d post a1 a2 a3 a4 a5 := by
  intro d
  induction d with
  | zero => intro post a1 a2 a3 a4 a5 _ h; omega
  | succ d ih =>
    intro post a1 a2 a3 a4 a5 ho hm hp
    exact hs d post a1 a2 a3 a4 a5 ho hp (fun post' b1 b2 b3 b4 b5 ho' hm' hp' => ih post' b1 b2 b3 b4 b5 ho' (by omega) hp')
theorem rp6 {ρ A1 A2 A3 A4 A5 A6 : Type} (W : Nat → (ρ → Prop) → A1 → A2 → A3 → A4 → A5 → A6 → Prop) (ok : A1 → A2 → A3 → A4 → A5 → A6 → Prop) (μ : A1 → A2 → A3 → A4 → A5 → A6 → Nat) (val : A1 → A2 → A3 → A4 → A5 → A6 → ρ)
    (hs : ∀ (d : Nat) (post : ρ → Prop) (a1 : A1) (a2 : A2) (a3 : A3) (a4 : A4) (a5 : A5) (a6 : A6), ok a1 a2 a3 a4 a5 a6 → post (val a1 a2 a3 a4 a5 a6) → (∀ (post' : ρ → Prop) (b1 : A1) (b2 : A2) (b3 : A3) (b4 : A4) (b5 : A5) (b6 : A6), ok b1 b2 b3 b4 b5 b6 → μ b1 b2 b3 b4 b5 b6 < μ a1 a2 a3 a4 a5 a6 → post' (val b1 b2 b3 b4 b5 b6) → W d post' b1 b2 b3 b4 b5 b6) → W (d + 1) post a1 a2 a3 a4 a5 a6) :
    ∀ (d : Nat) (post : ρ → Prop) (a1 : A1) (a2 : A2) (a3 : A3) (a4 : A4) (a5 : A5) (a6 : A6), ok a1 a2 a3 a4 a5 a6 → μ a1 a2 a3 a4 a5 a6 < d → post (val a1 a2 a3 a4 a5 a6) → W d post a1 a2 a3 a4 a5 a6 := by
  intro d
  induction d with
  | zero => intro post a1 a2 a3 a4 a5 a6 _ h; omega
  | succ d ih =>
    intro post a1 a2 a3 a4 a5 a6 ho hm hp
    exact hs d post a1 a2 a3 a4 a5 a6 ho hp (fun post' b1 b2 b3 b4 b5 b6 ho' hm' hp' => ih post' b1 b2 b3 b4 b5 b6 ho' (by omega) hp')
theorem rec_p {σ ρ : Type} (W : Nat → (ρ → Prop) → σ → Prop) (ok : σ → Prop) (μ : σ → Nat) (val : σ → ρ)
    (hs : ∀ d s post, ok s → post (val s) → (∀ s' post', ok s' → μ s' < μ s → post' (val s') → W d post' s') → W (d + 1) post s) :
    ∀ d s post, ok s → μ s < d → post (val s) → W d post s := by
  intro d
  induction d with
  | zero => intro s post _ h; omega
  | succ d ih =>
    intro s post ho hm hp
    exact hs d s post ho hp (fun s' post' ho' hm' hp' => ih s' post' ho' (by omega) hp')
theorem rec_q {σ ρ : Type} (W : Nat → (ρ → Prop) → σ → Prop) (ok : σ → Prop) (μ : σ → Nat) (Q : σ → ρ → Prop)
    (hs : ∀ d s post, ok s → (∀ r, Q s r → post r) → (∀ s' post', ok s' → μ s' < μ s → (∀ r, Q s' r → post' r) → W d post' s') → W (d + 1) post s) :
    ∀ d s post, ok s → μ s < d → (∀ r, Q s r → post r) → W d post s := by
  intro d
  induction d with
  | zero => intro s post _ h; omega
  | succ d ih =>
    intro s post ho hm hp
    exact hs d s post ho hp (fun s' post' ho' hm' hp' => ih s' post' ho' (by omega) hp')
def bx_sum (f : Nat → Int32) : Nat → Int32
  | 0 => 0
  | n + 1 => bx_sum f n + f n
theorem ek_u {A : Prop} {B : Nat → Prop} {k N : Nat} (hk : k < N) (h : B k) : (some k = none → A) ∧ (∀ y : Nat, some k = some y → (y < N ∧ B y)) :=
  ⟨fun z => absurd z (Option.some_ne_none k), fun _ e => (by cases e; exact ⟨hk, h⟩)⟩
theorem ek_nu {A : Prop} {B : Nat → Prop} (h : A) : ((none : Option Nat) = none → A) ∧ (∀ y : Nat, (none : Option Nat) = some y → B y) :=
  ⟨fun _ => h, fun _ e => (by cases e)⟩
theorem ek_if {c d A B : Prop} (e : c ↔ d) (f : d → A) (g : ¬ d → B) : (c → A) ∧ (¬ c → B) :=
  ⟨fun z => f (e.mp z), fun z => g (fun y => z (e.mpr y))⟩
theorem ek_v {α : Sort _} {P : α → Prop} {a b : α} (e : a = b) (h : P b) : P a := e ▸ h
theorem co_some {x : Option Nat} {A : Prop} {B : Nat → Prop} (i : Nat) (h : B i) (hx : x = some i := by rfl) : (x = none → A) ∧ (∀ y : Nat, x = some y → B y) := by
  subst hx
  exact ⟨fun e => (nomatch e), fun y e => Option.some.inj e ▸ h⟩
theorem co_none {x : Option Nat} {A : Prop} {B : Nat → Prop} (h : A) (hx : x = none := by rfl) : (x = none → A) ∧ (∀ y : Nat, x = some y → B y) := by
  subst hx
  exact ⟨fun _ => h, fun y e => (nomatch e)⟩
theorem co_any {x : Option Nat} {A : Prop} {B : Nat → Prop} (hn : x = none → A) (hs : ∀ i : Nat, x = some i → B i) : (x = none → A) ∧ (∀ y : Nat, x = some y → B y) := ⟨hn, hs⟩
theorem co_2 {P : Nat → Prop} (h0 : P 0) (h1 : P 1) {i : Nat} (hi : i < 2) : P i :=
  match i, hi with
  | 0, _ => h0
  | 1, _ => h1
theorem co_3 {P : Nat → Prop} (h0 : P 0) (h1 : P 1) (h2 : P 2) {i : Nat} (hi : i < 3) : P i :=
  match i, hi with
  | 0, _ => h0
  | 1, _ => h1
  | 2, _ => h2
theorem co_4 {P : Nat → Prop} (h0 : P 0) (h1 : P 1) (h2 : P 2) (h3 : P 3) {i : Nat} (hi : i < 4) : P i :=
  match i, hi with
  | 0, _ => h0
  | 1, _ => h1
  | 2, _ => h2
  | 3, _ => h3
theorem co_dec {N : Nat} {P : Nat → Prop} [DecidablePred P] (h : (List.range N).all (fun i => decide (P i)) = true) {i : Nat} (hi : i < N) : P i := by
  have := List.all_eq_true.mp h i (List.mem_range.mpr hi)
  exact of_decide_eq_true this
theorem co_tab {α : Type} {l : List α} {d : α} {P : α → Prop} (h : ∀ a, a ∈ l → P a) {i : Nat} (hi : i < l.length) : P (l.getD i d) := by
  rw [List.getD_eq_getElem?_getD, List.getElem?_eq_getElem hi]
  exact h _ (List.getElem_mem hi)
theorem pk_mu {x : Int32} {L : Nat} (h0 : ¬ x < 0) (h : ¬ nI L ≤ x) (hL : L < 2 ^ 31) : ∃ j : Nat, j < L ∧ x = nI j ∧ x + 1 = nI (j + 1) ∧ x.toNatClampNeg = j ∧ L - (x + 1).toNatClampNeg < L - x.toNatClampNeg := by
  obtain ⟨j, hj, rfl⟩ := nI_of h0
  have hl : j < L := Nat.not_le.mp fun q => h (nI_le q hj)
  refine ⟨j, hl, rfl, nI_1 j, nI_clamp hj, ?_⟩
  rw [nI_1, nI_clamp (by omega), nI_clamp hj]
  omega
theorem op_s {α : Type} {r : Option α} {A : Prop} {B : α → Prop} {y : α} (h : r = some y) (b : B y) : (r = none → A) ∧ ∀ z, r = some z → B z :=
  ⟨fun e => (by rw [h] at e; cases e), fun z e => (by rw [h] at e; cases e; exact b)⟩
def l_holds {α : Type} (a : Nat → Option Nat) (LP : List Nat) (p : Nat → α) (c : Nat) (b : Nat → α) : Prop :=
  ∀ j, j < c → ∃ y, a j = some y ∧ y ∈ LP ∧ p y = b j
theorem l_holds_0 {α : Type} {a : Nat → Option Nat} {LP : List Nat} {p b : Nat → α} : l_holds a LP p 0 b := fun j h => absurd h (Nat.not_lt_zero j)
theorem l_in_new (LP : List Nat) (q : Nat) : q ∈ LP ++ [q] := List.mem_append.mpr (Or.inr (List.mem_singleton.mpr rfl))
def l_sum (b : Nat → Int32) : Nat → Int32
  | 0 => 0
  | k + 1 => l_sum b k + b k
theorem sb_shr0 (x : Int32) : x >>> ((0 : Int32) &&& 31) = x := by
  rw [show ((0 : Int32) &&& 31) = 0 by decide]
  simp
theorem sb_shl0 (x : Int32) : x <<< ((0 : Int32) &&& 31) = x := by
  rw [show ((0 : Int32) &&& 31) = 0 by decide]
  simp
theorem sb_cl0 : (0 : Int32).toNatClampNeg = 0 := by decide
theorem sb_m1 {p : Nat} (h : 0 < p) : nI p + (-1) = nI (p - 1) := by
  obtain ⟨q, rfl⟩ : ∃ q, p = q + 1 := ⟨p - 1, by omega⟩
  exact pk_m1 q
def sb_b (c : Nat) : Int32 := (nI c).toInt8.toInt32
theorem sb_byte : ∀ c, c < 256 → sb_b c &&& 255 = nI c ∧ ((nI c).toUInt32 % 65536).toInt32 = nI c ∧ nI c ≤ 255 := by decide +kernel
def sb_Fit (a : Nat → Int32) : Prop := ∀ j, fits .byte (.int (a j)) = true
def sb_Lat (t : Nat → Nat) (n : Nat) (a : Nat → Int32) : Prop := ∀ j, j < n → t j < 256 ∧ a j = sb_b (t j)
theorem sb_fitB (c : Nat) : fits .byte (.int (sb_b c)) = true := pk_fb _
theorem sb_fit0 : sb_Fit (fun _ => 0) := fun _ => by
  show fits .byte (.int 0) = true
  decide
theorem sb_fitU {a : Nat → Int32} {k : Nat} {x : Int32} (h : sb_Fit a) (hx : fits .byte (.int x) = true) : sb_Fit (upd a k x) := by
  intro j
  by_cases e : j = k
  · subst e
    rw [pk_us]
    exact hx
  · rw [pk_un e]
    exact h j
def sb_cat (t : Nat → Nat) (n : Nat) (s : Nat → Nat) : Nat → Nat := fun j => if j < n then t j else s (j - n)
theorem sb_cat_lo {t s : Nat → Nat} {n j : Nat} (h : j < n) : sb_cat t n s j = t j := if_pos h
theorem sb_cat_hi {t s : Nat → Nat} {n j : Nat} : sb_cat t n s (n + j) = s j := by
  show (if n + j < n then t (n + j) else s (n + j - n)) = s j
  rw [if_neg (by omega), Nat.add_sub_cancel_left]
theorem sb_latPut {t s : Nat → Nat} {n w : Nat} {a a' : Nat → Int32} (h : sb_Lat t n a) (hk : ∀ j, j < n → a' j = a j) (hs : ∀ i, i < w → s i < 256 ∧ a' (n + i) = sb_b (s i)) : sb_Lat (sb_cat t n s) (n + w) a' := by
  intro j hj
  by_cases e : j < n
  · rw [sb_cat_lo e, hk j e]
    exact h j e
  · obtain ⟨i, rfl⟩ : ∃ i, j = n + i := ⟨j - n, by omega⟩
    rw [sb_cat_hi]
    exact hs i (by omega)
theorem sb_latKeep {t : Nat → Nat} {n : Nat} {a a' : Nat → Int32} (h : sb_Lat t n a) (hk : ∀ j, j < n → a' j = a j) : sb_Lat t n a' := fun j hj => by
  rw [hk j hj]
  exact h j hj
def sb_cap (q m : Nat) : Nat := if q ≤ m then m else if 2 * m + 2 < q then q else 2 * m + 2
def sb_Room (q m mc ms : Nat) : Prop := q ≤ m ∨ (1 ≤ mc ∧ sb_cap q m ≤ ms ∧ sb_cap q m ≤ 65536)
theorem sb_cap_ge (q m : Nat) : q ≤ sb_cap q m := by
  unfold sb_cap
  split
  · omega
  · split <;> omega
theorem sb_cap_gem (q m : Nat) : m ≤ sb_cap q m := by
  unfold sb_cap
  split
  · omega
  · split <;> omega
theorem sb_cap_le {q m mc ms : Nat} (hm : m ≤ 65536) (hr : sb_Room q m mc ms) : sb_cap q m ≤ 65536 := by
  rcases hr with h | h
  · rw [sb_cap, if_pos h]
    exact hm
  · exact h.2.2
theorem sb_at {P : Int32 → Prop} {x y : Int32} (e : x = y) (h : P y) : P x := e ▸ h
def sb_dg (w : Nat) : Nat := if w < 10 then 1 else if w < 100 then 2 else if w < 1000 then 3 else if w < 10000 then 4 else if w < 100000 then 5 else if w < 1000000 then 6 else if w < 10000000 then 7 else if w < 100000000 then 8 else if w < 1000000000 then 9 else 10
def sb_dec (v : Nat) : Nat → Nat := fun i => 48 + v / 10 ^ (sb_dg v - 1 - i) % 10
theorem sb_dg_in (w : Nat) : 1 ≤ sb_dg w ∧ sb_dg w ≤ 10 := by
  unfold sb_dg
  constructor <;> (repeat' split) <;> omega
theorem sb_dg100 {w : Nat} (h : 100 ≤ w) (hw : w < 2 ^ 31) : sb_dg w = sb_dg (w / 100) + 2 := by
  rw [sb_dg, sb_dg, if_neg (show ¬ w < 10 by omega), if_neg (show ¬ w < 100 by omega)]
  by_cases h3 : w < 1000
  · rw [if_pos h3, if_pos (show w / 100 < 10 by omega)]
  rw [if_neg h3, if_neg (show ¬ w / 100 < 10 by omega)]
  by_cases h4 : w < 10000
  · rw [if_pos h4, if_pos (show w / 100 < 100 by omega)]
  rw [if_neg h4, if_neg (show ¬ w / 100 < 100 by omega)]
  by_cases h5 : w < 100000
  · rw [if_pos h5, if_pos (show w / 100 < 1000 by omega)]
  rw [if_neg h5, if_neg (show ¬ w / 100 < 1000 by omega)]
  by_cases h6 : w < 1000000
  · rw [if_pos h6, if_pos (show w / 100 < 10000 by omega)]
  rw [if_neg h6, if_neg (show ¬ w / 100 < 10000 by omega)]
  by_cases h7 : w < 10000000
  · rw [if_pos h7, if_pos (show w / 100 < 100000 by omega)]
  rw [if_neg h7, if_neg (show ¬ w / 100 < 100000 by omega)]
  by_cases h8 : w < 100000000
  · rw [if_pos h8, if_pos (show w / 100 < 1000000 by omega)]
  rw [if_neg h8, if_neg (show ¬ w / 100 < 1000000 by omega)]
  by_cases h9 : w < 1000000000
  · rw [if_pos h9, if_pos (show w / 100 < 10000000 by omega)]
  rw [if_neg h9, if_neg (show ¬ w / 100 < 10000000 by omega)]
  rw [if_pos (show w / 100 < 100000000 by omega)]
theorem sb_negT {w : Nat} (h : w < 2 ^ 31) : (-nI w).toInt = -(w : Int) := by
  rw [Int32.toInt_neg, nI_toInt h]
  exact Int.bmod_eq_of_le (by omega) (by omega)
theorem sb_nle {a b : Nat} (ha : a < 2 ^ 31) (hb : b < 2 ^ 31) : -nI a ≤ -nI b ↔ b ≤ a := by
  rw [Int32.le_iff_toInt_le, sb_negT ha, sb_negT hb]
  omega
theorem sb_nlt {a b : Nat} (ha : a < 2 ^ 31) (hb : b < 2 ^ 31) : -nI a < -nI b ↔ b < a := by
  rw [Int32.lt_iff_toInt_lt, sb_negT ha, sb_negT hb]
  omega
theorem sb_cmp {A B : Prop} {x : Int32} (v c : Nat) (f : c ≤ v → A) (g : v < c → B) (hv : v < 2 ^ 31) (hx : x = -nI c := by rfl) (hc : c < 2 ^ 31 := by omega) : (-nI v ≤ x → A) ∧ (¬ -nI v ≤ x → B) := by
  subst hx
  rw [sb_nle hv hc]
  exact ⟨f, fun z => g (by omega)⟩
theorem sb_ndiv {w : Nat} (hw : w < 2 ^ 31) : (-nI w) / 100 = -nI (w / 100) := by
  apply Int32.toInt_inj.mp
  have h100 : (100 : Int32).toInt = 100 := by decide
  rw [Int32.toInt_div, sb_negT hw, h100, sb_negT (by omega), Int.neg_tdiv, Int.tdiv_eq_ediv_of_nonneg (by omega), Int.bmod_eq_of_le (by omega) (by omega)]
  omega
theorem sb_nrem {w : Nat} (hw : w < 2 ^ 31) : (-nI (w / 100)) * 100 - (-nI w) = nI (w % 100) := by
  have h := pk_rem (a := w) (d := 100) hw (by decide) (by decide)
  rw [pk_div hw (by decide) (by decide)] at h
  rw [← h]
  show (-nI (w / 100)) * nI 100 - (-nI w) = nI w - nI (w / 100) * nI 100
  rw [Int32.neg_mul, Int32.sub_neg, Int32.add_comm, ← Int32.sub_eq_add_neg]
end
section
/-! rows on bits, shifts and unsigned numbers, to paste: each family out of a closed proof of our own, whole with what it rests on; each by itself clean at Lean in its own claim (generation 39, form 5). Take a family whole -/
/-! ===== Int32 by its bits: bt x i ===== -/
def bt (x : Int32) (i : Nat) : Bool := x.toBitVec.getLsbD i
theorem b_ext {x y : Int32} (h : ∀ i, i < 32 → bt x i = bt y i) : x = y := Int32.toBitVec_inj.mp (BitVec.eq_of_getLsbD_eq (fun i hi => h i hi))
theorem b_or (x y : Int32) (i : Nat) : bt (x ||| y) i = (bt x i || bt y i) := by unfold bt; rw [Int32.toBitVec_or, BitVec.getLsbD_or]
theorem b_and (x y : Int32) (i : Nat) : bt (x &&& y) i = (bt x i && bt y i) := by unfold bt; rw [Int32.toBitVec_and, BitVec.getLsbD_and]
theorem b_xor (x y : Int32) (i : Nat) : bt (x ^^^ y) i = (bt x i ^^ bt y i) := by unfold bt; rw [Int32.toBitVec_xor, BitVec.getLsbD_xor]
theorem b_big {x : Int32} {i : Nat} (h : 32 ≤ i) : bt x i = false := BitVec.getLsbD_of_ge _ _ h
theorem b_255 (i : Nat) : bt 255 i = decide (i < 8) := by
  rcases Nat.lt_or_ge i 32 with h | h
  · exact (by decide +kernel : ∀ i, i < 32 → bt 255 i = decide (i < 8)) i h
  · rw [b_big h, decide_eq_false (by omega)]
theorem b_65535 (i : Nat) : bt 65535 i = decide (i < 16) := by
  rcases Nat.lt_or_ge i 32 with h | h
  · exact (by decide +kernel : ∀ i, i < 32 → bt 65535 i = decide (i < 16)) i h
  · rw [b_big h, decide_eq_false (by omega)]
theorem b_m1 : ∀ i, i < 32 → bt (-1) i = true := by decide +kernel
theorem b_0 (i : Nat) : bt 0 i = false := BitVec.getLsbD_zero
theorem s_l : ∀ n, n < 32 → ((nI n &&& 31).toBitVec.smod 32).toNat = n := by decide +kernel
theorem s_u : ∀ n, n < 32 → (((nI n).toUInt32 &&& Int32.toUInt32 31).toBitVec % 32).toNat = n := by decide +kernel
theorem b_shl (n : Nat) (hn : n < 32) (x : Int32) {i : Nat} (hi : i < 32) : bt (x <<< (nI n &&& 31)) i = (decide (n ≤ i) && bt x (i - n)) := by
  unfold bt
  rw [Int32.toBitVec_shiftLeft]
  show (x.toBitVec <<< ((nI n &&& 31).toBitVec.smod 32).toNat).getLsbD i = _
  rw [s_l n hn, BitVec.getLsbD_shiftLeft]
  rcases Nat.lt_or_ge i n with h | h
  · simp [h, Nat.not_le.mpr h]
  · simp [hi, h, Nat.not_lt.mpr h]
theorem b_ushr (n : Nat) (hn : n < 32) (x : Int32) (i : Nat) : bt ((x.toUInt32 >>> ((nI n).toUInt32 &&& Int32.toUInt32 31)).toInt32) i = bt x (n + i) := by
  show (x.toUInt32 >>> ((nI n).toUInt32 &&& Int32.toUInt32 31)).toBitVec.getLsbD i = x.toUInt32.toBitVec.getLsbD (n + i)
  rw [UInt32.toBitVec_shiftRight]
  show (x.toUInt32.toBitVec >>> (((nI n).toUInt32 &&& Int32.toUInt32 31).toBitVec % 32).toNat).getLsbD i = _
  rw [s_u n hn, BitVec.getLsbD_ushiftRight]
theorem b_sshr (n : Nat) (hn : n < 32) (x : Int32) {i : Nat} (hi : i < 32) : bt (x >>> (nI n &&& 31)) i = if n + i < 32 then bt x (n + i) else bt x 31 := by
  unfold bt
  rw [Int32.toBitVec_shiftRight]
  show (x.toBitVec.sshiftRight ((nI n &&& 31).toBitVec.smod 32).toNat).getLsbD i = _
  rw [s_l n hn, BitVec.getLsbD_sshiftRight, BitVec.msb_eq_getLsbD_last]
  simp [hi]
theorem b_shl8 (x : Int32) {i : Nat} (hi : i < 32) : bt (x <<< ((8 : Int32) &&& 31)) i = (decide (8 ≤ i) && bt x (i - 8)) := b_shl 8 (by omega) x hi
theorem b_shl16 (x : Int32) {i : Nat} (hi : i < 32) : bt (x <<< ((16 : Int32) &&& 31)) i = (decide (16 ≤ i) && bt x (i - 16)) := b_shl 16 (by omega) x hi
theorem b_shl24 (x : Int32) {i : Nat} (hi : i < 32) : bt (x <<< ((24 : Int32) &&& 31)) i = (decide (24 ≤ i) && bt x (i - 24)) := b_shl 24 (by omega) x hi
theorem b_sshr8 (x : Int32) {i : Nat} (hi : i < 32) : bt (x >>> ((8 : Int32) &&& 31)) i = if 8 + i < 32 then bt x (8 + i) else bt x 31 := b_sshr 8 (by omega) x hi
/-! ===== nI under and, xor, >>>, one bit, 65535 ===== -/
theorem nx_and (a b : Nat) : nI a &&& nI b = nI (a &&& b) := by
  apply Int32.toBitVec_inj.1
  show BitVec.ofNat 32 a &&& BitVec.ofNat 32 b = BitVec.ofNat 32 (a &&& b)
  apply BitVec.eq_of_getLsbD_eq
  intro i hi
  simp [hi]
theorem nx_xor (a b : Nat) : nI a ^^^ nI b = nI (a ^^^ b) := by
  apply Int32.toBitVec_inj.1
  show BitVec.ofNat 32 a ^^^ BitVec.ofNat 32 b = BitVec.ofNat 32 (a ^^^ b)
  apply BitVec.eq_of_getLsbD_eq
  intro i hi
  simp [hi]
theorem nx_cnt : ∀ j : Fin 32, (UInt32.ofNat j.val &&& Int32.toUInt32 31).toNat % 32 = j.val := by decide +kernel
theorem nx_ush {k j : Nat} (hk : k < 65536) (hj : j < 32) : ((nI k).toUInt32 >>> ((nI j).toUInt32 &&& Int32.toUInt32 31)).toInt32 = nI (k >>> j) := by
  have hs : k >>> j ≤ k := by
    rw [Nat.shiftRight_eq_div_pow]
    exact Nat.div_le_self _ _
  have e2 : UInt32.ofNat k >>> (UInt32.ofNat j &&& Int32.toUInt32 31) = UInt32.ofNat (k >>> j) := by
    apply UInt32.toNat_inj.1
    have h1 : (UInt32.ofNat k).toNat = k := Nat.mod_eq_of_lt (by omega)
    have h2 : (UInt32.ofNat (k >>> j)).toNat = k >>> j := Nat.mod_eq_of_lt (by omega)
    rw [UInt32.toNat_shiftRight, nx_cnt ⟨j, hj⟩, h1, h2]
  show (UInt32.ofNat k >>> (UInt32.ofNat j &&& Int32.toUInt32 31)).toInt32 = _
  rw [e2]
  rfl
theorem nx_bit {k j : Nat} (hk : k < 65536) (hj : j < 16) : (((nI k).toUInt32 >>> ((nI j).toUInt32 &&& Int32.toUInt32 31)).toInt32 &&& 1) = 0 ↔ k.testBit j = false := by
  rw [nx_ush hk (by omega)]
  show nI (k >>> j) &&& nI 1 = 0 ↔ _
  rw [nx_and, Nat.and_one_is_mod, ← nI_0, nI_eq (by omega) (by omega), Nat.testBit_eq_decide_div_mod_eq, Nat.shiftRight_eq_div_pow, decide_eq_false_iff_not]
  generalize k / 2 ^ j = z
  omega
theorem nx_mod (k : Nat) : nI k &&& 65535 = nI (k % 65536) := by
  show nI k &&& nI 65535 = _
  rw [nx_and, show (65535 : Nat) = 2 ^ 16 - 1 from rfl, Nat.and_two_pow_sub_one_eq_mod]
theorem nx_m16 {k : Nat} (h : k < 65536) : nI k &&& 65535 = nI k := by rw [nx_mod, Nat.mod_eq_of_lt h]
theorem nx_mask (x : Int32) : ∃ k, k < 65536 ∧ x &&& 65535 = nI k := by
  have e : x = nI x.toBitVec.toNat := by
    apply Int32.toBitVec_inj.1
    show x.toBitVec = BitVec.ofNat 32 x.toBitVec.toNat
    simp
  refine ⟨x.toBitVec.toNat % 65536, Nat.mod_lt _ (by omega), ?_⟩
  rw [← nx_mod, ← e]
/-! ===== Int32 as a set of bits: test, set ===== -/
def nf_M (m : Int32) : Nat := 4294967296 - m.toBitVec.toNat
theorem nf_sh : ∀ l, l < 32 → ((1 : Int32) <<< (nI l &&& 31)).toBitVec = BitVec.twoPow 32 l := by decide +kernel
theorem nf_sl : ∀ l, l < 32 → (((nI l).toUInt32 &&& Int32.toUInt32 31).toBitVec % 32).toNat = l := by decide +kernel
theorem nf_tp : ∀ l, l < 32 → BitVec.twoPow 32 l ≠ 0#32 := by decide +kernel
theorem nf_bit (m : Int32) (l : Nat) (hl : l < 32) : ((m.toUInt32 >>> ((nI l).toUInt32 &&& Int32.toUInt32 31)).toInt32 &&& 1) = 0 ↔ (m &&& ((1 : Int32) <<< (nI l &&& 31))) = 0 := by
  have e : ((m.toUInt32 >>> ((nI l).toUInt32 &&& Int32.toUInt32 31)).toInt32).toBitVec = m.toBitVec >>> l := by
    show m.toBitVec >>> (((nI l).toUInt32 &&& Int32.toUInt32 31).toBitVec % 32) = m.toBitVec >>> l
    rw [BitVec.ushiftRight_eq', nf_sl l hl]
  rw [← Int32.toBitVec_inj, ← Int32.toBitVec_inj, Int32.toBitVec_and, Int32.toBitVec_and, nf_sh l hl, e, BitVec.and_twoPow]
  show (m.toBitVec >>> l &&& 1#32) = 0#32 ↔ _ = 0#32
  rw [BitVec.and_one_eq_setWidth_ofBool_getLsbD, BitVec.getLsbD_ushiftRight, Nat.add_zero]
  cases hb : m.toBitVec.getLsbD l
  · exact ⟨fun _ => by simp, fun _ => by decide⟩
  · exact ⟨fun z => absurd z (by decide), fun z => absurd ((if_pos rfl).symm.trans z) (nf_tp l hl)⟩
theorem nf_gr (m k : Int32) (h : m &&& k = 0) (hk : k ≠ 0) : nf_M (m ||| k) < nf_M m := by
  have hm := m.toBitVec.isLt
  have hm' := (m ||| k).toBitVec.isLt
  have h1 : m.toBitVec.toNat ≤ (m ||| k).toBitVec.toNat := by
    rw [Int32.toBitVec_or, BitVec.toNat_or]
    exact Nat.left_le_or
  have h2 : m.toBitVec.toNat ≠ (m ||| k).toBitVec.toNat := by
    intro e
    have e2 : m = m ||| k := Int32.toBitVec_inj.mp (BitVec.eq_of_toNat_eq e)
    apply hk
    apply Int32.toBitVec_inj.mp
    show k.toBitVec = 0#32
    apply BitVec.eq_of_getLsbD_eq
    intro i hi
    have a : m.toBitVec.getLsbD i = (m.toBitVec.getLsbD i || k.toBitVec.getLsbD i) := by rw [← BitVec.getLsbD_or, ← Int32.toBitVec_or, ← e2]
    have b : (m.toBitVec.getLsbD i && k.toBitVec.getLsbD i) = false := by
      rw [← BitVec.getLsbD_and, ← Int32.toBitVec_and, h]
      exact BitVec.getLsbD_zero
    rw [BitVec.getLsbD_zero]
    revert a b
    cases m.toBitVec.getLsbD i <;> cases k.toBitVec.getLsbD i <;> simp
  unfold nf_M
  omega
/-! ===== a byte read unsigned ===== -/
theorem bp_b (x : Int32) : x.toInt8.toInt32 &&& 255 = x &&& 255 := by
  apply Int32.toBitVec_inj.mp
  rw [Int32.toBitVec_and, Int32.toBitVec_and, Int8.toBitVec_toInt32, Int32.toBitVec_toInt8]
  apply BitVec.eq_of_getLsbD_eq
  intro i hi
  rw [BitVec.getLsbD_and, BitVec.getLsbD_and]
  have hm : ∀ i < 32, 8 ≤ i → (255 : Int32).toBitVec.getLsbD i = false := by decide
  rcases Nat.lt_or_ge i 8 with z | z
  · rw [BitVec.getLsbD_signExtend, BitVec.getLsbD_signExtend, if_pos z, if_pos hi]
    simp only [z, hi, decide_true, Bool.true_and]
  · rw [hm i hi z]; simp
/-! ===== the char cast and 65535 ===== -/
theorem em_w (v : Int32) : ∃ w : Nat, w < 65536 ∧ (v.toUInt32 % 65536).toInt32 = nI w ∧ v &&& 65535 = nI w := by
  have hr := lw_u16_r v
  have h0 : (0 : Int32).toInt = 0 := by decide
  obtain ⟨w, h1, h2⟩ := nI_of (x := lw_u16 v) (by rw [Int32.lt_iff_toInt_lt]; omega)
  have h3 : (v.toUInt32 % 65536).toInt32 = nI w := h2
  rw [h2, nI_toInt h1] at hr
  exact ⟨w, by omega, h3, by rw [← lg_i2c_mask, ← lg_i2c_nf, h3]⟩
/-! ===== Int64 as a set of bits: test, set, clear ===== -/
theorem ts_nf {x : Bool} (h : ¬ x = false) : x = true := by cases x <;> first | rfl | exact absurd rfl h
theorem ts_nt {x : Bool} (h : ¬ x = true) : x = false := by cases x <;> first | rfl | exact absurd rfl h
theorem ts_bit {w : Int64} {s : UInt64} {j : Nat} (hj : j < 64) (hs : s.toNat = j) : ((w.toUInt64 >>> s).toInt64 &&& 1) = 0 ↔ w.toBitVec.getLsbD j = false := by
  have e : (w.toUInt64 >>> s).toInt64.toBitVec = w.toBitVec >>> j := by
    apply BitVec.eq_of_toNat_eq
    show (w.toUInt64 >>> s).toNat = _
    rw [UInt64.toNat_shiftRight, hs, Nat.mod_eq_of_lt hj, BitVec.toNat_ushiftRight]
    rfl
  rw [← Int64.toBitVec_inj, Int64.toBitVec_and, e]
  show w.toBitVec >>> j &&& 1#64 = 0#64 ↔ _
  constructor
  · intro h
    have t := congrArg (fun x => x.getLsbD 0) h
    simpa using t
  · intro h
    apply BitVec.eq_of_getLsbD_eq
    intro i hi
    cases i with
    | zero => simp [h]
    | succ i => simp
theorem ts_or {w m : Int64} {j : Nat} (hj : j < 64) (hm : m.toBitVec = BitVec.twoPow 64 j) : (w ||| m) = w ↔ w.toBitVec.getLsbD j = true := by
  rw [← Int64.toBitVec_inj, Int64.toBitVec_or, hm]
  constructor
  · intro h
    have t := congrArg (fun x => x.getLsbD j) h
    simp only [BitVec.getLsbD_or, BitVec.getLsbD_twoPow] at t
    simpa [hj] using t.symm
  · intro h
    apply BitVec.eq_of_getLsbD_eq
    intro i hi
    rw [BitVec.getLsbD_or, BitVec.getLsbD_twoPow]
    by_cases e : j = i
    · subst e; rw [h, Bool.true_or]
    · simp [e]
theorem ts_and {w m : Int64} {j : Nat} (hj : j < 64) (hm : m.toBitVec = BitVec.twoPow 64 j) : (w &&& (m ^^^ (-1))) = w ↔ w.toBitVec.getLsbD j = false := by
  have ha : (-1 : Int64).toBitVec = BitVec.allOnes 64 := by decide
  rw [← Int64.toBitVec_inj, Int64.toBitVec_and, Int64.toBitVec_xor, hm, ha]
  constructor
  · intro h
    have t := congrArg (fun x => x.getLsbD j) h
    simp only [BitVec.getLsbD_and, BitVec.getLsbD_xor, BitVec.getLsbD_twoPow, BitVec.getLsbD_allOnes] at t
    simpa [hj] using t.symm
  · intro h
    apply BitVec.eq_of_getLsbD_eq
    intro i hi
    rw [BitVec.getLsbD_and, BitVec.getLsbD_xor, BitVec.getLsbD_twoPow, BitVec.getLsbD_allOnes]
    by_cases e : j = i
    · subst e; rw [h, Bool.false_and]
    · simp [e, hi]
/-! ===== lN n to 2^64: shifts, and, or, masks, one bit ===== -/
theorem wb_tb (n : Nat) : (lN n).toBitVec = BitVec.ofNat 64 n := rfl
theorem wb_inj {a b : Int64} (h : a.toBitVec = b.toBitVec) : a = b := Int64.toBitVec_inj.mp h
theorem wb_tn {n : Nat} (h : n < 2 ^ 64) : (lN n).toBitVec.toNat = n := by rw [wb_tb, BitVec.toNat_ofNat, Nat.mod_eq_of_lt h]
theorem wb_of (x : Int64) : ∃ n, n < 2 ^ 64 ∧ x = lN n := ⟨x.toBitVec.toNat, x.toBitVec.isLt, wb_inj (by rw [wb_tb]; simp)⟩
theorem wb_of32 (x : Int32) : ∃ n, n < 2 ^ 32 ∧ x = nI n := ⟨x.toBitVec.toNat, x.toBitVec.isLt, Int32.toBitVec_inj.mp (by show _ = BitVec.ofNat 32 _; simp)⟩
theorem wb_c : ∀ k, k < 64 → ((nI k).toInt64 &&& 63) = lN k := by decide +kernel
theorem wb_cu : ∀ k, k < 64 → ((nI k).toInt64.toUInt64 &&& Int64.toUInt64 63) = UInt64.ofNat k := by decide +kernel
theorem wb_sm : ∀ k, k < 64 → (BitVec.ofNat 64 k).smod 64 = BitVec.ofNat 64 k := by decide +kernel
theorem wb_pw {a b : Nat} (h : a ≤ b) : 2 ^ b = 2 ^ a * 2 ^ (b - a) := by rw [← Nat.pow_add]; congr 1; omega
theorem wb_lt2 {a b : Nat} (h : a < b) : 2 ^ a < 2 ^ b := Nat.pow_lt_pow_right (by decide) h
theorem wb_mod (n : Nat) : lN n = lN (n % 2 ^ 64) := wb_inj (by rw [wb_tb, wb_tb]; apply BitVec.eq_of_toNat_eq; rw [BitVec.toNat_ofNat, BitVec.toNat_ofNat, Nat.mod_mod])
theorem wb_shr {n k : Nat} (hn : n < 2 ^ 64) (hk : k < 64) : ((lN n).toUInt64 >>> ((nI k).toInt64.toUInt64 &&& Int64.toUInt64 63)).toInt64 = lN (n / 2 ^ k) := by
  rw [wb_cu k hk]
  apply wb_inj
  apply BitVec.eq_of_toNat_eq
  show ((lN n).toUInt64 >>> UInt64.ofNat k).toNat = (BitVec.ofNat 64 _).toNat
  have h1 : (UInt64.ofNat k).toNat = k := by
    show (BitVec.ofNat 64 k).toNat = k
    rw [BitVec.toNat_ofNat, Nat.mod_eq_of_lt (by omega)]
  have h2 : (lN n).toUInt64.toNat = n := wb_tn hn
  rw [UInt64.toNat_shiftRight, h1, h2, Nat.mod_eq_of_lt hk, Nat.shiftRight_eq_div_pow, BitVec.toNat_ofNat, Nat.mod_eq_of_lt (Nat.lt_of_le_of_lt (Nat.div_le_self _ _) hn)]
theorem wb_shl (n : Nat) {k : Nat} (hk : k < 64) : lN n <<< ((nI k).toInt64 &&& 63) = lN (n * 2 ^ k) := by
  rw [wb_c k hk]
  apply wb_inj
  rw [Int64.toBitVec_shiftLeft, wb_tb, wb_tb, wb_tb, wb_sm k hk]
  apply BitVec.eq_of_toNat_eq
  rw [BitVec.shiftLeft_eq', BitVec.toNat_shiftLeft, BitVec.toNat_ofNat, BitVec.toNat_ofNat, BitVec.toNat_ofNat, Nat.mod_eq_of_lt (show k < 2 ^ 64 by omega), Nat.shiftLeft_eq, Nat.mul_mod, Nat.mod_mod, ← Nat.mul_mod]
theorem wb_and {a b : Nat} (ha : a < 2 ^ 64) (hb : b < 2 ^ 64) : lN a &&& lN b = lN (a &&& b) := by
  apply wb_inj
  rw [Int64.toBitVec_and, wb_tb, wb_tb, wb_tb]
  apply BitVec.eq_of_toNat_eq
  rw [BitVec.toNat_and, BitVec.toNat_ofNat, BitVec.toNat_ofNat, BitVec.toNat_ofNat, Nat.mod_eq_of_lt ha, Nat.mod_eq_of_lt hb, Nat.mod_eq_of_lt (Nat.and_lt_two_pow _ hb)]
theorem wb_or {a b : Nat} (ha : a < 2 ^ 64) (hb : b < 2 ^ 64) : lN a ||| lN b = lN (a ||| b) := by
  apply wb_inj
  rw [Int64.toBitVec_or, wb_tb, wb_tb, wb_tb]
  apply BitVec.eq_of_toNat_eq
  rw [BitVec.toNat_or, BitVec.toNat_ofNat, BitVec.toNat_ofNat, BitVec.toNat_ofNat, Nat.mod_eq_of_lt ha, Nat.mod_eq_of_lt hb, Nat.mod_eq_of_lt (Nat.or_lt_two_pow ha hb)]
theorem wb_mask {n k : Nat} (hn : n < 2 ^ 64) (hk : k < 64) : lN n &&& lN (2 ^ k - 1) = lN (n % 2 ^ k) := by
  rw [wb_and hn (by have := wb_lt2 hk; omega), Nat.and_two_pow_sub_one_eq_mod]
theorem wb_a1 {n : Nat} (hn : n < 2 ^ 64) : lN n &&& 1 = lN (n % 2) := wb_mask (k := 1) hn (by decide)
theorem wb_bit {n k : Nat} (hn : n < 2 ^ 64) (hk : k < 64) : ((lN n).toUInt64 >>> ((nI k).toInt64.toUInt64 &&& Int64.toUInt64 63)).toInt64 &&& 1 = lN (n / 2 ^ k % 2) := by
  rw [wb_shr hn hk, wb_a1 (Nat.lt_of_le_of_lt (Nat.div_le_self _ _) hn)]
theorem wb_xor {q k : Nat} (hk : k < 63) (h : 2 ^ k ≤ q) (h2 : q < 2 ^ (k + 1)) : lN q ^^^ lN (2 ^ k) = lN (q - 2 ^ k) := by
  obtain ⟨r, rfl⟩ : ∃ r, q = 2 ^ k + r := ⟨q - 2 ^ k, by omega⟩
  have hr : r < 2 ^ k := by rw [Nat.pow_succ] at h2; omega
  have hx : (2 ^ k + r) ^^^ 2 ^ k = r := by
    apply Nat.eq_of_testBit_eq
    intro i
    rw [Nat.testBit_xor, Nat.testBit_two_pow]
    rcases Nat.lt_trichotomy i k with h | h | h
    · rw [Nat.testBit_two_pow_add_gt h]
      simp [show ¬ k = i by omega]
    · subst h
      rw [Nat.testBit_two_pow_add_eq]
      simp
    · have a1 : 2 ^ (k + 1) ≤ 2 ^ i := Nat.pow_le_pow_right (by decide) h
      rw [Nat.testBit_lt_two_pow (show 2 ^ k + r < 2 ^ i by omega), Nat.testBit_lt_two_pow (show r < 2 ^ i by omega)]
      simp [show ¬ k = i by omega]
  have b1 := wb_lt2 (show k + 1 < 64 by omega)
  have b2 := wb_lt2 (show k < 64 by omega)
  apply wb_inj
  rw [Int64.toBitVec_xor, wb_tb, wb_tb, wb_tb]
  apply BitVec.eq_of_toNat_eq
  rw [BitVec.toNat_xor, BitVec.toNat_ofNat, BitVec.toNat_ofNat, BitVec.toNat_ofNat, Nat.mod_eq_of_lt (by omega : 2 ^ k + r < 2 ^ 64), Nat.mod_eq_of_lt b2, hx, Nat.add_sub_cancel_left, Nat.mod_eq_of_lt (by omega)]
/-! ===== lN: masks, 'or' of parts that don't overlap is a sum ===== -/
theorem u_tn {n : Nat} (h : n < 2 ^ 64) : (UInt64.ofNat n).toNat = n := Nat.mod_eq_of_lt h
theorem g_and {a b c : Nat} (ha : a < 2 ^ 64) (hb : b < 2 ^ 64) (hc : a &&& b = c) : lN a &&& lN b = lN c := by
  subst hc
  have h : UInt64.ofNat a &&& UInt64.ofNat b = UInt64.ofNat (a &&& b) := UInt64.toNat_inj.mp (by rw [UInt64.toNat_and, u_tn ha, u_tn hb, u_tn (Nat.and_lt_two_pow a hb)])
  have h2 := congrArg UInt64.toInt64 h
  exact h2
theorem g_and1 {a : Nat} (ha : a < 2 ^ 64) : lN a &&& 1 = lN (a % 2) := g_and (b := 1) ha (by decide) (Nat.and_two_pow_sub_one_eq_mod a 1)
theorem g_mask {a s p : Nat} (hp : 2 ^ s = p) (hs : s < 64) (ha : a < 2 ^ 64) : lN a &&& lN (p - 1) = lN (a % p) := by
  subst hp
  have := Nat.pow_lt_pow_right (show 1 < 2 by decide) hs
  exact g_and ha (by omega) (Nat.and_two_pow_sub_one_eq_mod a s)
theorem g_or {k p a b : Nat} (hp : 2 ^ k = p) (ha : a < p) (h : b * p + a < 2 ^ 64) : lN (b * p) ||| lN a = lN (b * p + a) := by
  subst hp
  have h1 : b * 2 ^ k ||| a = b * 2 ^ k + a := by rw [← Nat.shiftLeft_eq, Nat.shiftLeft_add_eq_or_of_lt ha]
  have h3 : UInt64.ofNat (b * 2 ^ k) ||| UInt64.ofNat a = UInt64.ofNat (b * 2 ^ k + a) := UInt64.toNat_inj.mp (by rw [UInt64.toNat_or, u_tn (by omega), u_tn (by omega), u_tn h, h1])
  have h2 := congrArg UInt64.toInt64 h3
  exact h2
theorem g_or' {k p a b : Nat} (hp : 2 ^ k = p) (ha : a < p) (h : a + b * p < 2 ^ 64) : lN a ||| lN (b * p) = lN (a + b * p) := by
  rw [Int64.or_comm, g_or hp ha (by omega), Nat.add_comm]
theorem g_ushr {a k p : Nat} {y : UInt64} (hy : y = UInt64.ofNat k) (hk : k < 64) (hp : 2 ^ k = p) (ha : a < 2 ^ 64) : ((lN a).toUInt64 >>> y).toInt64 = lN (a / p) := by
  subst hy hp
  have h : UInt64.ofNat a >>> UInt64.ofNat k = UInt64.ofNat (a / 2 ^ k) := UInt64.toNat_inj.mp (by rw [UInt64.toNat_shiftRight, u_tn ha, u_tn (by omega), u_tn (Nat.lt_of_le_of_lt (Nat.div_le_self _ _) ha), Nat.mod_eq_of_lt hk, Nat.shiftRight_eq_div_pow])
  have h2 := congrArg UInt64.toInt64 h
  exact h2
theorem g_shl {a k p : Nat} {y : Int64} (hy : y.toBitVec.smod 64 = BitVec.ofNat 64 k) (hk : k < 64) (hp : 2 ^ k = p) (ha : a < 2 ^ 64) : lN a <<< y = lN (a * p) := by
  subst hp
  apply Int64.toBitVec_inj.mp
  rw [Int64.toBitVec_shiftLeft, hy]
  apply BitVec.eq_of_toNat_eq
  have hb : (lN a).toBitVec.toNat = a := Nat.mod_eq_of_lt ha
  have hk' : (BitVec.ofNat 64 k).toNat = k := Nat.mod_eq_of_lt (by omega)
  have h : ((lN a).toBitVec <<< BitVec.ofNat 64 k).toNat = (a * 2 ^ k) % 2 ^ 64 := by simp only [BitVec.shiftLeft_eq', BitVec.toNat_shiftLeft, hb, hk', Nat.shiftLeft_eq]
  exact h
/-! ===== lN to 2^62 under >> and >>> ===== -/
theorem pf_lI {a : Nat} (h : a < 2 ^ 63) : (lN a).toInt = (a : Int) := lg_ofNat_toInt h
theorem pf_shr {a d : Nat} {D : Int64} (hD : (D.toBitVec.smod 64).toNat = d) (h : a < 2 ^ 62) : lN a >>> D = lN (a / 2 ^ d) := by
  have hd : a / 2 ^ d ≤ a := Nat.div_le_self _ _
  apply Int64.toInt_inj.mp
  have e : (lN a >>> D).toInt = (lN a).toInt >>> d := by
    rw [← hD]
    exact BitVec.toInt_sshiftRight ..
  rw [e, Int.shiftRight_eq_div_pow, pf_lI (by omega), pf_lI (by omega)]
  rfl
theorem pf_ushr {a d : Nat} {D : UInt64} (hD : D.toNat % 64 = d) (h : a < 2 ^ 62) : ((lN a).toUInt64 >>> D).toInt64 = lN (a / 2 ^ d) := by
  have hd : a / 2 ^ d ≤ a := Nat.div_le_self _ _
  have e : (lN a).toUInt64 >>> D = UInt64.ofNat (a / 2 ^ d) := UInt64.toNat_inj.mp (by
    rw [UInt64.toNat_shiftRight, hD, Nat.shiftRight_eq_div_pow, UInt64.toNat_ofNat']
    show (UInt64.ofNat a).toNat / 2 ^ d = _
    rw [UInt64.toNat_ofNat', Nat.mod_eq_of_lt (by omega), Nat.mod_eq_of_lt (by omega)])
  rw [e]
  rfl
theorem pf_andw (x : Int64) : ∃ m, m < 2 ^ 32 ∧ x &&& 4294967295 = lN m := ⟨x.toBitVec.toNat % 2 ^ 32, Nat.mod_lt _ (by decide), Int64.toBitVec_inj.mp (BitVec.eq_of_toNat_eq (by
  show (x.toBitVec &&& 4294967295#64).toNat = (BitVec.ofNat 64 (x.toBitVec.toNat % 2 ^ 32)).toNat
  rw [BitVec.toNat_and, show (4294967295#64).toNat = 2 ^ 32 - 1 from by decide, Nat.and_two_pow_sub_one_eq_mod, BitVec.toNat_ofNat]
  omega))⟩
/-! ===== Int64 as an unsigned number: uN x ===== -/
def uN (x : Int64) : Nat := x.toUInt64.toNat
theorem uN_lt (x : Int64) : uN x < 18446744073709551616 := x.toUInt64.toNat_lt
theorem uN_inj {x y : Int64} (h : uN x = uN y) : x = y := congrArg UInt64.toInt64 (UInt64.toNat_inj.mp h)
theorem uN_add (x y : Int64) : uN (x + y) = (uN x + uN y) % 18446744073709551616 := by
  show (x.toUInt64 + y.toUInt64).toNat = _
  exact UInt64.toNat_add _ _
theorem uN_mul (x y : Int64) : uN (x * y) = (uN x * uN y) % 18446744073709551616 := by
  show (x.toUInt64 * y.toUInt64).toNat = _
  exact UInt64.toNat_mul _ _
theorem uN_shl (x : Int64) : uN (x <<< ((1 : Int32).toInt64 &&& 63)) = (2 * uN x) % 18446744073709551616 := by
  have h : (((1 : Int32).toInt64 &&& 63).toBitVec.smod 64).toNat = 1 := by decide
  show (x.toBitVec <<< (((1 : Int32).toInt64 &&& 63).toBitVec.smod 64).toNat).toNat = _
  rw [h, BitVec.toNat_shiftLeft, Nat.shiftLeft_eq, Nat.mul_comm]
  rfl
theorem uN_shr (x : Int64) (s : UInt64) : uN (x.toUInt64 >>> s).toInt64 = uN x / 2 ^ (s.toNat % 64) := by
  show (x.toUInt64 >>> s).toNat = _
  rw [UInt64.toNat_shiftRight, Nat.shiftRight_eq_div_pow]
  rfl
theorem uN_s32 (x : Int64) : uN (x.toUInt64 >>> ((32 : Int32).toInt64.toUInt64 &&& Int64.toUInt64 63)).toInt64 = uN x / 4294967296 := by
  have h : ((32 : Int32).toInt64.toUInt64 &&& Int64.toUInt64 63).toNat % 64 = 32 := by decide
  rw [uN_shr, h]
theorem uN_s63 (x : Int64) : uN (x.toUInt64 >>> ((63 : Int32).toInt64.toUInt64 &&& Int64.toUInt64 63)).toInt64 = uN x / 9223372036854775808 := by
  have h : ((63 : Int32).toInt64.toUInt64 &&& Int64.toUInt64 63).toNat % 64 = 63 := by decide
  rw [uN_shr, h]
theorem uN_lo (x : Int64) : uN (x &&& 4294967295) = uN x % 4294967296 := by
  show (x.toUInt64 &&& Int64.toUInt64 4294967295).toNat = _
  rw [UInt64.toNat_and]
  exact Nat.and_two_pow_sub_one_eq_mod _ 32
theorem uN_bit (x : Int64) : (x &&& 1) = 0 ↔ uN x % 2 = 0 := by
  have h : uN (x &&& 1) = uN x % 2 := by
    show (x.toUInt64 &&& Int64.toUInt64 1).toNat = _
    rw [UInt64.toNat_and]
    exact Nat.and_two_pow_sub_one_eq_mod _ 1
  rw [← h]
  exact ⟨fun z => by rw [z]; rfl, fun z => uN_inj (z.trans rfl)⟩
theorem uN_or {x y : Int64} (hy : uN y < 2) : uN ((x <<< ((1 : Int32).toInt64 &&& 63)) ||| y) = (2 * uN x) % 18446744073709551616 + uN y := by
  have h1 : uN ((x <<< ((1 : Int32).toInt64 &&& 63)) ||| y) = uN (x <<< ((1 : Int32).toInt64 &&& 63)) ||| uN y := UInt64.toNat_or _ _
  have h2 : (2 * uN x) % 18446744073709551616 = 2 ^ 1 * (uN x % 9223372036854775808) := by omega
  rw [h1, uN_shl, h2]
  exact (Nat.two_pow_add_eq_or_of_lt (i := 1) hy _).symm
theorem nat_xor {a : Nat} (h : a < 18446744073709551616) : a ^^^ 2 ^ 63 = (a + 9223372036854775808) % 18446744073709551616 := by
  have h1 : (a ^^^ 2 ^ 63) % 2 ^ 63 = a % 2 ^ 63 := by rw [Nat.xor_mod_two_pow, Nat.mod_self, Nat.xor_zero]
  have h2 : (a ^^^ 2 ^ 63) / 2 ^ 63 = (a / 2 ^ 63) ^^^ 1 := by rw [Nat.xor_div_two_pow, Nat.div_self (Nat.two_pow_pos 63)]
  have h3 : a / 2 ^ 63 = 0 ∨ a / 2 ^ 63 = 1 := by omega
  generalize a ^^^ 2 ^ 63 = t at h1 h2
  rcases h3 with h3 | h3
  · rw [h3] at h2
    have h2 : t / 2 ^ 63 = 1 := h2
    omega
  · rw [h3] at h2
    have h2 : t / 2 ^ 63 = 0 := h2
    omega
theorem uN_xor (x : Int64) : uN (x ^^^ (-9223372036854775808)) = (uN x + 9223372036854775808) % 18446744073709551616 := by
  rw [← nat_xor (uN_lt x)]
  exact UInt64.toNat_xor _ _
theorem uN_int (x : Int64) : x.toInt = if 2 * uN x < 18446744073709551616 then (uN x : Int) else (uN x : Int) - 18446744073709551616 := BitVec.toInt_eq_toNat_cond _
theorem uN_le (x y : Int64) : (x ^^^ (-9223372036854775808)) ≤ (y ^^^ (-9223372036854775808)) ↔ uN x ≤ uN y := by
  have hx := uN_lt x
  have hy := uN_lt y
  rw [Int64.le_iff_toInt_le, uN_int, uN_int, uN_xor, uN_xor]
  omega
theorem uN_sk (x : Int64) {k : Nat} (hk : k < 64) : uN (x.toUInt64 >>> ((nI k).toInt64.toUInt64 &&& Int64.toUInt64 63)).toInt64 = uN x / 2 ^ k := by
  have h : ((nI k).toInt64.toUInt64 &&& Int64.toUInt64 63).toNat % 64 = k := by
    rw [nI_l (by omega), UInt64.toNat_and]
    have e : (lN k).toUInt64.toNat = k % 2 ^ 64 := rfl
    have e2 : (Int64.toUInt64 63).toNat = 2 ^ 6 - 1 := by decide
    rw [e, e2, Nat.and_two_pow_sub_one_eq_mod]
    omega
  rw [uN_shr, h]
/-! ===== unsigned comparison by xor with the least ===== -/
theorem lN_bv (n : Nat) : (lN n).toBitVec = BitVec.ofNat 64 n := rfl
theorem lN_nat {n : Nat} (h : n < 2 ^ 64) : (lN n).toBitVec.toNat = n := by rw [lN_bv, BitVec.toNat_ofNat]; exact Nat.mod_eq_of_lt h
theorem lN_xor (a b : Nat) : lN a ^^^ lN b = lN (a ^^^ b) := by
  apply Int64.toBitVec_inj.mp; rw [Int64.toBitVec_xor, lN_bv, lN_bv, lN_bv]; apply BitVec.eq_of_getLsbD_eq; intro i hi; simp [BitVec.getLsbD_ofNat, Nat.testBit_xor, hi]
theorem lN_ti {m : Nat} (h : m < 2 ^ 64) : (lN m).toInt = if m < 2 ^ 63 then (m : Int) else (m : Int) - 2 ^ 64 := by
  have c := BitVec.toInt_eq_toNat_cond (lN m).toBitVec
  rw [lN_nat h] at c
  show (lN m).toBitVec.toInt = _
  rw [c]
  split <;> split <;> omega
theorem xor63 {x : Nat} (h : x < 2 ^ 63) : x ^^^ 2 ^ 63 = 2 ^ 63 + x := by
  apply Nat.eq_of_testBit_eq
  intro i
  rw [Nat.testBit_xor, Nat.testBit_two_pow]
  rcases Nat.lt_trichotomy i 63 with z | z | z
  · rw [Nat.testBit_two_pow_add_gt z, decide_eq_false (by omega)]; simp
  · subst z; rw [Nat.testBit_two_pow_add_eq]; simp
  · have hp : 2 ^ 64 ≤ 2 ^ i := Nat.pow_le_pow_right (by decide) z
    rw [Nat.testBit_lt_two_pow (show x < 2 ^ i by omega), Nat.testBit_lt_two_pow (show 2 ^ 63 + x < 2 ^ i by omega), decide_eq_false (by omega)]; rfl
theorem xorS {a : Nat} (h : a < 2 ^ 64) : (lN a ^^^ (-9223372036854775808)).toInt = (a : Int) - 2 ^ 63 := by
  rw [show (-9223372036854775808 : Int64) = lN (2 ^ 63) from by decide +kernel, lN_xor]
  rcases Nat.lt_or_ge a (2 ^ 63) with z | z
  · rw [xor63 z, lN_ti (by omega), if_neg (by omega)]; omega
  · obtain ⟨x, rfl⟩ : ∃ x, a = 2 ^ 63 + x := ⟨a - 2 ^ 63, by omega⟩
    rw [← xor63 (by omega), Nat.xor_assoc, Nat.xor_self, Nat.xor_zero, lN_ti (by omega), if_pos (by omega), xor63 (by omega)]; omega
theorem ultL {a b : Nat} (ha : a < 2 ^ 64) (hb : b < 2 ^ 64) : ((lN b ^^^ (-9223372036854775808)) ≤ (lN a ^^^ (-9223372036854775808))) ↔ b ≤ a := by
  rw [Int64.le_iff_toInt_le, xorS ha, xorS hb]; omega
/-! ===== Int64 masks of n low bits ===== -/
theorem cr_bits (W U M : BitVec 64) : ((W &&& U) &&& (U &&& (M ^^^ BitVec.allOnes 64))) = 0#64 ↔ (W &&& U) &&& M = W &&& U := by
  constructor
  · intro h
    apply BitVec.eq_of_getLsbD_eq
    intro i hi
    have e := congrArg (fun x => BitVec.getLsbD x i) h
    simp only [BitVec.getLsbD_and, BitVec.getLsbD_xor, BitVec.getLsbD_allOnes, BitVec.getLsbD_zero, hi, decide_true] at e ⊢
    revert e
    cases W.getLsbD i <;> cases U.getLsbD i <;> cases M.getLsbD i <;> decide
  · intro h
    apply BitVec.eq_of_getLsbD_eq
    intro i hi
    have e := congrArg (fun x => BitVec.getLsbD x i) h
    simp only [BitVec.getLsbD_and, BitVec.getLsbD_xor, BitVec.getLsbD_allOnes, BitVec.getLsbD_zero, hi, decide_true] at e ⊢
    revert e
    cases W.getLsbD i <;> cases U.getLsbD i <;> cases M.getLsbD i <;> decide
theorem cr_mask (w U m : Int64) (n : Nat) (hm : m.toBitVec.toNat = 2 ^ n - 1) : ((w &&& U) &&& (U &&& (m ^^^ (-1)))) = 0 ↔ (w &&& U).toBitVec.toNat < 2 ^ n := by
  have e0 : (-1 : Int64).toBitVec = BitVec.allOnes 64 := by decide
  have z0 : (0 : Int64).toBitVec = 0#64 := by decide
  rw [← Int64.toBitVec_inj, z0, Int64.toBitVec_and, Int64.toBitVec_and, Int64.toBitVec_and, Int64.toBitVec_xor, e0, cr_bits]
  generalize w.toBitVec &&& U.toBitVec = T
  rw [← BitVec.toNat_inj, BitVec.toNat_and, hm, Nat.and_two_pow_sub_one_eq_mod]
  constructor
  · intro h
    have t := Nat.mod_lt T.toNat (Nat.two_pow_pos n)
    rw [h] at t
    exact t
  · exact Nat.mod_eq_of_lt
theorem cr_shr (t : Int64) (x : UInt64) (n : Nat) (hx : x.toNat % 64 = n) : (t.toUInt64 >>> x).toInt64 = 0 ↔ t.toBitVec.toNat < 2 ^ n := by
  rw [← Int64.toBitVec_inj, ← BitVec.toNat_inj]
  show (t.toUInt64 >>> x).toNat = 0 ↔ t.toUInt64.toNat < 2 ^ n
  rw [UInt64.toNat_shiftRight, hx, Nat.shiftRight_eq_div_pow]
  constructor
  · intro h
    have d : t.toUInt64.toNat / 2 ^ n < 1 := by
      rw [h]
      decide
    have e := (Nat.div_lt_iff_lt_mul (Nat.two_pow_pos n)).mp d
    rw [Nat.one_mul] at e
    exact e
  · exact Nat.div_eq_of_lt
theorem cr_amt (s : Int64) : ∃ n, n < 64 ∧ s &&& 63 = lN n ∧ (s.toUInt64 &&& Int64.toUInt64 63).toNat % 64 = n := by
  have e : (s.toUInt64 &&& Int64.toUInt64 63).toNat = s.toUInt64.toNat % 2 ^ 6 := by
    rw [UInt64.toNat_and, show (Int64.toUInt64 63).toNat = 2 ^ 6 - 1 from by decide, Nat.and_two_pow_sub_one_eq_mod]
  refine ⟨s.toUInt64.toNat % 2 ^ 6, by omega, ?_, by omega⟩
  rw [← Int64.toBitVec_inj, ← BitVec.toNat_inj]
  show (s.toUInt64 &&& Int64.toUInt64 63).toNat = (BitVec.ofNat 64 (s.toUInt64.toNat % 2 ^ 6)).toNat
  rw [e, BitVec.toNat_ofNat]
  omega
end
section
/-! counts of a predicate below n -/
noncomputable def ec_b (p : Prop) : Nat := @ite Nat p (Classical.propDecidable p) 1 0
theorem ec_b1 {p : Prop} (h : p) : ec_b p = 1 := by unfold ec_b; exact if_pos h
theorem ec_b0 {p : Prop} (h : ¬ p) : ec_b p = 0 := by unfold ec_b; exact if_neg h
theorem ec_ble (p : Prop) : ec_b p ≤ 1 := by
  by_cases h : p
  · rw [ec_b1 h]; exact Nat.le_refl _
  · rw [ec_b0 h]; exact Nat.zero_le _
theorem ec_bm {p q : Prop} (h : p → q) : ec_b p ≤ ec_b q := by
  by_cases z : p
  · rw [ec_b1 z, ec_b1 (h z)]; exact Nat.le_refl _
  · rw [ec_b0 z]; exact Nat.zero_le _
theorem ec_bc {p q : Prop} (h : p ↔ q) : ec_b p = ec_b q := congrArg ec_b (propext h)
noncomputable def ec_n : Nat → (Nat → Prop) → Nat
  | 0, _ => 0
  | n + 1, P => ec_n n P + ec_b (P n)
theorem ec_0 (P : Nat → Prop) : ec_n 0 P = 0 := rfl
theorem ec_s (n : Nat) (P : Nat → Prop) : ec_n (n + 1) P = ec_n n P + ec_b (P n) := rfl
theorem ec_st {n : Nat} {P : Nat → Prop} (h : P n) : ec_n (n + 1) P = ec_n n P + 1 := by rw [ec_s, ec_b1 h]
theorem ec_sf {n : Nat} {P : Nat → Prop} (h : ¬ P n) : ec_n (n + 1) P = ec_n n P := by rw [ec_s, ec_b0 h, Nat.add_zero]
theorem ec_congr {P Q : Nat → Prop} : ∀ n, (∀ i, i < n → (P i ↔ Q i)) → ec_n n P = ec_n n Q := by
  intro n
  induction n with
  | zero => intro _; rfl
  | succ n ih => intro h; rw [ec_s, ec_s, ih (fun i hi => h i (by omega)), ec_bc (h n (by omega))]
theorem ec_mono {P Q : Nat → Prop} : ∀ n, (∀ i, i < n → P i → Q i) → ec_n n P ≤ ec_n n Q := by
  intro n
  induction n with
  | zero => intro _; exact Nat.le_refl _
  | succ n ih =>
    intro h
    rw [ec_s, ec_s]
    exact Nat.add_le_add (ih (fun i hi => h i (by omega))) (ec_bm (h n (by omega)))
theorem ec_le (P : Nat → Prop) : ∀ n, ec_n n P ≤ n := by
  intro n
  induction n with
  | zero => exact Nat.le_refl _
  | succ n ih => rw [ec_s]; exact Nat.add_le_add ih (ec_ble _)
theorem ec_or (P Q : Nat → Prop) : ∀ n, ec_n n (fun i => P i ∨ Q i) ≤ ec_n n P + ec_n n Q := by
  intro n
  induction n with
  | zero => exact Nat.le_refl _
  | succ n ih =>
    rw [ec_s, ec_s, ec_s]
    have h : ec_b (P n ∨ Q n) ≤ ec_b (P n) + ec_b (Q n) := by
      by_cases z : P n
      · rw [ec_b1 z]; have := ec_ble (P n ∨ Q n); omega
      · rw [ec_bc (show (P n ∨ Q n) ↔ Q n from ⟨fun a => a.resolve_left z, Or.inr⟩)]; omega
    omega
theorem ec_one (k : Nat) : ∀ n, ec_n n (fun i => i = k) = ec_b (k < n) := by
  intro n
  induction n with
  | zero => rw [ec_0, ec_b0 (by omega)]
  | succ n ih =>
    rw [ec_s, ih]
    by_cases z : n = k
    · rw [ec_b0 (by omega), ec_b1 z, ec_b1 (by omega)]
    · rw [ec_b0 z, ec_bc (show k < n ↔ k < n + 1 by omega), Nat.add_zero]
theorem ec_lt {P Q : Nat → Prop} {k : Nat} : ∀ n, k < n → (∀ i, i < n → Q i → P i) → P k → ¬ Q k → ec_n n Q + 1 ≤ ec_n n P := by
  intro n
  induction n with
  | zero => intro h; omega
  | succ n ih =>
    intro hk h hp hq
    rw [ec_s, ec_s]
    by_cases z : k = n
    · subst z
      have := ec_mono (P := Q) (Q := P) k (fun i hi => h i (by omega))
      rw [ec_b1 hp, ec_b0 hq]; omega
    · have := ih (by omega) (fun i hi => h i (by omega)) hp hq
      have := ec_bm (h n (by omega))
      omega
theorem ec_add1 {P Q : Nat → Prop} {k : Nat} (n : Nat) (hk : k < n) (h : ∀ i, i < n → (Q i ↔ P i ∨ i = k)) (hp : ¬ P k) : ec_n n Q = ec_n n P + 1 := by
  have a := ec_lt (P := Q) (Q := P) n hk (fun i hi z => (h i hi).mpr (Or.inl z)) ((h k hk).mpr (Or.inr rfl)) hp
  have b := ec_or P (fun i => i = k) n
  rw [ec_one, ec_b1 hk, ← ec_congr n h] at b
  omega
theorem ec_le1 {P Q : Nat → Prop} {k : Nat} (n : Nat) (h : ∀ i, i < n → Q i → P i ∨ i = k) : ec_n n Q ≤ ec_n n P + 1 := by
  have a := ec_mono (P := Q) (Q := fun i => P i ∨ i = k) n h
  have b := ec_or P (fun i => i = k) n
  have c := ec_ble (k < n)
  rw [ec_one] at b
  omega
theorem ec_z {P : Nat → Prop} : ∀ n, (∀ i, i < n → ¬ P i) → ec_n n P = 0 := by
  intro n
  induction n with
  | zero => intro _; rfl
  | succ n ih => intro h; rw [ec_sf (h n (by omega)), ih (fun i hi => h i (by omega))]
theorem ec_zi {P : Nat → Prop} {n i : Nat} (h : ec_n n P = 0) (hi : i < n) : ¬ P i := by
  intro z
  have := ec_lt (P := P) (Q := fun _ => False) (k := i) n hi (fun _ _ f => f.elim) z (fun f => f)
  omega
theorem ec_ex {P : Nat → Prop} {n : Nat} (h : 0 < ec_n n P) : ∃ i, i < n ∧ P i := by
  by_cases z : ∃ i, i < n ∧ P i
  · exact z
  · have := ec_z (P := P) n (fun i hi hp => z ⟨i, hi, hp⟩)
    omega
theorem ec_pos {P : Nat → Prop} {n i : Nat} (hi : i < n) (h : P i) : 0 < ec_n n P := by
  rcases Nat.eq_zero_or_pos (ec_n n P) with z | z
  · exact absurd h (ec_zi z hi)
  · exact z
theorem ec_nf {P : Nat → Prop} : ∀ {n : Nat}, ec_n n P < n → ∃ i, i < n ∧ ¬ P i := by
  intro n
  induction n with
  | zero => intro h; omega
  | succ n ih =>
    intro h
    by_cases z : P n
    · rw [ec_st z] at h
      obtain ⟨i, hi, hp⟩ := ih (by omega)
      exact ⟨i, by omega, hp⟩
    · exact ⟨n, by omega, z⟩
theorem ec_split (P : Nat → Prop) (a : Nat) : ∀ b, ec_n (a + b) P = ec_n a P + ec_n b (fun i => P (a + i)) := by
  intro b
  induction b with
  | zero => rfl
  | succ b ih => rw [← Nat.add_assoc, ec_s, ih, ec_s]; omega
/-- a predicate that lives in a window -/
theorem ec_win {P : Nat → Prop} {N a m : Nat} (hN : a + m ≤ N) (h : ∀ i, i < N → P i → a ≤ i ∧ i < a + m) : ec_n N P = ec_n m (fun j => P (a + j)) := by
  obtain ⟨r, rfl⟩ : ∃ r, N = a + m + r := ⟨N - (a + m), by omega⟩
  rw [ec_split, ec_split]
  have z1 : ec_n a P = 0 := ec_z a (fun i hi hp => by have := h i (by omega) hp; omega)
  have z2 : ec_n r (fun i => P (a + m + i)) = 0 := ec_z r (fun i hi hp => by have := h _ (by omega) hp; omega)
  omega
/-- the number of different values below N, by their first places -/
theorem ec_dist {g : Nat → Prop} {f : Nat → Nat} {N : Nat} : ∀ M, (∀ i, i < M → g i → f i < N) →
    ec_n N (fun c => ∃ i, i < M ∧ g i ∧ f i = c) = ec_n M (fun i => g i ∧ ∀ j, j < i → g j → f j ≠ f i) := by
  intro M
  induction M with
  | zero => intro _; exact ec_z N (fun i _ ⟨j, hj, _⟩ => by omega)
  | succ M ih =>
    intro h
    have ih := ih (fun i hi => h i (by omega))
    by_cases z : g M ∧ ∀ j, j < M → g j → f j ≠ f M
    · rw [ec_st z, ← ih]
      refine ec_add1 (k := f M) N (h M (by omega) z.1) (fun c _ => ⟨?_, ?_⟩) ?_
      · rintro ⟨i, hi, hg, hf⟩
        by_cases e : i = M
        · subst e; exact Or.inr hf.symm
        · exact Or.inl ⟨i, by omega, hg, hf⟩
      · rintro (⟨i, hi, hg, hf⟩ | rfl)
        · exact ⟨i, by omega, hg, hf⟩
        · exact ⟨M, by omega, z.1, rfl⟩
      · rintro ⟨i, hi, hg, hf⟩
        exact z.2 i hi hg hf
    · rw [ec_sf z, ← ih]
      refine ec_congr N (fun c _ => ⟨?_, ?_⟩)
      · rintro ⟨i, hi, hg, hf⟩
        by_cases e : i = M
        · subst e
          by_cases y : ∃ j, j < i ∧ g j ∧ f j = f i
          · obtain ⟨j, hj, hgj, hfj⟩ := y
            exact ⟨j, hj, hgj, hfj.trans hf⟩
          · exact absurd ⟨hg, fun j hj hgj hfj => y ⟨j, hj, hgj, hfj⟩⟩ z
        · exact ⟨i, by omega, hg, hf⟩
      · rintro ⟨i, hi, hg, hf⟩
        exact ⟨i, by omega, hg, hf⟩
end
section
/-! the bits of a long as a set; the count of its bits -/
def eb (m : Int64) (i : Nat) : Prop := m.toBitVec.getLsbD i = true
theorem eb_u (m : Int64) (i : Nat) : eb m i ↔ (uN m).testBit i = true := Iff.rfl
theorem eb_ext {x y : Int64} (h : ∀ i, i < 64 → (eb x i ↔ eb y i)) : x = y := by
  apply Int64.toBitVec_inj.mp
  apply BitVec.eq_of_getLsbD_eq
  intro i hi
  have := h i hi
  unfold eb at this
  revert this
  cases x.toBitVec.getLsbD i <;> cases y.toBitVec.getLsbD i <;> simp
theorem eb_or (x y : Int64) (i : Nat) : eb (x ||| y) i ↔ eb x i ∨ eb y i := by
  unfold eb; rw [Int64.toBitVec_or, BitVec.getLsbD_or, Bool.or_eq_true]
theorem eb_and (x y : Int64) (i : Nat) : eb (x &&& y) i ↔ eb x i ∧ eb y i := by
  unfold eb; rw [Int64.toBitVec_and, BitVec.getLsbD_and, Bool.and_eq_true]
theorem eb_xor (x y : Int64) (i : Nat) : eb (x ^^^ y) i ↔ ¬ (eb x i ↔ eb y i) := by
  unfold eb; rw [Int64.toBitVec_xor, BitVec.getLsbD_xor]
  cases x.toBitVec.getLsbD i <;> cases y.toBitVec.getLsbD i <;> simp
theorem eb_0 (i : Nat) : ¬ eb 0 i := by
  unfold eb
  have h : (0 : Int64).toBitVec = 0#64 := by decide
  rw [h, BitVec.getLsbD_zero]
  exact Bool.false_ne_true
theorem eb_m1 {i : Nat} (h : i < 64) : eb (-1) i := by
  unfold eb
  have e : (-1 : Int64).toBitVec = BitVec.allOnes 64 := by decide
  rw [e, BitVec.getLsbD_allOnes]
  exact decide_eq_true h
theorem eb_not (x : Int64) {i : Nat} (h : i < 64) : eb (x ^^^ (-1)) i ↔ ¬ eb x i := by
  rw [eb_xor]
  have := eb_m1 h
  constructor
  · intro a b; exact a ⟨fun _ => this, fun _ => b⟩
  · intro a b; exact a (b.mpr this)
theorem eb_lN (n : Nat) {i : Nat} (h : i < 64) : eb (lN n) i ↔ n.testBit i = true := by
  unfold eb
  rw [wb_tb, BitVec.getLsbD_ofNat, decide_eq_true h, Bool.true_and]
theorem eb_z {x : Int64} : x = 0 ↔ ∀ i, i < 64 → ¬ eb x i := by
  constructor
  · rintro rfl i _; exact eb_0 i
  · intro h; exact eb_ext (fun i hi => ⟨fun z => absurd z (h i hi), fun z => absurd z (eb_0 i)⟩)
theorem eb_has (m : Int64) {p : Nat} (hp : p < 64) : (((m.toUInt64 >>> ((nI p).toInt64.toUInt64 &&& Int64.toUInt64 63)).toInt64) &&& 1) = 0 ↔ ¬ eb m p := by
  have hs : ((nI p).toInt64.toUInt64 &&& Int64.toUInt64 63).toNat = p := by rw [wb_cu p hp]; exact u_tn (by omega)
  rw [ts_bit hp hs]
  unfold eb
  cases m.toBitVec.getLsbD p <;> simp
theorem eb_1 {p i : Nat} (hp : p < 64) (hi : i < 64) : eb ((1 : Int64) <<< ((nI p).toInt64 &&& 63)) i ↔ i = p := by
  have e : (1 : Int64) <<< ((nI p).toInt64 &&& 63) = lN (1 * 2 ^ p) := wb_shl 1 hp
  rw [e, eb_lN _ hi, Nat.one_mul, Nat.testBit_two_pow, decide_eq_true_iff]
  exact eq_comm
theorem eb_win {p l i : Nat} (hp : p < 64) (hl : l < 64) (hi : i < 64) : eb ((((1 : Int64) <<< ((nI l).toInt64 &&& 63)) - 1) <<< ((nI p).toInt64 &&& 63)) i ↔ p ≤ i ∧ i < p + l := by
  have e : (1 : Int64) <<< ((nI l).toInt64 &&& 63) = lN (1 * 2 ^ l) := wb_shl 1 hl
  have e2 : lN (1 * 2 ^ l) - 1 = lN (2 ^ l - 1) := by
    rw [Nat.one_mul]
    exact lN_sub (b := 1) (Nat.two_pow_pos l)
  rw [e, e2, wb_shl _ hp, eb_lN _ hi, Nat.testBit_mul_two_pow, Nat.testBit_two_pow_sub_one, Bool.and_eq_true, decide_eq_true_iff, decide_eq_true_iff]
  omega
theorem eb_ffff {p i : Nat} (hp : p < 64) (hi : i < 64) : eb ((65535 : Int64) <<< ((nI p).toInt64 &&& 63)) i ↔ p ≤ i ∧ i < p + 16 := by
  have e : (65535 : Int64) <<< ((nI p).toInt64 &&& 63) = lN (65535 * 2 ^ p) := wb_shl 65535 hp
  have e2 : (65535 : Nat) = 2 ^ 16 - 1 := by decide
  rw [e, e2, eb_lN _ hi, Nat.testBit_mul_two_pow, Nat.testBit_two_pow_sub_one, Bool.and_eq_true, decide_eq_true_iff, decide_eq_true_iff]
  omega
theorem eb_shr (x : Int64) {k : Nat} (hk : k < 64) (i : Nat) : eb ((x.toUInt64 >>> ((nI k).toInt64.toUInt64 &&& Int64.toUInt64 63)).toInt64) i ↔ eb x (k + i) := by
  rw [eb_u, eb_u, uN_sk x hk, Nat.testBit_div_two_pow, Nat.add_comm]
theorem eb_shl (x : Int64) {k i : Nat} (hk : k < 64) (hi : i < 64) : eb (x <<< ((nI k).toInt64 &&& 63)) i ↔ k ≤ i ∧ eb x (i - k) := by
  obtain ⟨n, hn, rfl⟩ := wb_of x
  rw [wb_shl _ hk, eb_lN _ hi, Nat.testBit_mul_two_pow, Bool.and_eq_true, decide_eq_true_iff]
  constructor
  · rintro ⟨a, b⟩; exact ⟨a, (eb_lN n (by omega)).mpr b⟩
  · rintro ⟨a, b⟩; exact ⟨a, (eb_lN n (by omega)).mp b⟩
theorem eb_big {x : Int64} {i : Nat} (h : 64 ≤ i) : ¬ eb x i := by
  unfold eb
  rw [BitVec.getLsbD_of_ge _ _ h]
  exact Bool.false_ne_true
theorem uN_and (x y : Int64) : uN (x &&& y) = uN x &&& uN y := UInt64.toNat_and _ _
theorem uN_sub {x y : Int64} (h : uN y ≤ uN x) : uN (x - y) = uN x - uN y := by
  show (x.toUInt64 - y.toUInt64).toNat = _
  exact UInt64.toNat_sub_of_le _ _ (UInt64.le_iff_toNat_le.mpr h)
theorem uN_0 : uN 0 = 0 := by decide
theorem uN_1 : uN 1 = 1 := by decide
theorem eb_pw {n : Nat} (h : n ≠ 0) : n.isPowerOfTwo ↔ ∀ i j, n.testBit i = true → n.testBit j = true → i = j := by
  constructor
  · rintro ⟨k, rfl⟩ i j hi hj
    rw [Nat.testBit_two_pow, decide_eq_true_iff] at hi hj
    omega
  · intro H
    obtain ⟨k, hk⟩ := Nat.exists_testBit_of_ne_zero h
    refine ⟨k, Nat.eq_of_testBit_eq (fun i => ?_)⟩
    rw [Nat.testBit_two_pow]
    by_cases e : k = i
    · subst e; rw [hk, decide_eq_true rfl]
    · rw [decide_eq_false e]
      cases z : n.testBit i
      · rfl
      · exact absurd (H k i hk z) e
/-- at most one bit -/
theorem eb_sing (x : Int64) : (x &&& (x - 1)) = 0 ↔ ∀ i j, i < 64 → j < 64 → eb x i → eb x j → i = j := by
  by_cases z : uN x = 0
  · have e : x = 0 := uN_inj (z.trans uN_0.symm)
    subst e
    exact ⟨fun _ i _ _ _ h => absurd h (eb_0 i), fun _ => by decide⟩
  · have h1 : uN (x &&& (x - 1)) = uN x &&& (uN x - 1) := by
      rw [uN_and, uN_sub (by rw [uN_1]; omega), uN_1]
    have h2 : (x &&& (x - 1)) = 0 ↔ uN x &&& (uN x - 1) = 0 := by
      rw [← h1]
      exact ⟨fun a => by rw [a]; exact uN_0, fun a => uN_inj (a.trans uN_0.symm)⟩
    rw [h2, Nat.and_sub_one_eq_zero_iff_isPowerOfTwo z, eb_pw z]
    constructor
    · intro h i j _ _ a b; exact h i j a b
    · intro h i j a b
      have hi : i < 64 := by
        rcases Nat.lt_or_ge i 64 with y | y
        · exact y
        · exact absurd a (eb_big (x := x) y)
      have hj : j < 64 := by
        rcases Nat.lt_or_ge j 64 with y | y
        · exact y
        · exact absurd b (eb_big (x := x) y)
      exact h i j hi hj a b
/-! the count by bytes -/
def eb_w : Nat → (Nat → Nat) → Nat
  | 0, _ => 0
  | k + 1, a => a 0 + 256 * eb_w k (fun j => a (j + 1))
theorem eb_w0 (a : Nat → Nat) : eb_w 0 a = 0 := rfl
theorem eb_wS (k : Nat) (a : Nat → Nat) : eb_w (k + 1) a = a 0 + 256 * eb_w k (fun j => a (j + 1)) := rfl
theorem eb_wc : ∀ (k : Nat) (a b : Nat → Nat), (∀ j, j < k → a j = b j) → eb_w k a = eb_w k b := by
  intro k
  induction k with
  | zero => intro a b _; rfl
  | succ k ih =>
    intro a b h
    rw [eb_wS, eb_wS, h 0 (by omega), ih _ (fun j => b (j + 1)) (fun j hj => h (j + 1) (by omega))]
theorem eb_wa : ∀ (k : Nat) (a b : Nat → Nat), eb_w k a + eb_w k b = eb_w k (fun j => a j + b j) := by
  intro k
  induction k with
  | zero => intro a b; rfl
  | succ k ih =>
    intro a b
    rw [eb_wS, eb_wS, eb_wS, ← ih]
    omega
theorem eb_ws (k : Nat) (a b : Nat → Nat) (h : ∀ j, j < k → b j ≤ a j) : eb_w k b ≤ eb_w k a ∧ eb_w k a - eb_w k b = eb_w k (fun j => a j - b j) := by
  have e := eb_wa k (fun j => a j - b j) b
  rw [eb_wc k (fun j => a j - b j + b j) a (fun j hj => by have := h j hj; show a j - b j + b j = a j; omega)] at e
  omega
theorem eb_n256 {a b A B : Nat} (ha : a < 256) (hb : b < 256) : (a + 256 * A) &&& (b + 256 * B) = (a &&& b) + 256 * (A &&& B) := by
  have h1 := Nat.and_mod_two_pow (a := a + 256 * A) (b := b + 256 * B) (n := 8)
  have h2 := Nat.and_div_two_pow (a := a + 256 * A) (b := b + 256 * B) (n := 8)
  rw [show (a + 256 * A) % 2 ^ 8 = a by omega, show (b + 256 * B) % 2 ^ 8 = b by omega] at h1
  rw [show (a + 256 * A) / 2 ^ 8 = A by omega, show (b + 256 * B) / 2 ^ 8 = B by omega] at h2
  omega
theorem eb_wlt : ∀ (k : Nat) (a : Nat → Nat), (∀ j, j < k → a j < 256) → eb_w k a < 256 ^ k := by
  intro k
  induction k with
  | zero => intro a _; rw [eb_w0]; exact Nat.two_pow_pos 0
  | succ k ih =>
    intro a h
    have h0 := h 0 (by omega)
    have i1 := ih (fun j => a (j + 1)) (fun j hj => h (j + 1) (by omega))
    rw [eb_wS, Nat.pow_succ]
    omega
theorem eb_wlt8 (a : Nat → Nat) (h : ∀ j, a j < 256) : eb_w 8 a < 18446744073709551616 := eb_wlt 8 a (fun j _ => h j)
theorem eb_wn : ∀ (k : Nat) (a b : Nat → Nat), (∀ j, j < k → a j < 256) → (∀ j, j < k → b j < 256) → eb_w k a &&& eb_w k b = eb_w k (fun j => a j &&& b j) := by
  intro k
  induction k with
  | zero => intro a b _ _; rw [eb_w0, eb_w0, eb_w0]; rfl
  | succ k ih =>
    intro a b ha hb
    rw [eb_wS, eb_wS, eb_wS, eb_n256 (ha 0 (by omega)) (hb 0 (by omega)), ih _ _ (fun j hj => ha (j + 1) (by omega)) (fun j hj => hb (j + 1) (by omega))]
theorem eb_w1 (k : Nat) (a : Nat → Nat) (h : a k = 0) : eb_w k a % 256 = a 0 % 256 := by
  cases k with
  | zero => rw [h]; rfl
  | succ k => rw [eb_wS]; omega
theorem eb_wd2 : ∀ (k : Nat) (a : Nat → Nat), a k = 0 → eb_w k a / 2 = eb_w k (fun j => a j / 2 + a (j + 1) % 2 * 128) := by
  intro k
  induction k with
  | zero => intro a _; rw [eb_w0, eb_w0]
  | succ k ih =>
    intro a h
    have i1 := ih (fun j => a (j + 1)) h
    have i2 : eb_w k (fun j => a (j + 1)) % 256 = a (0 + 1) % 256 := eb_w1 k (fun j => a (j + 1)) h
    rw [eb_wS, eb_wS, ← i1]
    try dsimp only
    omega
theorem eb_wd4 : ∀ (k : Nat) (a : Nat → Nat), a k = 0 → eb_w k a / 4 = eb_w k (fun j => a j / 4 + a (j + 1) % 4 * 64) := by
  intro k
  induction k with
  | zero => intro a _; rw [eb_w0, eb_w0]
  | succ k ih =>
    intro a h
    have i1 := ih (fun j => a (j + 1)) h
    have i2 : eb_w k (fun j => a (j + 1)) % 256 = a (0 + 1) % 256 := eb_w1 k (fun j => a (j + 1)) h
    rw [eb_wS, eb_wS, ← i1]
    try dsimp only
    omega
theorem eb_wd16 : ∀ (k : Nat) (a : Nat → Nat), a k = 0 → eb_w k a / 16 = eb_w k (fun j => a j / 16 + a (j + 1) % 16 * 16) := by
  intro k
  induction k with
  | zero => intro a _; rw [eb_w0, eb_w0]
  | succ k ih =>
    intro a h
    have i1 := ih (fun j => a (j + 1)) h
    have i2 : eb_w k (fun j => a (j + 1)) % 256 = a (0 + 1) % 256 := eb_w1 k (fun j => a (j + 1)) h
    rw [eb_wS, eb_wS, ← i1]
    try dsimp only
    omega
theorem eb_wof : ∀ (k n : Nat), eb_w k (fun j => n / 256 ^ j % 256) = n % 256 ^ k := by
  intro k
  induction k with
  | zero => intro n; rw [eb_w0, Nat.pow_zero, Nat.mod_one]
  | succ k ih =>
    intro n
    have e : ∀ j, n / 256 ^ (j + 1) % 256 = n / 256 / 256 ^ j % 256 := by
      intro j
      rw [Nat.div_div_eq_div_mul, Nat.pow_succ, Nat.mul_comm]
    rw [eb_wS, eb_wc k _ _ (fun j _ => e j), ih, Nat.pow_zero, Nat.div_one, Nat.pow_succ, Nat.mul_comm (256 ^ k) 256, Nat.mod_mul]
def eb_p8 (b : Nat) : Nat := b % 2 + b / 2 % 2 + b / 4 % 2 + b / 8 % 2 + b / 16 % 2 + b / 32 % 2 + b / 64 % 2 + b / 128 % 2
theorem eb_bt (b i : Nat) : ec_b (b.testBit i = true) = b / 2 ^ i % 2 := by
  rw [Nat.testBit_eq_decide_div_mod_eq]
  generalize b / 2 ^ i = z
  by_cases h : z % 2 = 1
  · rw [ec_b1 (decide_eq_true h), h]
  · rw [ec_b0 (by rw [decide_eq_true_iff]; exact h)]; omega
theorem eb_c8 (b : Nat) : ec_n 8 (fun i => b.testBit i = true) = eb_p8 b := by
  rw [ec_s, ec_s, ec_s, ec_s, ec_s, ec_s, ec_s, ec_s, ec_0, eb_bt, eb_bt, eb_bt, eb_bt, eb_bt, eb_bt, eb_bt, eb_bt]
  unfold eb_p8
  rw [Nat.pow_zero, Nat.div_one]
  omega
def eb_sm : Nat → (Nat → Nat) → Nat
  | 0, _ => 0
  | k + 1, a => a 0 + eb_sm k (fun j => a (j + 1))
theorem eb_smS (k : Nat) (a : Nat → Nat) : eb_sm (k + 1) a = a 0 + eb_sm k (fun j => a (j + 1)) := rfl
theorem eb_smc : ∀ (k : Nat) (a b : Nat → Nat), (∀ j, j < k → a j = b j) → eb_sm k a = eb_sm k b := by
  intro k
  induction k with
  | zero => intro a b _; rfl
  | succ k ih =>
    intro a b h
    rw [eb_smS, eb_smS, h 0 (by omega), ih _ (fun j => b (j + 1)) (fun j hj => h (j + 1) (by omega))]
theorem eb_cw : ∀ (k : Nat) (a : Nat → Nat), (∀ j, j < k → a j < 256) → ec_n (8 * k) (fun i => (eb_w k a).testBit i = true) = eb_sm k (fun j => eb_p8 (a j)) := by
  intro k
  induction k with
  | zero => intro a _; rfl
  | succ k ih =>
    intro a h
    have h0 : a 0 < 2 ^ 8 := h 0 (by omega)
    have ih := ih (fun j => a (j + 1)) (fun j hj => h (j + 1) (by omega))
    have e : eb_w (k + 1) a = 2 ^ 8 * eb_w k (fun j => a (j + 1)) + a 0 := by rw [eb_wS]; omega
    rw [e, show 8 * (k + 1) = 8 + 8 * k by omega, ec_split, eb_smS, ← ih, ← eb_c8 (a 0)]
    have e1 : ec_n 8 (fun i => (2 ^ 8 * eb_w k (fun j => a (j + 1)) + a 0).testBit i = true) = ec_n 8 (fun i => (a 0).testBit i = true) :=
      ec_congr 8 (fun i hi => by rw [Nat.testBit_two_pow_mul_add _ h0, if_pos hi])
    have e2 : ec_n (8 * k) (fun i => (2 ^ 8 * eb_w k (fun j => a (j + 1)) + a 0).testBit (8 + i) = true) = ec_n (8 * k) (fun i => (eb_w k (fun j => a (j + 1))).testBit i = true) :=
      ec_congr (8 * k) (fun i _ => by rw [Nat.testBit_two_pow_mul_add _ h0, if_neg (by omega), Nat.add_sub_cancel_left])
    rw [e1, e2]
def eb_f1 (b : Nat) : Nat := b - ((b / 2) &&& 85)
def eb_f2 (b : Nat) : Nat := (b &&& 51) + ((b / 4) &&& 51)
def eb_f3 (b : Nat) : Nat := (b + b / 16) &&& 15
theorem eb_k1 : ∀ b, b < 256 → ((b / 2) &&& 85) ≤ b ∧ ((b / 2 + 128) &&& 85) = ((b / 2) &&& 85) ∧ eb_f1 b < 256 := by decide +kernel
theorem eb_k2 : ∀ b, b < 256 → ∀ d, d < 4 → ((b / 4 + d * 64) &&& 51) = ((b / 4) &&& 51) := by decide +kernel
theorem eb_k3 : ∀ b, b < 256 → eb_f2 (eb_f1 b) ≤ 68 ∧ eb_f2 (eb_f1 b) % 16 ≤ 4 ∧ eb_f3 (eb_f2 (eb_f1 b)) = eb_p8 b ∧ eb_p8 b ≤ 8 := by decide +kernel
theorem eb_k4 : ∀ b, b < 69 → ∀ d, d < 5 → ((b + (b / 16 + d * 16)) &&& 15) = ((b + b / 16) &&& 15) := by decide +kernel
theorem eb_mulN {a b c d e f g i : Nat} (h0 : a ≤ 8) (h1 : b ≤ 8) (h2 : c ≤ 8) (h3 : d ≤ 8) (h4 : e ≤ 8) (h5 : f ≤ 8) (h6 : g ≤ 8) (h7 : i ≤ 8) :
    (a + 256 * (b + 256 * (c + 256 * (d + 256 * (e + 256 * (f + 256 * (g + 256 * (i + 256 * 0)))))))) * 72340172838076673 % 18446744073709551616 / 72057594037927936 = a + (b + (c + (d + (e + (f + (g + (i + 0))))))) := by
  have e1 : (a + 256 * (b + 256 * (c + 256 * (d + 256 * (e + 256 * (f + 256 * (g + 256 * (i + 256 * 0)))))))) * 72340172838076673 =
      (a + 256 * (a + b) + 65536 * (a + b + c) + 16777216 * (a + b + c + d) + 4294967296 * (a + b + c + d + e) + 1099511627776 * (a + b + c + d + e + f) + 281474976710656 * (a + b + c + d + e + f + g) + 72057594037927936 * (a + b + c + d + e + f + g + i)) +
      18446744073709551616 * ((b + c + d + e + f + g + i) + 256 * (c + d + e + f + g + i) + 65536 * (d + e + f + g + i) + 16777216 * (e + f + g + i) + 4294967296 * (f + g + i) + 1099511627776 * (g + i) + 281474976710656 * i) := by omega
  have l1 : a + 256 * (a + b) + 65536 * (a + b + c) + 16777216 * (a + b + c + d) + 4294967296 * (a + b + c + d + e) + 1099511627776 * (a + b + c + d + e + f) + 281474976710656 * (a + b + c + d + e + f + g) < 72057594037927936 := by omega
  rw [e1, Nat.add_mul_mod_self_left]
  generalize a + 256 * (a + b) + 65536 * (a + b + c) + 16777216 * (a + b + c + d) + 4294967296 * (a + b + c + d + e) + 1099511627776 * (a + b + c + d + e + f) + 281474976710656 * (a + b + c + d + e + f + g) = lo at l1
  omega
theorem eb_mul (c : Nat → Nat) (h : ∀ j, j < 8 → c j ≤ 8) : eb_w 8 c * 72340172838076673 % 18446744073709551616 / 72057594037927936 = eb_sm 8 c := by
  have h0 := h 0 (by omega)
  have h1 := h 1 (by omega)
  have h2 := h 2 (by omega)
  have h3 := h 3 (by omega)
  have h4 := h 4 (by omega)
  have h5 := h 5 (by omega)
  have h6 := h 6 (by omega)
  have h7 := h 7 (by omega)
  show (c 0 + 256 * (c 1 + 256 * (c 2 + 256 * (c 3 + 256 * (c 4 + 256 * (c 5 + 256 * (c 6 + 256 * (c 7 + 256 * 0)))))))) * 72340172838076673 % 18446744073709551616 / 72057594037927936 = c 0 + (c 1 + (c 2 + (c 3 + (c 4 + (c 5 + (c 6 + (c 7 + 0)))))))
  exact eb_mulN h0 h1 h2 h3 h4 h5 h6 h7
theorem eb_pop (x : Int64) : ∀ x1 : Int64, x1 = x - (((x.toUInt64 >>> ((1 : Int32).toInt64.toUInt64 &&& Int64.toUInt64 63)).toInt64) &&& 6148914691236517205) →
    ∀ x2 : Int64, x2 = (x1 &&& 3689348814741910323) + (((x1.toUInt64 >>> ((2 : Int32).toInt64.toUInt64 &&& Int64.toUInt64 63)).toInt64) &&& 3689348814741910323) →
    ∀ x3 : Int64, x3 = (x2 + ((x2.toUInt64 >>> ((4 : Int32).toInt64.toUInt64 &&& Int64.toUInt64 63)).toInt64)) &&& 1085102592571150095 →
    (((x3 * 72340172838076673).toUInt64 >>> ((56 : Int32).toInt64.toUInt64 &&& Int64.toUInt64 63)).toInt64).toInt32 = nI (ec_n 64 (eb x)) := by
  intro x1 e1 x2 e2 x3 e3
  have hx : uN x < 256 ^ 8 := uN_lt x
  have hB : ∃ B : Nat → Nat, (∀ j, B j < 256) ∧ B 8 = 0 ∧ uN x = eb_w 8 B := by
    refine ⟨fun j => uN x / 256 ^ j % 256, fun j => Nat.mod_lt _ (by decide), ?_, ?_⟩
    · show uN x / 256 ^ 8 % 256 = 0
      rw [Nat.div_eq_of_lt hx]
    · rw [eb_wof, Nat.mod_eq_of_lt hx]
  obtain ⟨B, hB, hB8, eB⟩ := hB
  have k1 := fun j => eb_k1 (B j) (hB j)
  have k3 := fun j => eb_k3 (B j) (hB j)
  have s1 : uN (x.toUInt64 >>> ((1 : Int32).toInt64.toUInt64 &&& Int64.toUInt64 63)).toInt64 = uN x / 2 := uN_sk x (k := 1) (by decide)
  have m1 : uN (6148914691236517205 : Int64) = eb_w 8 (fun _ => 85) := by decide +kernel
  have m2 : uN (3689348814741910323 : Int64) = eb_w 8 (fun _ => 51) := by decide +kernel
  have m3 : uN (1085102592571150095 : Int64) = eb_w 8 (fun _ => 15) := by decide +kernel
  have m4 : uN (72340172838076673 : Int64) = 72340172838076673 := by decide +kernel
  have a1 : uN ((x.toUInt64 >>> ((1 : Int32).toInt64.toUInt64 &&& Int64.toUInt64 63)).toInt64 &&& 6148914691236517205) = eb_w 8 (fun j => (B j / 2) &&& 85) := by
    rw [uN_and, s1, m1, eB, eb_wd2 8 B hB8, eb_wn 8 _ _ (fun j _ => by have := hB j; show B j / 2 + B (j + 1) % 2 * 128 < 256; omega) (fun j _ => by show 85 < 256; omega)]
    refine eb_wc 8 _ _ (fun j _ => ?_)
    show (B j / 2 + B (j + 1) % 2 * 128) &&& 85 = (B j / 2) &&& 85
    rcases (by omega : B (j + 1) % 2 = 0 ∨ B (j + 1) % 2 = 1) with z | z
    · rw [z]; rfl
    · rw [z]; exact (k1 j).2.1
  have a2 : uN x1 = eb_w 8 (fun j => eb_f1 (B j)) := by
    have w := eb_ws 8 B (fun j => (B j / 2) &&& 85) (fun j _ => (k1 j).1)
    rw [e1, uN_sub (by rw [a1, eB]; exact w.1), a1, eB, w.2]
    rfl
  have z1 : (fun j => eb_f1 (B j)) 8 = 0 := by show eb_f1 (B 8) = 0; rw [hB8]; rfl
  have s2 : uN (x1.toUInt64 >>> ((2 : Int32).toInt64.toUInt64 &&& Int64.toUInt64 63)).toInt64 = uN x1 / 4 := uN_sk x1 (k := 2) (by decide)
  have a3 : uN ((x1.toUInt64 >>> ((2 : Int32).toInt64.toUInt64 &&& Int64.toUInt64 63)).toInt64 &&& 3689348814741910323) = eb_w 8 (fun j => (eb_f1 (B j) / 4) &&& 51) := by
    rw [uN_and, s2, m2, a2, eb_wd4 8 (fun j => eb_f1 (B j)) z1, eb_wn 8 _ _ (fun j _ => by have := (k1 j).2.2; show eb_f1 (B j) / 4 + eb_f1 (B (j + 1)) % 4 * 64 < 256; omega) (fun j _ => by show 51 < 256; omega)]
    refine eb_wc 8 _ _ (fun j _ => ?_)
    exact eb_k2 (eb_f1 (B j)) (k1 j).2.2 (eb_f1 (B (j + 1)) % 4) (Nat.mod_lt _ (by decide))
  have a4 : uN (x1 &&& 3689348814741910323) = eb_w 8 (fun j => eb_f1 (B j) &&& 51) := by
    rw [uN_and, m2, a2, eb_wn 8 _ _ (fun j _ => (k1 j).2.2) (fun j _ => by show 51 < 256; omega)]
  have a5 : uN x2 = eb_w 8 (fun j => eb_f2 (eb_f1 (B j))) := by
    have w := eb_wa 8 (fun j => eb_f1 (B j) &&& 51) (fun j => (eb_f1 (B j) / 4) &&& 51)
    have b : eb_w 8 (fun j => eb_f2 (eb_f1 (B j))) < 18446744073709551616 := eb_wlt8 _ (fun j => Nat.lt_of_le_of_lt (k3 j).1 (by decide))
    rw [e2, uN_add, a4, a3, w]
    exact Nat.mod_eq_of_lt b
  have z2 : (fun j => eb_f2 (eb_f1 (B j))) 8 = 0 := by show eb_f2 (eb_f1 (B 8)) = 0; rw [hB8]; rfl
  have s3 : uN (x2.toUInt64 >>> ((4 : Int32).toInt64.toUInt64 &&& Int64.toUInt64 63)).toInt64 = uN x2 / 16 := uN_sk x2 (k := 4) (by decide)
  have a6 : uN (x2 + ((x2.toUInt64 >>> ((4 : Int32).toInt64.toUInt64 &&& Int64.toUInt64 63)).toInt64)) = eb_w 8 (fun j => eb_f2 (eb_f1 (B j)) + (eb_f2 (eb_f1 (B j)) / 16 + eb_f2 (eb_f1 (B (j + 1))) % 16 * 16)) := by
    have w := eb_wa 8 (fun j => eb_f2 (eb_f1 (B j))) (fun j => eb_f2 (eb_f1 (B j)) / 16 + eb_f2 (eb_f1 (B (j + 1))) % 16 * 16)
    have b : eb_w 8 (fun j => eb_f2 (eb_f1 (B j)) + (eb_f2 (eb_f1 (B j)) / 16 + eb_f2 (eb_f1 (B (j + 1))) % 16 * 16)) < 18446744073709551616 := by
      have t : ∀ j, eb_f2 (eb_f1 (B j)) + (eb_f2 (eb_f1 (B j)) / 16 + eb_f2 (eb_f1 (B (j + 1))) % 16 * 16) < 256 := fun j => by
        have u1 := (k3 j).1
        have u2 := (k3 (j + 1)).2.1
        omega
      exact eb_wlt8 _ t
    rw [uN_add, s3, a5, eb_wd16 8 (fun j => eb_f2 (eb_f1 (B j))) z2, w]
    exact Nat.mod_eq_of_lt b
  have a7 : uN x3 = eb_w 8 (fun j => eb_p8 (B j)) := by
    rw [e3, uN_and, m3, a6, eb_wn 8 _ _ (fun j _ => by
      have u1 := (k3 j).1
      have u2 := (k3 (j + 1)).2.1
      show eb_f2 (eb_f1 (B j)) + (eb_f2 (eb_f1 (B j)) / 16 + eb_f2 (eb_f1 (B (j + 1))) % 16 * 16) < 256
      omega) (fun j _ => by show 15 < 256; omega)]
    refine eb_wc 8 _ _ (fun j _ => ?_)
    have u1 := (k3 j).1
    have u2 := (k3 (j + 1)).2.1
    exact (eb_k4 _ (by omega) _ (by omega)).trans (k3 j).2.2.1
  have s4 : uN ((x3 * 72340172838076673).toUInt64 >>> ((56 : Int32).toInt64.toUInt64 &&& Int64.toUInt64 63)).toInt64 = uN (x3 * 72340172838076673) / 72057594037927936 := uN_sk (x3 * 72340172838076673) (k := 56) (by decide)
  have a8 : ec_n 64 (eb x) = eb_sm 8 (fun j => eb_p8 (B j)) := by
    have c := eb_cw 8 B (fun j _ => hB j)
    rw [← eB] at c
    exact c
  have a9 : uN ((x3 * 72340172838076673).toUInt64 >>> ((56 : Int32).toInt64.toUInt64 &&& Int64.toUInt64 63)).toInt64 = ec_n 64 (eb x) := by
    rw [s4, uN_mul, a7, m4, eb_mul _ (fun j _ => (k3 j).2.2.2), a8]
  have b64 := ec_le (eb x) 64
  have a10 : ((x3 * 72340172838076673).toUInt64 >>> ((56 : Int32).toInt64.toUInt64 &&& Int64.toUInt64 63)).toInt64 = lN (ec_n 64 (eb x)) := by
    apply uN_inj
    rw [a9]
    exact (u_tn (by omega)).symm
  rw [a10, lN_i]
end
section
/-! a sorted list of n extents (start, length, kind, first cell) and the table V of 16 entries that it stands for -/
def el_W (n : Nat) (s l k c V : Nat → Nat) : Prop :=
  (∀ i, i < n → 1 ≤ l i ∧ s i + l i ≤ 16 ∧ c i + l i ≤ 32 ∧ (k i = 1 ∨ k i = 2)) ∧
  (∀ i j, i < j → j < n → s i + l i ≤ s j) ∧
  (∀ i b, i < n → s i ≤ b → b < s i + l i → V b = 4 * (c i + (b - s i)) + k i) ∧
  (∀ b, b < 16 → (∀ i, i < n → ¬ (s i ≤ b ∧ b < s i + l i)) → V b = 0)
theorem el_Wc {n : Nat} {s l k c V s' l' k' c' V' : Nat → Nat} (h : el_W n s l k c V) (e : ∀ i, i < n → s' i = s i ∧ l' i = l i ∧ k' i = k i ∧ c' i = c i) (eV : ∀ b, b < 16 → V' b = V b) : el_W n s' l' k' c' V' := by
  obtain ⟨h1, h2, h3, h4⟩ := h
  refine ⟨fun i hi => ?_, fun i j hij hj => ?_, fun i b hi h5 h6 => ?_, fun b hb H => ?_⟩
  · obtain ⟨a1, a2, a3, a4⟩ := e i hi
    rw [a1, a2, a3, a4]; exact h1 i hi
  · obtain ⟨a1, a2, a3, a4⟩ := e i (by omega)
    obtain ⟨b1, b2, b3, b4⟩ := e j hj
    rw [a1, a2, b1]; exact h2 i j hij hj
  · obtain ⟨a1, a2, a3, a4⟩ := e i hi
    have := h1 i hi
    rw [a1] at h5
    rw [a1, a2] at h6
    rw [eV b (by omega), a1, a3, a4]; exact h3 i b hi h5 h6
  · rw [eV b hb]
    refine h4 b hb (fun i hi => ?_)
    obtain ⟨a1, a2, a3, a4⟩ := e i hi
    rw [← a1, ← a2]; exact H i hi
theorem el_ge {n : Nat} {s l k c V : Nat → Nat} (h : el_W n s l k c V) : ∀ i, i < n → i ≤ s i := by
  intro i
  induction i with
  | zero => intro _; exact Nat.zero_le _
  | succ i ih =>
    intro hi
    have a := ih (by omega)
    have b := h.2.1 i (i + 1) (by omega) hi
    have c := h.1 i (by omega)
    omega
theorem el_n {n : Nat} {s l k c V : Nat → Nat} (h : el_W n s l k c V) : n ≤ 16 := by
  rcases Nat.lt_or_ge 16 n with z | z
  · have a := el_ge h 16 z
    have b := h.1 16 z
    omega
  · exact z
theorem el_r {n : Nat} {s l k c V : Nat → Nat} (h : el_W n s l k c V) (b : Nat) : ∃ r, r ≤ n ∧ ∀ j, j < n → (s j ≤ b ↔ j < r) := by
  obtain ⟨r, hr, hm⟩ := pk_least (fun r => r = n ∨ r < n ∧ b < s r) ⟨n, Or.inl rfl⟩
  refine ⟨r, by omega, fun j hj => ?_⟩
  constructor
  · intro z
    rcases Nat.lt_or_ge j r with y | y
    · exact y
    · rcases hr with hr | hr
      · omega
      · by_cases e : j = r
        · subst e; omega
        · have a := h.2.1 r j (by omega) hj
          omega
  · intro z
    have := hm j z
    omega
theorem el_V0 {n : Nat} {s l k c V : Nat → Nat} (h : el_W n s l k c V) {b : Nat} (hb : b < 16) (hr : ∀ j, j < n → (s j ≤ b ↔ j < 0)) : V b = 0 :=
  h.2.2.2 b hb (fun i hi z => by have := hr i hi; omega)
theorem el_V1 {n : Nat} {s l k c V : Nat → Nat} (h : el_W n s l k c V) {b q : Nat} (hq : q < n) (hr : ∀ j, j < n → (s j ≤ b ↔ j < q + 1)) (hl : b - s q < l q) : s q ≤ b ∧ V b = 4 * (c q + (b - s q)) + k q := by
  have a := (hr q hq).mpr (by omega)
  exact ⟨a, h.2.2.1 q b hq a (by omega)⟩
theorem el_V2 {n : Nat} {s l k c V : Nat → Nat} (h : el_W n s l k c V) {b q : Nat} (hb : b < 16) (hq : q < n) (hr : ∀ j, j < n → (s j ≤ b ↔ j < q + 1)) (hl : ¬ b - s q < l q) : s q ≤ b ∧ V b = 0 := by
  have a := (hr q hq).mpr (by omega)
  refine ⟨a, h.2.2.2 b hb (fun i hi z => ?_)⟩
  have := hr i hi
  by_cases e : i = q
  · subst e; omega
  · have := h.2.1 i q (by omega) hq
    omega
/-- every entry is a hole, or one of kind 1 or 2 and of a cell below 32 -/
theorem el_val {n : Nat} {s l k c V : Nat → Nat} (h : el_W n s l k c V) {b : Nat} (hb : b < 16) : V b = 0 ∨ ((V b % 4 = 1 ∨ V b % 4 = 2) ∧ V b / 4 < 32) := by
  by_cases z : ∃ i, i < n ∧ s i ≤ b ∧ b < s i + l i
  · obtain ⟨i, hi, h5, h6⟩ := z
    have a := h.1 i hi
    have e := h.2.2.1 i b hi h5 h6
    omega
  · exact Or.inl (h.2.2.2 b hb (fun i hi y => z ⟨i, hi, y⟩))
/-- extent q keeps its first o blocks -/
theorem el_Wsh {n : Nat} {s l k c V : Nat → Nat} (h : el_W n s l k c V) {q o : Nat} (hq : q < n) (h0 : 1 ≤ o) (ho : o ≤ l q) :
    el_W n s (fun i => if i = q then o else l i) k c (fun b => if s q + o ≤ b ∧ b < s q + l q then 0 else V b) := by
  obtain ⟨h1, h2, h3, h4⟩ := h
  refine ⟨fun i hi => ?_, fun i j hij hj => ?_, fun i b hi h5 h6 => ?_, fun b hb H => ?_⟩
  · have a := h1 i hi
    dsimp only
    by_cases e : i = q
    · subst e; rw [if_pos rfl]; omega
    · rw [if_neg e]; exact a
  · have a := h2 i j hij hj
    dsimp only
    by_cases e : i = q
    · subst e; rw [if_pos rfl]; omega
    · rw [if_neg e]; exact a
  · dsimp only at h6 ⊢
    by_cases e : i = q
    · subst e
      rw [if_pos rfl] at h6
      rw [if_neg (by omega)]
      exact h3 i b hi h5 (by omega)
    · rw [if_neg e] at h6
      have d : s i + l i ≤ s q ∨ s q + l q ≤ s i := by
        rcases Nat.lt_or_ge i q with y | y
        · exact Or.inl (h2 i q y hq)
        · exact Or.inr (h2 q i (by omega) hi)
      rw [if_neg (by omega)]
      exact h3 i b hi h5 h6
  · dsimp only at H ⊢
    by_cases e : s q + o ≤ b ∧ b < s q + l q
    · rw [if_pos e]
    · rw [if_neg e]
      refine h4 b hb (fun i hi z => ?_)
      by_cases f : i = q
      · subst f
        have := H i hi
        rw [if_pos rfl] at this
        omega
      · have := H i hi
        rw [if_neg f] at this
        exact this z
def el_sg (q i : Nat) : Nat := if i < q then i else i + 1
theorem el_sg1 {q i : Nat} (h : i < q) : el_sg q i = i := if_pos h
theorem el_sg2 {q i : Nat} (h : ¬ i < q) : el_sg q i = i + 1 := if_neg h
theorem el_sgm {q i j : Nat} (h : i < j) : el_sg q i < el_sg q j := by
  by_cases a : i < q
  · by_cases b : j < q
    · rw [el_sg1 a, el_sg1 b]; exact h
    · rw [el_sg1 a, el_sg2 b]; omega
  · rw [el_sg2 a, el_sg2 (by omega)]; omega
theorem el_sgn {q i n : Nat} (h : i < n) : el_sg q i < n + 1 ∧ el_sg q i ≠ q := by
  by_cases a : i < q
  · rw [el_sg1 a]; omega
  · rw [el_sg2 a]; omega
theorem el_sgo {q i n : Nat} (hq : q < n + 1) (h : i < n + 1) (e : i ≠ q) : ∃ j, j < n ∧ el_sg q j = i := by
  by_cases a : i < q
  · exact ⟨i, by omega, el_sg1 a⟩
  · exact ⟨i - 1, by omega, by rw [el_sg2 (by omega)]; omega⟩
theorem el_dj {n : Nat} {s l k c V : Nat → Nat} (h : el_W n s l k c V) {i q b : Nat} (hi : i < n) (hq : q < n) (e : i ≠ q) (h5 : s i ≤ b) (h6 : b < s i + l i) : ¬ (s q ≤ b ∧ b < s q + l q) := by
  rcases Nat.lt_or_ge i q with y | y
  · have := h.2.1 i q y hq; omega
  · have := h.2.1 q i (by omega) hi; omega
/-- extent q goes -/
theorem el_Wrm {n : Nat} {s l k c V : Nat → Nat} (h : el_W (n + 1) s l k c V) {q : Nat} (hq : q < n + 1) :
    el_W n (fun i => s (el_sg q i)) (fun i => l (el_sg q i)) (fun i => k (el_sg q i)) (fun i => c (el_sg q i)) (fun b => if s q ≤ b ∧ b < s q + l q then 0 else V b) := by
  have hh := h
  obtain ⟨h1, h2, h3, h4⟩ := h
  refine ⟨fun i hi => ?_, fun i j hij hj => ?_, fun i b hi h5 h6 => ?_, fun b hb H => ?_⟩
  · exact h1 _ (el_sgn hi).1
  · exact h2 _ _ (el_sgm hij) (el_sgn hj).1
  · dsimp only at h5 h6 ⊢
    have t := el_sgn (q := q) hi
    rw [if_neg (el_dj hh t.1 hq t.2 h5 h6)]
    exact h3 _ b t.1 h5 h6
  · dsimp only at H ⊢
    by_cases e : s q ≤ b ∧ b < s q + l q
    · rw [if_pos e]
    · rw [if_neg e]
      refine h4 b hb (fun i hi z => ?_)
      by_cases f : i = q
      · subst f; exact e z
      · obtain ⟨j, hj, rfl⟩ := el_sgo hq hi f
        exact H j hj z
/-- extents q and q + 1 become one -/
theorem el_Wjn {n : Nat} {s l k c V : Nat → Nat} (h : el_W (n + 1) s l k c V) {q : Nat} (hq : q + 1 < n + 1) (e1 : s q + l q = s (q + 1)) (e2 : c q + l q = c (q + 1)) (e3 : k q = k (q + 1)) :
    el_W n (fun i => s (el_sg (q + 1) i)) (fun i => if el_sg (q + 1) i = q then l q + l (q + 1) else l (el_sg (q + 1) i)) (fun i => k (el_sg (q + 1) i)) (fun i => c (el_sg (q + 1) i)) V := by
  have hh := h
  obtain ⟨h1, h2, h3, h4⟩ := h
  have a0 := h1 q (by omega)
  have a1 := h1 (q + 1) hq
  have k0 := h3 q
  have k1 := h3 (q + 1)
  have hqn : el_sg (q + 1) q = q := el_sg1 (by omega)
  refine ⟨fun i hi => ?_, fun i j hij hj => ?_, fun i b hi h5 h6 => ?_, fun b hb H => ?_⟩
  · dsimp only
    by_cases e : el_sg (q + 1) i = q
    · rw [if_pos e, e]; omega
    · rw [if_neg e]; exact h1 _ (el_sgn hi).1
  · dsimp only
    have m := el_sgm (q := q + 1) hij
    have t := el_sgn (q := q + 1) hj
    by_cases e : el_sg (q + 1) i = q
    · rw [if_pos e, e]
      have := h2 (q + 1) (el_sg (q + 1) j) (by omega) t.1
      omega
    · rw [if_neg e]; exact h2 _ _ m t.1
  · dsimp only at h5 h6 ⊢
    have t := el_sgn (q := q + 1) hi
    by_cases e : el_sg (q + 1) i = q
    · rw [if_pos e, e] at h6
      rw [e] at h5
      rw [e]
      by_cases f : b < s q + l q
      · exact k0 b (by omega) h5 f
      · rw [k1 b hq (by omega) (by omega)]
        omega
    · rw [if_neg e] at h6
      exact h3 _ b t.1 h5 h6
  · dsimp only at H
    refine h4 b hb (fun i hi z => ?_)
    by_cases f : i = q + 1
    · subst f
      have := H q (by omega)
      rw [hqn, if_pos rfl] at this
      omega
    · obtain ⟨j, hj, rfl⟩ := el_sgo hq hi f
      have := H j hj
      by_cases e : el_sg (q + 1) j = q
      · rw [if_pos e, e] at this
        rw [e] at z
        omega
      · rw [if_neg e] at this
        exact this z
def el_in (f : Nat → Nat) (i v : Nat) : Nat → Nat := fun j => if j < i then f j else if j = i then v else f (j - 1)
theorem el_in1 {f : Nat → Nat} {i v j : Nat} (h : j < i) : el_in f i v j = f j := if_pos h
theorem el_in2 {f : Nat → Nat} {i v : Nat} : el_in f i v i = v := by unfold el_in; rw [if_neg (by omega), if_pos rfl]
theorem el_in3 {f : Nat → Nat} {i v j : Nat} (h : i < j) : el_in f i v j = f (j - 1) := by unfold el_in; rw [if_neg (by omega), if_neg (by omega)]
/-- a new extent at place i -/
theorem el_Win {n : Nat} {s l k c V : Nat → Nat} (h : el_W n s l k c V) {i s0 l0 k0 c0 : Nat} (hi : i ≤ n) (g1 : 1 ≤ l0) (g2 : s0 + l0 ≤ 16) (g3 : c0 + l0 ≤ 32) (g4 : k0 = 1 ∨ k0 = 2)
    (hlo : ∀ j, j < i → s j + l j ≤ s0) (hhi : ∀ j, i ≤ j → j < n → s0 + l0 ≤ s j) :
    el_W (n + 1) (el_in s i s0) (el_in l i l0) (el_in k i k0) (el_in c i c0) (fun b => if s0 ≤ b ∧ b < s0 + l0 then 4 * (c0 + (b - s0)) + k0 else V b) := by
  obtain ⟨h1, h2, h3, h4⟩ := h
  refine ⟨fun j hj => ?_, fun j m hjm hm => ?_, fun j b hj h5 h6 => ?_, fun b hb H => ?_⟩
  · rcases Nat.lt_trichotomy j i with y | y | y
    · rw [el_in1 y, el_in1 y, el_in1 y, el_in1 y]; exact h1 j (by omega)
    · subst y; rw [el_in2, el_in2, el_in2, el_in2]; exact ⟨g1, g2, g3, g4⟩
    · rw [el_in3 y, el_in3 y, el_in3 y, el_in3 y]; exact h1 _ (by omega)
  · rcases Nat.lt_trichotomy j i with y | y | y
    · rw [el_in1 y, el_in1 y]
      rcases Nat.lt_trichotomy m i with x | x | x
      · rw [el_in1 x]; exact h2 j m hjm (by omega)
      · subst x; rw [el_in2]; exact hlo j y
      · rw [el_in3 x]
        by_cases e : j = m - 1
        · omega
        · exact h2 j (m - 1) (by omega) (by omega)
    · subst y; rw [el_in2, el_in2, el_in3 hjm]; exact hhi _ (by omega) (by omega)
    · rw [el_in3 y, el_in3 y, el_in3 (by omega)]; exact h2 _ _ (by omega) (by omega)
  · dsimp only
    rcases Nat.lt_trichotomy j i with y | y | y
    · rw [el_in1 y] at h5
      rw [el_in1 y, el_in1 y] at h6
      have := hlo j y
      rw [el_in1 y, el_in1 y, el_in1 y, if_neg (by omega)]
      exact h3 j b (by omega) h5 h6
    · subst y
      rw [el_in2] at h5
      rw [el_in2, el_in2] at h6
      rw [el_in2, el_in2, el_in2, if_pos ⟨h5, h6⟩]
    · rw [el_in3 y] at h5
      rw [el_in3 y, el_in3 y] at h6
      have := hhi (j - 1) (by omega) (by omega)
      rw [el_in3 y, el_in3 y, el_in3 y, if_neg (by omega)]
      exact h3 _ b (by omega) h5 h6
  · dsimp only
    have a := H i (by omega)
    rw [el_in2, el_in2] at a
    rw [if_neg a]
    refine h4 b hb (fun j hj z => ?_)
    rcases Nat.lt_or_ge j i with y | y
    · have t := H j (by omega)
      rw [el_in1 y, el_in1 y] at t
      exact t z
    · have t := H (j + 1) (by omega)
      rw [el_in3 (by omega), el_in3 (by omega), Nat.add_sub_cancel] at t
      exact t z
/-- a place for block b that is a hole: behind the extents that start at or before it -/
theorem el_hole {n : Nat} {s l k c V : Nat → Nat} (h : el_W n s l k c V) {b r : Nat} (hb : b < 16) (hV : V b = 0) (hr : ∀ j, j < n → (s j ≤ b ↔ j < r)) :
    (∀ j, j < r → j < n → s j + l j ≤ b) ∧ (∀ j, r ≤ j → j < n → b + 1 ≤ s j) := by
  refine ⟨fun j hj hn => ?_, fun j hj hn => ?_⟩
  · have a := (hr j hn).mpr hj
    rcases Nat.lt_or_ge b (s j + l j) with y | y
    · have e := h.2.2.1 j b hn a y
      have := h.1 j hn
      omega
    · exact y
  · have a := hr j hn
    omega
end
section
/-! two tables of 128 entries (0..63 now, 64..127 durable; an entry is 4 * cell + kind, 0 a hole) -/
def ev_h (V : Nat → Nat) (c q : Nat) : Prop := (V q ≠ 0 ∧ V q / 4 = c) ∨ (V (64 + q) ≠ 0 ∧ V (64 + q) / 4 = c)
def ev_own (V : Nat → Nat) (p : Nat) : Prop := V p ≠ 0 ∧ ∀ q, q < 64 → q ≠ p → ¬ ev_h V (V p / 4) q
def ev_us (V : Nat → Nat) (c : Nat) : Prop := ∃ q, q < 64 ∧ ev_h V c q
def ev_v (cl : Nat) (V : Nat → Nat) : Prop := ∀ i, i < 128 → V i = 0 ∨ ((V i % 4 = 1 ∨ V i % 4 = 2) ∧ V i / 4 < cl)
def ev_R (V W : Nat → Nat) : Prop := (∀ i, i < 128 → V i % 4 = W i % 4) ∧ (∀ i j, i < 128 → j < 128 → V i ≠ 0 → V j ≠ 0 → (V i / 4 = V j / 4 ↔ W i / 4 = W j / 4))
def ev_C (V W : Nat → Nat) (x y : Nat → Int32) : Prop := ∀ i, i < 128 → V i % 4 = 2 → x (V i / 4) = y (W i / 4)
def ev_F (cl : Nat) (V : Nat → Nat) (D : Nat → Prop) (m : Nat) : Prop := ec_n cl (ev_us V) + ec_n 64 (fun p => D p ∧ ¬ ev_own V p) + m ≤ cl
def ev_O (fl bl : Nat) (V : Nat → Nat) : Prop := ∀ p, p < 64 → (fl ≤ p / 16 ∨ bl ≤ p % 16) → V p = 0 ∧ V (64 + p) = 0
def eu (V : Nat → Nat) (i e : Nat) : Nat → Nat := fun j => if j = i then e else V j
theorem eu_s {V : Nat → Nat} {i e : Nat} : eu V i e i = e := if_pos rfl
theorem eu_n {V : Nat → Nat} {i e j : Nat} (h : j ≠ i) : eu V i e j = V j := if_neg h
theorem ev_usi {V : Nat → Nat} {c : Nat} : ev_us V c ↔ ∃ i, i < 128 ∧ V i ≠ 0 ∧ V i / 4 = c := by
  constructor
  · rintro ⟨q, hq, h | h⟩
    · exact ⟨q, by omega, h⟩
    · exact ⟨64 + q, by omega, h⟩
  · rintro ⟨i, hi, h⟩
    rcases Nat.lt_or_ge i 64 with z | z
    · exact ⟨i, z, Or.inl h⟩
    · refine ⟨i - 64, by omega, Or.inr ?_⟩
      rw [show 64 + (i - 64) = i by omega]; exact h
theorem ev_z {cl : Nat} {V : Nat → Nat} (h : ev_v cl V) {i : Nat} (hi : i < 128) : V i ≠ 0 ↔ V i % 4 ≠ 0 := by
  have := h i hi
  omega
theorem ev_Rz {cl : Nat} {V W : Nat → Nat} (h : ev_v cl V) (g : ev_v cl W) (r : ev_R V W) {i : Nat} (hi : i < 128) : V i ≠ 0 ↔ W i ≠ 0 := by
  rw [ev_z h hi, ev_z g hi, r.1 i hi]
theorem ev_Rc {cl : Nat} {V W : Nat → Nat} (h : ev_v cl V) (g : ev_v cl W) (r : ev_R V W) {i j : Nat} (hi : i < 128) (hj : j < 128) (hz : V i ≠ 0) : (V j ≠ 0 ∧ V j / 4 = V i / 4) ↔ (W j ≠ 0 ∧ W j / 4 = W i / 4) := by
  have a := ev_Rz h g r hj
  have b := r.2 j i hj hi
  constructor
  · rintro ⟨x, y⟩; exact ⟨a.mp x, (b x hz).mp y⟩
  · rintro ⟨x, y⟩; exact ⟨a.mpr x, (b (a.mpr x) hz).mpr y⟩
theorem ev_Rh {cl : Nat} {V W : Nat → Nat} (h : ev_v cl V) (g : ev_v cl W) (r : ev_R V W) {i q : Nat} (hi : i < 128) (hq : q < 64) (hz : V i ≠ 0) : ev_h V (V i / 4) q ↔ ev_h W (W i / 4) q := by
  unfold ev_h
  rw [ev_Rc h g r hi (show q < 128 by omega) hz, ev_Rc h g r hi (show 64 + q < 128 by omega) hz]
theorem ev_Ro {cl : Nat} {V W : Nat → Nat} (h : ev_v cl V) (g : ev_v cl W) (r : ev_R V W) {p : Nat} (hp : p < 64) : ev_own V p ↔ ev_own W p := by
  have a := ev_Rz h g r (show p < 128 by omega)
  constructor
  · rintro ⟨x, y⟩
    exact ⟨a.mp x, fun q hq hn z => y q hq hn ((ev_Rh h g r (by omega) hq x).mpr z)⟩
  · rintro ⟨x, y⟩
    exact ⟨a.mpr x, fun q hq hn z => y q hq hn ((ev_Rh h g r (by omega) hq (a.mpr x)).mp z)⟩
theorem ev_Ru {cl : Nat} {V W : Nat → Nat} (h : ev_v cl V) (g : ev_v cl W) (r : ev_R V W) : ec_n cl (ev_us V) = ec_n cl (ev_us W) := by
  have e : ∀ X : Nat → Nat, ev_v cl X → ec_n cl (ev_us X) = ec_n 128 (fun i => X i ≠ 0 ∧ ∀ j, j < i → X j ≠ 0 → X j / 4 ≠ X i / 4) := by
    intro X hX
    rw [← ec_dist (g := fun i => X i ≠ 0) (f := fun i => X i / 4) (N := cl) 128 (fun i hi hz => by have := hX i hi; show X i / 4 < cl; omega)]
    exact ec_congr cl (fun c _ => ev_usi)
  rw [e V h, e W g]
  refine ec_congr 128 (fun i hi => ?_)
  have a := ev_Rz h g r hi
  constructor
  · rintro ⟨x, y⟩
    refine ⟨a.mp x, fun j hj hz he => ?_⟩
    have b := ev_Rz h g r (show j < 128 by omega)
    exact y j hj (b.mpr hz) ((r.2 j i (by omega) hi (b.mpr hz) x).mpr he)
  · rintro ⟨x, y⟩
    refine ⟨a.mpr x, fun j hj hz he => ?_⟩
    have b := ev_Rz h g r (show j < 128 by omega)
    exact y j hj (b.mp hz) ((r.2 j i (by omega) hi hz (a.mpr x)).mp he)
theorem ev_Rr {cl : Nat} {V W : Nat → Nat} (h : ev_v cl V) (g : ev_v cl W) (r : ev_R V W) (D : Nat → Prop) : ec_n 64 (fun p => D p ∧ ¬ ev_own V p) = ec_n 64 (fun p => D p ∧ ¬ ev_own W p) :=
  ec_congr 64 (fun p hp => by rw [ev_Ro h g r hp])
/-- one entry changes on both sides -/
theorem ev_Rup {cl : Nat} {V W : Nat → Nat} (h : ev_v cl V) (g : ev_v cl W) (r : ev_R V W) {i e e' : Nat} (ek : e % 4 = e' % 4) (hc : ∀ j, j < 128 → j ≠ i → V j ≠ 0 → e ≠ 0 → (V j / 4 = e / 4 ↔ W j / 4 = e' / 4)) : ev_R (eu V i e) (eu W i e') := by
  constructor
  · intro j hj
    by_cases z : j = i
    · subst z; rw [eu_s, eu_s]; exact ek
    · rw [eu_n z, eu_n z]; exact r.1 j hj
  · intro j m hj hm
    by_cases z : j = i
    · subst z
      by_cases y : m = j
      · subst y; intro _ _; exact ⟨fun _ => rfl, fun _ => rfl⟩
      · rw [eu_s, eu_s, eu_n y, eu_n y]
        intro a b
        have := hc m hm y b a
        exact ⟨fun t => (this.mp t.symm).symm, fun t => (this.mpr t.symm).symm⟩
    · by_cases y : m = i
      · subst y
        rw [eu_s, eu_s, eu_n z, eu_n z]
        intro a b
        exact hc j hj z a b
      · rw [eu_n z, eu_n z, eu_n y, eu_n y]
        exact r.2 j m hj hm
theorem ev_vup {cl : Nat} {V : Nat → Nat} (h : ev_v cl V) {i e : Nat} (he : e = 0 ∨ ((e % 4 = 1 ∨ e % 4 = 2) ∧ e / 4 < cl)) : ev_v cl (eu V i e) := by
  intro j hj
  by_cases z : j = i
  · subst z; rw [eu_s]; exact he
  · rw [eu_n z]; exact h j hj
theorem ev_Oup {fl bl : Nat} {V : Nat → Nat} (h : ev_O fl bl V) {p e : Nat} (hp : p < 64) (h1 : p / 16 < fl) (h2 : p % 16 < bl) : ev_O fl bl (eu V p e) := by
  intro j hj z
  have a := h j hj z
  rw [eu_n (by rintro rfl; omega), eu_n (by omega)]
  exact a
/-- every entry of the new tables is a hole on both sides, or the one of an old place on both sides -/
def ev_G (V W V' W' : Nat → Nat) : Prop := ∀ i, i < 128 → (V' i = 0 ∧ W' i = 0) ∨ ∃ j, j < 128 ∧ V' i = V j ∧ W' i = W j
theorem ev_Gv {cl : Nat} {V W V' W' : Nat → Nat} (G : ev_G V W V' W') (h : ev_v cl V) : ev_v cl V' := by
  intro i hi
  rcases G i hi with z | ⟨j, hj, z⟩
  · exact Or.inl z.1
  · rw [z.1]; exact h j hj
theorem ev_Gw {cl : Nat} {V W V' W' : Nat → Nat} (G : ev_G V W V' W') (h : ev_v cl W) : ev_v cl W' := by
  intro i hi
  rcases G i hi with z | ⟨j, hj, z⟩
  · exact Or.inl z.2
  · rw [z.2]; exact h j hj
theorem ev_GR {V W V' W' : Nat → Nat} (G : ev_G V W V' W') (r : ev_R V W) : ev_R V' W' := by
  constructor
  · intro i hi
    rcases G i hi with z | ⟨j, hj, z⟩
    · rw [z.1, z.2]
    · rw [z.1, z.2]; exact r.1 j hj
  · intro i m hi hm a b
    rcases G i hi with z | ⟨j, hj, z⟩
    · exact absurd z.1 a
    · rcases G m hm with y | ⟨n, hn, y⟩
      · exact absurd y.1 b
      · rw [z.1] at a
        rw [y.1] at b
        rw [z.1, z.2, y.1, y.2]; exact r.2 j n hj hn a b
theorem ev_GC {V W V' W' : Nat → Nat} {x y : Nat → Int32} (G : ev_G V W V' W') (r : ev_C V W x y) : ev_C V' W' x y := by
  intro i hi a
  rcases G i hi with z | ⟨j, hj, z⟩
  · rw [z.1] at a; omega
  · rw [z.1] at a
    rw [z.1, z.2]; exact r j hj a
theorem ev_Gu {V W V' W' : Nat → Nat} (G : ev_G V W V' W') {c : Nat} (h : ev_us V' c) : ev_us V c := by
  rw [ev_usi] at h ⊢
  obtain ⟨i, hi, a, b⟩ := h
  rcases G i hi with z | ⟨j, hj, z⟩
  · exact absurd z.1 a
  · rw [z.1] at a b; exact ⟨j, hj, a, b⟩
theorem ev_om {V V' : Nat → Nat} {q : Nat} (ho : ev_own V q) (e0 : V' q ≠ 0) (e : V' q / 4 = V q / 4) (hh : ∀ a, a < 64 → a ≠ q → ev_h V' (V q / 4) a → ∃ b, b < 64 ∧ b ≠ q ∧ ev_h V (V q / 4) b) : ev_own V' q :=
  ⟨e0, fun a ha hn z => by
    rw [e] at z
    obtain ⟨b, hb, hbn, hz⟩ := hh a ha hn z
    exact ho.2 b hb hbn hz⟩
theorem ev_Fm {cl : Nat} {V V' : Nat → Nat} {D D' : Nat → Prop} {m : Nat} (h : ev_F cl V D m) (hu : ∀ c, c < cl → ev_us V' c → ev_us V c) (hr : ∀ p, p < 64 → D' p → ¬ ev_own V' p → D p ∧ ¬ ev_own V p) : ev_F cl V' D' m := by
  unfold ev_F at h ⊢
  have a := ec_mono cl hu
  have b := ec_mono (P := fun p => D' p ∧ ¬ ev_own V' p) (Q := fun p => D p ∧ ¬ ev_own V p) 64 (fun p hp z => hr p hp z.1 z.2)
  omega
theorem ev_Fs {cl : Nat} {V : Nat → Nat} {D : Nat → Prop} {m m' : Nat} (h : ev_F cl V D m) (hm : m' ≤ m) : ev_F cl V D m' := by
  unfold ev_F at h ⊢; omega
/-- the dirty set grows by a set E of places that need a cell -/
theorem ev_Fw {cl : Nat} {V : Nat → Nat} {D D' E : Nat → Prop} (h : ev_F cl V D (ec_n 64 E)) (hD : ∀ p, p < 64 → D' p → ¬ ev_own V p → (D p ∧ ¬ ev_own V p) ∨ E p) : ev_F cl V D' 0 := by
  unfold ev_F at h ⊢
  have a := ec_mono (P := fun p => D' p ∧ ¬ ev_own V p) (Q := fun p => (D p ∧ ¬ ev_own V p) ∨ E p) 64 (fun p hp z => hD p hp z.1 z.2)
  have b := ec_or (fun p => D p ∧ ¬ ev_own V p) E 64
  omega
/-- what the relation says of the two tables, the dirty places and the contents -/
def er_P (fl bl cl : Nat) (V W : Nat → Nat) (D : Nat → Prop) (x y : Nat → Int32) (m : Nat) : Prop :=
  ev_v cl V ∧ ev_v cl W ∧ ev_R V W ∧ ev_C V W x y ∧ ev_F cl V D m ∧ ev_O fl bl V
/-- a fresh cell for place p -/
theorem er_up {fl bl cl : Nat} {V W : Nat → Nat} {D D' : Nat → Prop} {x y x' y' : Nat → Int32} {m m' : Nat} (h : er_P fl bl cl V W D x y m) {p c d k : Nat} (hx : ∀ i, i ≠ c → x' i = x i) (hy : ∀ i, i ≠ d → y' i = y i) (hxy : k = 2 → x' c = y' d) (hp : p < 64) (h1 : p / 16 < fl) (h2 : p % 16 < bl)
    (hc : c < cl) (hd : d < cl) (nc : ¬ ev_us V c) (nd : ¬ ev_us W d) (hk : k = 1 ∨ k = 2) (no : ¬ ev_own V p)
    (hD : ∀ q, q < 64 → D' q → D q) (hm : D p ∧ m' ≤ m ∨ ¬ D p ∧ m' + 1 ≤ m) :
    er_P fl bl cl (eu V p (4 * c + k)) (eu W p (4 * d + k)) D' x' y' m' ∧ ev_own (eu V p (4 * c + k)) p := by
  obtain ⟨g1, g2, g3, g4, g5, g6⟩ := h
  have uc : ∀ j, j < 128 → V j ≠ 0 → V j / 4 ≠ c := fun j hj a b => nc (ev_usi.mpr ⟨j, hj, a, b⟩)
  have ud : ∀ j, j < 128 → W j ≠ 0 → W j / 4 ≠ d := fun j hj a b => nd (ev_usi.mpr ⟨j, hj, a, b⟩)
  have own' : ev_own (eu V p (4 * c + k)) p := by
    refine ⟨by rw [eu_s]; omega, fun q hq hn w => ?_⟩
    rw [eu_s, show (4 * c + k) / 4 = c by omega] at w
    rcases w with ⟨a, b⟩ | ⟨a, b⟩
    · rw [eu_n hn] at a b; exact uc q (by omega) a b
    · rw [eu_n (by omega)] at a b; exact uc _ (by omega) a b
  refine ⟨⟨ev_vup g1 (Or.inr ⟨by omega, by omega⟩), ev_vup g2 (Or.inr ⟨by omega, by omega⟩), ?_, ?_, ?_, ev_Oup g6 hp h1 h2⟩, own'⟩
  · refine ev_Rup g1 g2 g3 (by omega) (fun j hj _ a _ => ?_)
    have t1 := uc j hj a
    have t2 := ud j hj ((ev_Rz g1 g2 g3 hj).mp a)
    omega
  · intro j hj a
    by_cases e : j = p
    · subst e
      rw [eu_s] at a
      rw [eu_s, eu_s, show (4 * c + k) / 4 = c by omega, show (4 * d + k) / 4 = d by omega]
      exact hxy (by omega)
    · rw [eu_n e] at a
      have a0 : V j ≠ 0 := by omega
      rw [eu_n e, eu_n e, hx _ (uc j hj a0), hy _ (ud j hj ((ev_Rz g1 g2 g3 hj).mp a0))]
      exact g4 j hj a
  · unfold ev_F at g5 ⊢
    have a1 : ec_n cl (ev_us (eu V p (4 * c + k))) ≤ ec_n cl (ev_us V) + 1 := by
      refine ec_le1 (k := c) cl (fun i hi w => ?_)
      rw [ev_usi] at w ⊢
      obtain ⟨j, hj, b, e⟩ := w
      by_cases f : j = p
      · subst f; rw [eu_s] at e; exact Or.inr (by omega)
      · rw [eu_n f] at b e; exact Or.inl ⟨j, hj, b, e⟩
    have mo : ∀ q, q < 64 → q ≠ p → ev_own V q → ev_own (eu V p (4 * c + k)) q := by
      intro q hq hn ho
      refine ev_om ho (by rw [eu_n hn]; exact ho.1) (by rw [eu_n hn]) (fun a ha hna w => ⟨a, ha, hna, ?_⟩)
      have tq := uc q (by omega) ho.1
      rcases w with ⟨s, t⟩ | ⟨s, t⟩
      · by_cases f : a = p
        · subst f; rw [eu_s] at t; omega
        · rw [eu_n f] at s t; exact Or.inl ⟨s, t⟩
      · rw [eu_n (by omega)] at s t; exact Or.inr ⟨s, t⟩
    have sub : ∀ i, i < 64 → (D' i ∧ ¬ ev_own (eu V p (4 * c + k)) i) → (D i ∧ ¬ ev_own V i) := by
      intro i hi w
      refine ⟨hD i hi w.1, fun ho => ?_⟩
      by_cases f : i = p
      · subst f; exact w.2 own'
      · exact w.2 (mo i hi f ho)
    rcases hm with ⟨dp, hm⟩ | ⟨dp, hm⟩
    · have a2 := ec_lt (P := fun p => D p ∧ ¬ ev_own V p) (Q := fun i => D' i ∧ ¬ ev_own (eu V p (4 * c + k)) i) (k := p) 64 hp sub ⟨dp, no⟩ (fun w => w.2 own')
      omega
    · have a2 := ec_mono (P := fun i => D' i ∧ ¬ ev_own (eu V p (4 * c + k)) i) (Q := fun p => D p ∧ ¬ ev_own V p) 64 sub
      omega
/-- a place that owns its cell is written in place -/
theorem er_own {fl bl cl : Nat} {V W : Nat → Nat} {D D' : Nat → Prop} {x y : Nat → Int32} {m : Nat} (h : er_P fl bl cl V W D x y m) {p : Nat} {z : Int32} (hp : p < 64)
    (ho : ev_own V p) (hD : ∀ q, q < 64 → D' q → D q ∧ q ≠ p) :
    er_P fl bl cl (eu V p (4 * (V p / 4) + 2)) (eu W p (4 * (W p / 4) + 2)) D' (upd x (V p / 4) z) (upd y (W p / 4) z) m := by
  obtain ⟨g1, g2, g3, g4, g5, g6⟩ := h
  have b1 := g1 p (by omega)
  have b2 := g2 p (by omega)
  have hz := ho.1
  have hw : W p ≠ 0 := (ev_Rz g1 g2 g3 (by omega)).mp hz
  refine ⟨ev_vup g1 (Or.inr ⟨by omega, by omega⟩), ev_vup g2 (Or.inr ⟨by omega, by omega⟩), ?_, ?_, ?_, ?_⟩
  · refine ev_Rup g1 g2 g3 (by omega) (fun j hj hn a _ => ?_)
    have := g3.2 j p hj (by omega) a hz
    rw [show (4 * (V p / 4) + 2) / 4 = V p / 4 by omega, show (4 * (W p / 4) + 2) / 4 = W p / 4 by omega]
    exact this
  · intro j hj a
    by_cases e : j = p
    · subst e
      rw [eu_s, eu_s, show (4 * (V j / 4) + 2) / 4 = V j / 4 by omega, show (4 * (W j / 4) + 2) / 4 = W j / 4 by omega, pk_us, pk_us]
    · rw [eu_n e] at a
      have a0 : V j ≠ 0 := by omega
      have t := g3.2 j p hj (by omega) a0 hz
      rw [eu_n e, eu_n e]
      by_cases f : V j / 4 = V p / 4
      · rw [f, t.mp f, pk_us, pk_us]
      · rw [pk_un f, pk_un (fun w => f (t.mpr w))]
        exact g4 j hj a
  · refine ev_Fm g5 (fun c hc w => ?_) (fun q hq d no => ⟨(hD q hq d).1, fun ho' => no ?_⟩)
    · rw [ev_usi] at w ⊢
      obtain ⟨j, hj, b, e⟩ := w
      by_cases f : j = p
      · subst f; rw [eu_s] at e; exact ⟨j, hj, hz, by omega⟩
      · rw [eu_n f] at b e; exact ⟨j, hj, b, e⟩
    · have hn := (hD q hq d).2
      refine ev_om ho' (by rw [eu_n hn]; exact ho'.1) (by rw [eu_n hn]) (fun a ha hna w => ⟨a, ha, hna, ?_⟩)
      rcases w with ⟨s, t⟩ | ⟨s, t⟩
      · by_cases f : a = p
        · subst f; rw [eu_s] at t; exact Or.inl ⟨hz, by omega⟩
        · rw [eu_n f] at s t; exact Or.inl ⟨s, t⟩
      · rw [eu_n (by omega)] at s t; exact Or.inr ⟨s, t⟩
  · intro j hj a
    have w := g6 j hj a
    rw [eu_n (by rintro rfl; exact hz w.1), eu_n (by omega)]
    exact w
/-- there is a fresh cell on both sides -/
theorem er_fr {fl bl cl : Nat} {V W : Nat → Nat} {D : Nat → Prop} {x y : Nat → Int32} {m : Nat} (h : er_P fl bl cl V W D x y m) {p : Nat} (hp : p < 64) (hm : (D p ∧ ¬ ev_own V p) ∨ 0 < m) : (∃ c, c < cl ∧ ¬ ev_us V c) ∧ (∃ c, c < cl ∧ ¬ ev_us W c) := by
  obtain ⟨g1, g2, g3, g4, g5, g6⟩ := h
  unfold ev_F at g5
  have a : ec_n cl (ev_us V) < cl := by
    rcases hm with hm | hm
    · have := ec_pos (P := fun p => D p ∧ ¬ ev_own V p) hp hm
      omega
    · omega
  exact ⟨ec_nf a, ec_nf (by rw [← ev_Ru g1 g2 g3]; exact a)⟩
/-- the power fails -/
theorem er_crash {fl bl cl : Nat} {V W : Nat → Nat} {D D' : Nat → Prop} {x y : Nat → Int32} {m : Nat} (h : er_P fl bl cl V W D x y m) {V' W' : Nat → Nat} (hV : ∀ i, i < 128 → V' i = if i < 64 then V (64 + i) else V i) (hW : ∀ i, i < 128 → W' i = if i < 64 then W (64 + i) else W i) (hD : ∀ q, q < 64 → ¬ D' q) : er_P fl bl cl V' W' D' x y 0 := by
  obtain ⟨g1, g2, g3, g4, g5, g6⟩ := h
  have G : ev_G V W V' W' := by
    intro i hi
    by_cases z : i < 64
    · exact Or.inr ⟨64 + i, by omega, by rw [hV i hi, if_pos z], by rw [hW i hi, if_pos z]⟩
    · exact Or.inr ⟨i, hi, by rw [hV i hi, if_neg z], by rw [hW i hi, if_neg z]⟩
  refine ⟨ev_Gv G g1, ev_Gw G g2, ev_GR G g3, ev_GC G g4, ev_Fs (ev_Fm g5 (fun c _ w => ev_Gu G w) (fun p hp d _ => absurd d (hD p hp))) (Nat.zero_le _), ?_⟩
  intro p hp z
  rw [hV p (by omega), hV (64 + p) (by omega), if_pos hp, if_neg (by omega)]
  exact ⟨(g6 p hp z).2, (g6 p hp z).2⟩
theorem er_commit {fl bl cl : Nat} {V W : Nat → Nat} {D : Nat → Prop} {x y : Nat → Int32} (h : er_P fl bl cl V W D x y 0) {V' W' : Nat → Nat} (hV : ∀ i, i < 128 → V' i = if i < 64 then V i else V (i - 64)) (hW : ∀ i, i < 128 → W' i = if i < 64 then W i else W (i - 64)) : er_P fl bl cl V' W' D x y 0 := by
  obtain ⟨g1, g2, g3, g4, g5, g6⟩ := h
  have G : ev_G V W V' W' := by
    intro i hi
    by_cases z : i < 64
    · exact Or.inr ⟨i, by omega, by rw [hV i hi, if_pos z], by rw [hW i hi, if_pos z]⟩
    · exact Or.inr ⟨i - 64, by omega, by rw [hV i hi, if_neg z], by rw [hW i hi, if_neg z]⟩
  have e1 : ∀ q, q < 64 → V' q = V q := fun q hq => by rw [hV q (by omega), if_pos hq]
  have e2 : ∀ q, q < 64 → V' (64 + q) = V q := fun q hq => by rw [hV _ (by omega), if_neg (by omega), Nat.add_sub_cancel_left]
  refine ⟨ev_Gv G g1, ev_Gw G g2, ev_GR G g3, ev_GC G g4, ev_Fm g5 (fun c _ w => ev_Gu G w) (fun p hp d no => ⟨d, fun ho => no ?_⟩), ?_⟩
  · refine ev_om ho (by rw [e1 p hp]; exact ho.1) (by rw [e1 p hp]) (fun a ha hn w => ⟨a, ha, hn, ?_⟩)
    unfold ev_h at w
    rw [e1 a ha, e2 a ha] at w
    exact Or.inl (w.elim id id)
  · intro p hp z
    rw [e1 p hp, e2 p hp]
    exact ⟨(g6 p hp z).1, (g6 p hp z).1⟩
theorem er_punch {fl bl cl : Nat} {V W : Nat → Nat} {D D' : Nat → Prop} {x y : Nat → Int32} (h : er_P fl bl cl V W D x y 0) {p l : Nat} (hl : p + l ≤ 64) {V' W' : Nat → Nat} (hV : ∀ i, i < 128 → V' i = if p ≤ i ∧ i < p + l then 0 else V i) (hW : ∀ i, i < 128 → W' i = if p ≤ i ∧ i < p + l then 0 else W i) (hD : ∀ q, q < 64 → D' q → D q ∧ ¬ (p ≤ q ∧ q < p + l)) : er_P fl bl cl V' W' D' x y 0 := by
  obtain ⟨g1, g2, g3, g4, g5, g6⟩ := h
  have G : ev_G V W V' W' := by
    intro i hi
    by_cases z : p ≤ i ∧ i < p + l
    · exact Or.inl ⟨by rw [hV i hi, if_pos z], by rw [hW i hi, if_pos z]⟩
    · exact Or.inr ⟨i, hi, by rw [hV i hi, if_neg z], by rw [hW i hi, if_neg z]⟩
  have e0 : ∀ i, i < 128 → V' i ≠ 0 → V' i = V i := by
    intro i hi z
    rw [hV i hi] at z ⊢
    by_cases y : p ≤ i ∧ i < p + l
    · rw [if_pos y] at z; exact absurd rfl z
    · rw [if_neg y]
  refine ⟨ev_Gv G g1, ev_Gw G g2, ev_GR G g3, ev_GC G g4, ev_Fm g5 (fun c _ w => ev_Gu G w) (fun q hq d no => ⟨(hD q hq d).1, fun ho => no ?_⟩), ?_⟩
  · have e1 : V' q = V q := by rw [hV q (by omega), if_neg (hD q hq d).2]
    refine ev_om ho (by rw [e1]; exact ho.1) (by rw [e1]) (fun a ha hn w => ⟨a, ha, hn, ?_⟩)
    rcases w with ⟨s, t⟩ | ⟨s, t⟩
    · have e := e0 a (by omega) s
      rw [e] at s t; exact Or.inl ⟨s, t⟩
    · have e := e0 _ (by omega) s
      rw [e] at s t; exact Or.inr ⟨s, t⟩
  · intro q hq z
    have := g6 q hq z
    constructor
    · rw [hV q (by omega), this.1]; exact ite_self _
    · rw [hV _ (by omega), this.2]; exact ite_self _
/-- the clone of a range: s the source, d the target, D the dirty places -/
theorem er_refl {fl bl cl : Nat} {V W : Nat → Nat} {D D' : Nat → Prop} {x y : Nat → Int32} {s d l : Nat} (h : er_P fl bl cl V W D x y (ec_n 64 (fun p => (d ≤ p ∧ p < d + l ∧ D (s + (p - d))) ∧ ¬ (D p ∨ ev_own V p)))) (hs : s + l ≤ 64) (hd : d + l ≤ 64)
    (hj : d + l ≤ s ∨ s + l ≤ d) (hb : ∀ j, j < l → (d + j) / 16 < fl ∧ (d + j) % 16 < bl) {V' W' : Nat → Nat}
    (hn : ∀ i, i < 128 → ¬ (d ≤ i ∧ i < d + l) → V' i = V i ∧ W' i = W i)
    (h1 : ∀ j, j < l → D (s + j) → V' (d + j) = V (d + j) ∧ W' (d + j) = W (d + j))
    (h2 : ∀ j, j < l → ¬ D (s + j) → (V (s + j) % 4 = 2 ∧ V' (d + j) = V (s + j) ∧ W' (d + j) = W (s + j)) ∨ (¬ V (s + j) % 4 = 2 ∧ V' (d + j) = 0 ∧ W' (d + j) = 0))
    (hD1 : ∀ q, q < 64 → ¬ (d ≤ q ∧ q < d + l) → D' q → D q) (hD2 : ∀ j, j < l → D' (d + j) → D (s + j)) : er_P fl bl cl V' W' D' x y 0 := by
  obtain ⟨g1, g2, g3, g4, g5, g6⟩ := h
  have G : ev_G V W V' W' := by
    intro i hi
    by_cases z : d ≤ i ∧ i < d + l
    · obtain ⟨j, rfl⟩ : ∃ j, i = d + j := ⟨i - d, by omega⟩
      by_cases y : D (s + j)
      · exact Or.inr ⟨d + j, hi, h1 j (by omega) y⟩
      · rcases h2 j (by omega) y with w | w
        · exact Or.inr ⟨s + j, by omega, w.2⟩
        · exact Or.inl w.2
    · exact Or.inr ⟨i, hi, hn i hi z⟩
  -- a holder in the new table comes from a holder in the old one, which is the same place or a clean source
  have key : ∀ c a, a < 64 → ev_h V' c a → ev_h V c a ∨ ∃ j, j < l ∧ ¬ D (s + j) ∧ ev_h V c (s + j) := by
    intro c a ha w
    by_cases z : d ≤ a ∧ a < d + l
    · obtain ⟨j, rfl⟩ : ∃ j, a = d + j := ⟨a - d, by omega⟩
      rcases w with w | w
      · by_cases y : D (s + j)
        · rw [(h1 j (by omega) y).1] at w; exact Or.inl (Or.inl w)
        · rcases h2 j (by omega) y with t | t
          · rw [t.2.1] at w; exact Or.inr ⟨j, by omega, y, Or.inl w⟩
          · exact absurd t.2.1 w.1
      · rw [(hn (64 + (d + j)) (by omega) (by omega)).1] at w; exact Or.inl (Or.inr w)
    · unfold ev_h at w
      rw [(hn a (by omega) z).1, (hn (64 + a) (by omega) (by omega)).1] at w
      exact Or.inl w
  have mo : ∀ q, q < 64 → V' q = V q → (∀ j, j < l → ¬ D (s + j) → s + j ≠ q) → ev_own V q → ev_own V' q := by
    intro q hq e no ho
    refine ev_om ho (by rw [e]; exact ho.1) (by rw [e]) (fun a ha hna w => ?_)
    rcases key _ a ha w with w | ⟨j, hj', nd, w⟩
    · exact ⟨a, ha, hna, w⟩
    · exact ⟨s + j, by omega, no j hj' nd, w⟩
  refine ⟨ev_Gv G g1, ev_Gw G g2, ev_GR G g3, ev_GC G g4, ?_, ?_⟩
  · have F1 : ev_F cl V' D' 0 := by
      unfold ev_F at g5 ⊢
      have a := ec_mono cl (fun c _ w => ev_Gu G (c := c) w)
      have b := ec_mono (P := fun p => D' p ∧ ¬ ev_own V' p) (Q := fun p => (D p ∧ ¬ ev_own V p) ∨ ((d ≤ p ∧ p < d + l ∧ D (s + (p - d))) ∧ ¬ (D p ∨ ev_own V p))) 64 (fun q hq w => by
        by_cases z : d ≤ q ∧ q < d + l
        · obtain ⟨j, rfl⟩ : ∃ j, q = d + j := ⟨q - d, by omega⟩
          have ds := hD2 j (by omega) w.1
          have no : ¬ ev_own V (d + j) := fun ho => w.2 (mo (d + j) hq (h1 j (by omega) ds).1 (fun j' _ _ => by omega) ho)
          by_cases dd : D (d + j)
          · exact Or.inl ⟨dd, no⟩
          · refine Or.inr ⟨⟨z.1, z.2, ?_⟩, fun t => t.elim dd no⟩
            rw [Nat.add_sub_cancel_left]; exact ds
        · have dq := hD1 q hq z w.1
          exact Or.inl ⟨dq, fun ho => w.2 (mo q hq (hn q (by omega) z).1 (fun j' _ nd e => nd (by rw [e]; exact dq)) ho)⟩)
      have c := ec_or (fun p => D p ∧ ¬ ev_own V p) (fun p => (d ≤ p ∧ p < d + l ∧ D (s + (p - d))) ∧ ¬ (D p ∨ ev_own V p)) 64
      omega
    exact F1
  · intro q hq z
    have t := g6 q hq z
    have nz : ¬ (d ≤ q ∧ q < d + l) := by
      rintro ⟨a, b⟩
      have := hb (q - d) (by omega)
      rw [show d + (q - d) = q by omega] at this
      omega
    rw [(hn q (by omega) nz).1, (hn (64 + q) (by omega) (by omega)).1]
    exact t
end
section
/-! the component's small methods, for any state -/
def eb_rg (p l : Nat) : Int64 := (((1 : Int64) <<< ((nI l).toInt64 &&& 63)) - 1) <<< ((nI p).toInt64 &&& 63)
def eb_st (m : Int64) (p : Nat) : Int64 := m ||| ((1 : Int64) <<< ((nI p).toInt64 &&& 63))
def eb_cl (m : Int64) (p : Nat) : Int64 := m &&& (((1 : Int64) <<< ((nI p).toInt64 &&& 63)) ^^^ (-1))
theorem eb_rgi {p l i : Nat} (hp : p < 64) (hl : l < 64) (hi : i < 64) : eb (eb_rg p l) i ↔ p ≤ i ∧ i < p + l := eb_win hp hl hi
theorem eb_sti (m : Int64) {p i : Nat} (hp : p < 64) (hi : i < 64) : eb (eb_st m p) i ↔ eb m i ∨ i = p := by
  unfold eb_st; rw [eb_or, eb_1 hp hi]
theorem eb_cli (m : Int64) {p i : Nat} (hp : p < 64) (hi : i < 64) : eb (eb_cl m p) i ↔ eb m i ∧ i ≠ p := by
  unfold eb_cl; rw [eb_and, eb_not _ hi, eb_1 hp hi]
theorem ex_hb {post : Int32 → Prop} (u : SX) {m : Int64} {p : Nat} (hp : p < 64) (h1 : eb m p → post 1) (h0 : ¬ eb m p → post 0) : wpX_hasBit post u m (nI p) := by
  obtain ⟨u1, u2, u3, u4, u5, u6, u7, u8, u9, u10, u11, u12, u13, u14, u15, u16, u17, u18, u19, u20⟩ := u
  unfold wpX_hasBit
  exact br_c (fun z => h0 ((eb_has m hp).mp z)) (fun z => h1 (Classical.not_not.mp (fun y => z ((eb_has m hp).mpr y))))
theorem ex_bc {post : Int32 → Prop} (u : SX) {m : Int64} (h : post (nI (ec_n 64 (eb m)))) : wpX_bitCount post u m := by
  obtain ⟨u1, u2, u3, u4, u5, u6, u7, u8, u9, u10, u11, u12, u13, u14, u15, u16, u17, u18, u19, u20⟩ := u
  unfold wpX_bitCount
  intro x1 e1 x2 e2 x3 e3
  rw [eb_pop m x1 e1 x2 e2 x3 e3]
  exact h
theorem ex_w0 {post : Int64 → Prop} (u : SX) {m : Int64} {p : Nat} (h : post (eb_cl m p)) : wpX_withBit post u m (nI p) 0 := by
  obtain ⟨u1, u2, u3, u4, u5, u6, u7, u8, u9, u10, u11, u12, u13, u14, u15, u16, u17, u18, u19, u20⟩ := u
  unfold wpX_withBit
  exact nm_e (br_t rfl h)
theorem ex_w1 {post : Int64 → Prop} (u : SX) {m : Int64} {p : Nat} (h : post (eb_st m p)) : wpX_withBit post u m (nI p) 1 := by
  obtain ⟨u1, u2, u3, u4, u5, u6, u7, u8, u9, u10, u11, u12, u13, u14, u15, u16, u17, u18, u19, u20⟩ := u
  unfold wpX_withBit
  exact nm_e (br_f (by decide) h)
theorem ex_rm {post : Int64 → Prop} (u : SX) {p l : Nat} (h : post (eb_rg p l)) : wpX_rangeMask post u (nI p) (nI l) := by
  obtain ⟨u1, u2, u3, u4, u5, u6, u7, u8, u9, u10, u11, u12, u13, u14, u15, u16, u17, u18, u19, u20⟩ := u
  exact h
/-- a place that there is; a range that there is -/
def eg_ok (fl bl : Nat) (p0 p1 : Int32) : Prop := ∃ f b, f < fl ∧ b < bl ∧ p0 = nI f ∧ p1 = nI b
def eg_gd (fl bl : Nat) (p0 p1 p2 : Int32) : Prop := ∃ f b l, f < fl ∧ b < bl ∧ 1 ≤ l ∧ b + l ≤ bl ∧ p0 = nI f ∧ p1 = nI b ∧ p2 = nI l
theorem eg_exi {fl bl : Nat} (hf : fl ≤ 4) (hb : bl ≤ 16) {p0 p1 : Int32} {A B : Prop} (h1 : eg_ok fl bl p0 p1 → A) (h0 : ¬ eg_ok fl bl p0 p1 → B) :
    (p0 < 0 → B) ∧ (¬ p0 < 0 → (nI fl ≤ p0 → B) ∧ (¬ nI fl ≤ p0 → (p1 < 0 → B) ∧ (¬ p1 < 0 → (nI bl ≤ p1 → B) ∧ (¬ nI bl ≤ p1 → A)))) := by
  have hfl : fl < 2 ^ 31 := by omega
  have hbl : bl < 2 ^ 31 := by omega
  refine br_c (fun z => h0 ?_) (fun z1 => br_c (fun z => h0 ?_) (fun z2 => br_c (fun z => h0 ?_) (fun z3 => br_c (fun z => h0 ?_) (fun z4 => h1 ?_))))
  · rintro ⟨f, b, h1, h2, rfl, rfl⟩; exact nI_pos (by omega) z
  · rintro ⟨f, b, h1, h2, rfl, rfl⟩
    rw [nI_leI hfl (by omega)] at z; omega
  · rintro ⟨f, b, h1, h2, rfl, rfl⟩; exact nI_pos (by omega) z
  · rintro ⟨f, b, h1, h2, rfl, rfl⟩
    rw [nI_leI hbl (by omega)] at z; omega
  · obtain ⟨f, hf2, rfl⟩ := nI_of z1
    obtain ⟨b, hb2, rfl⟩ := nI_of z3
    rw [nI_leI hfl hf2] at z2
    rw [nI_leI hbl hb2] at z4
    exact ⟨f, b, by omega, by omega, rfl, rfl⟩
theorem eg_gdi {fl bl : Nat} (hb : bl ≤ 16) {p0 p1 p2 : Int32} {A B : Prop} (h1 : eg_gd fl bl p0 p1 p2 → A) (h0 : ¬ eg_gd fl bl p0 p1 p2 → B) (ok : eg_ok fl bl p0 p1) :
    (p2 < 1 → B) ∧ (¬ p2 < 1 → ((nI bl - p1) < p2 → B) ∧ (¬ (nI bl - p1) < p2 → A)) := by
  obtain ⟨f, b, hf, hb2, rfl, rfl⟩ := ok
  rw [pk_sub (by omega)]
  refine br_c (fun z => h0 ?_) (fun z1 => br_c (fun z => h0 ?_) (fun z2 => h1 ?_))
  · rintro ⟨f', b', l, g1, g2, g3, g4, e1, e2, rfl⟩
    have : ¬ nI l < nI 1 := nI_nlt g3 (by omega)
    exact this z
  · rintro ⟨f', b', l, g1, g2, g3, g4, e1, e2, rfl⟩
    rw [nI_eq (by omega) (by omega)] at e2
    rw [nI_ltI (by omega) (by omega)] at z
    omega
  · have z0 : ¬ p2 < 0 := by
      intro y
      apply z1
      rw [Int32.lt_iff_toInt_lt] at y ⊢
      have a : (0 : Int32).toInt = 0 := by decide
      have b : (1 : Int32).toInt = 1 := by decide
      omega
    obtain ⟨l, hl, rfl⟩ := nI_of z0
    have z1' : ¬ nI l < nI 1 := z1
    rw [nI_ltI hl (by omega)] at z1'
    rw [nI_ltI (by omega) hl] at z2
    exact ⟨f, b, l, hf, hb2, by omega, by omega, rfl, rfl, rfl⟩
theorem eg_gok {fl bl : Nat} {p0 p1 p2 : Int32} (h : eg_gd fl bl p0 p1 p2) : eg_ok fl bl p0 p1 := by
  obtain ⟨f, b, l, h1, h2, h3, h4, h5, h6, h7⟩ := h
  exact ⟨f, b, h1, h2, h5, h6⟩
theorem ex_ex {post : Int32 → Prop} {u : SX} {fl bl : Nat} (hf : fl ≤ 4) (hb : bl ≤ 16) (ef : u.2.2.1 = nI fl) (eb : u.2.2.2.1 = nI bl) {p0 p1 : Int32} (h1 : eg_ok fl bl p0 p1 → post 1) (h0 : ¬ eg_ok fl bl p0 p1 → post 0) : wpX_exists post u p0 p1 := by
  obtain ⟨u1, u2, u3, u4, u5, u6, u7, u8, u9, u10, u11, u12, u13, u14, u15, u16, u17, u18, u19, u20⟩ := u
  dsimp only at ef eb
  subst ef eb
  unfold wpX_exists
  exact eg_exi hf hb h1 h0
theorem ex_gd {post : Int32 → Prop} {u : SX} {fl bl : Nat} (hf : fl ≤ 4) (hb : bl ≤ 16) (ef : u.2.2.1 = nI fl) (eb : u.2.2.2.1 = nI bl) {p0 p1 p2 : Int32} (h1 : eg_gd fl bl p0 p1 p2 → post 1) (h0 : ¬ eg_gd fl bl p0 p1 p2 → post 0) : wpX_goodRange post u p0 p1 p2 := by
  obtain ⟨u1, u2, u3, u4, u5, u6, u7, u8, u9, u10, u11, u12, u13, u14, u15, u16, u17, u18, u19, u20⟩ := u
  dsimp only at ef eb
  subst ef eb
  unfold wpX_goodRange
  refine ex_ex hf hb rfl rfl (fun ok => br_f (by decide) (eg_gdi hb h1 h0 ok)) (fun no => br_t rfl (h0 (fun g => no (eg_gok g))))
theorem ey_ex {post : Int32 → Prop} {v : SY} {fl bl : Nat} (hf : fl ≤ 4) (hb : bl ≤ 16) (ef : v.1 = nI fl) (eb : v.2.1 = nI bl) {p0 p1 : Int32} (h1 : eg_ok fl bl p0 p1 → post 1) (h0 : ¬ eg_ok fl bl p0 p1 → post 0) : wpY_exists post v p0 p1 := by
  obtain ⟨v1, v2, v3, v4, v5, v6, v7, v8, v9, v10, v11⟩ := v
  dsimp only at ef eb
  subst ef eb
  unfold wpY_exists
  exact eg_exi hf hb h1 h0
theorem ey_gd {post : Int32 → Prop} {v : SY} {fl bl : Nat} (hf : fl ≤ 4) (hb : bl ≤ 16) (ef : v.1 = nI fl) (eb : v.2.1 = nI bl) {p0 p1 p2 : Int32} (h1 : eg_gd fl bl p0 p1 p2 → post 1) (h0 : ¬ eg_gd fl bl p0 p1 p2 → post 0) : wpY_good post v p0 p1 p2 := by
  obtain ⟨v1, v2, v3, v4, v5, v6, v7, v8, v9, v10, v11⟩ := v
  dsimp only at ef eb
  subst ef eb
  unfold wpY_good
  refine ey_ex hf hb rfl rfl (fun ok => br_f (by decide) (eg_gdi hb h1 h0 ok)) (fun no => br_t rfl (h0 (fun g => no (eg_gok g))))
end
section
/-! the component's extent lists: search, insertion, removal -/
def el_f (A : Nat → Nat) : Nat → Int32 := fun y => nI (A y)
theorem el_fu (A : Nat → Nat) (x v : Nat) : upd (el_f A) x (nI v) = el_f (eu A x v) := by
  funext y
  by_cases h : y = x
  · subst h; rw [pk_us]; show nI v = nI (eu A y v y); rw [eu_s]
  · rw [pk_un h]; show nI (A y) = nI (eu A x v y); rw [eu_n h]
theorem el_fa {A : Nat → Nat} {x : Nat} (h : x < 2 ^ 31) : el_f A (nI x).toNatClampNeg = nI (A x) := by rw [nI_clamp h]; rfl
def el_E (N S G K C V : Nat → Nat) : Prop := ∀ q, q < 8 → el_W (N q) (fun i => S (16 * q + i)) (fun i => G (16 * q + i)) (fun i => K (16 * q + i)) (fun i => C (16 * q + i)) (fun b => V (16 * q + b))
theorem el_EL {N S G K C V N' S' G' K' C' V' : Nat → Nat} {L : Nat} (h : el_E N S G K C V) (hN : ∀ q, q ≠ L → N' q = N q) (ho : ∀ y, y < 16 * L ∨ 16 * L + 16 ≤ y → S' y = S y ∧ G' y = G y ∧ K' y = K y ∧ C' y = C y ∧ V' y = V y)
    (hW : el_W (N' L) (fun i => S' (16 * L + i)) (fun i => G' (16 * L + i)) (fun i => K' (16 * L + i)) (fun i => C' (16 * L + i)) (fun b => V' (16 * L + b))) : el_E N' S' G' K' C' V' := by
  intro q hq
  by_cases e : q = L
  · subst e; exact hW
  · rw [hN q e]
    have hn := el_n (h q hq)
    refine el_Wc (h q hq) (fun i hi => ?_) (fun b hb => ?_)
    · obtain ⟨a1, a2, a3, a4, a5⟩ := ho (16 * q + i) (by omega)
      exact ⟨a1, a2, a3, a4⟩
    · obtain ⟨a1, a2, a3, a4, a5⟩ := ho (16 * q + b) (by omega)
      exact a5
theorem el_Ec {N S G K C V V' : Nat → Nat} (h : el_E N S G K C V) (e : ∀ i, i < 128 → V' i = V i) : el_E N S G K C V' := by
  intro q hq
  exact el_Wc (h q hq) (fun i _ => ⟨rfl, rfl, rfl, rfl⟩) (fun b hb => e _ (by omega))
theorem el_Ev {N S G K C V : Nat → Nat} (h : el_E N S G K C V) {i : Nat} (hi : i < 128) : V i = 0 ∨ ((V i % 4 = 1 ∨ V i % 4 = 2) ∧ V i / 4 < 32) := by
  have a := el_val (h (i / 16) (by omega)) (b := i % 16) (by omega)
  rw [show 16 * (i / 16) + i % 16 = i by omega] at a
  exact a
theorem el_pack : ∀ a, a < 64 → ∀ k, k < 4 → (nI a <<< ((2 : Int32) &&& 31)) ||| nI k = nI (4 * a + k) := by decide +kernel
theorem el_cell {e : Nat} (h : e < 2 ^ 31) : nI e >>> ((2 : Int32) &&& 31) = nI (e / 4) := pk_shrN h _ 2 (by decide)
theorem el_kind {e : Nat} (h : e < 2 ^ 31) : nI e &&& 3 = nI (e % 4) := pk_andN (by omega) 2 (by decide)
section
variable {fc fd gf gb gc : Int32} {dm ow mp df us : Int64} {pw : Int32} {N S G K C : Nat → Nat} {nm : Nat → Int64} {co dv jr : Nat → Int32}
theorem ex_laS {post : Int32 → Prop} {L b r n st q : Nat} (hL : L < 8) (hb : b < 16) (hn : N L ≤ 16) (hr : r ≤ N L) (hS : ∀ j, j < N L → S (16 * L + j) ≤ 16) (hs : ∀ j, j < N L → (S (16 * L + j) ≤ b ↔ j < r)) (h0 : 1 ≤ st) (h1 : q + st ≤ 32)
    (hA : r < q + st → wX_lastAt_12 post (nI L) (nI b) (nI (16 * L)) fc fd gf gb gc dm ow mp df us pw (el_f N) (el_f S) (el_f G) (el_f K) (el_f C) nm co dv jr n (nI q + (-1)) (nI (st / 2)))
    (hB : q + st ≤ r → wX_lastAt_12 post (nI L) (nI b) (nI (16 * L)) fc fd gf gb gc dm ow mp df us pw (el_f N) (el_f S) (el_f G) (el_f K) (el_f C) nm co dv jr n (nI (q + st) + (-1)) (nI (st / 2))) :
    wX_lastAt_12 post (nI L) (nI b) (nI (16 * L)) fc fd gf gb gc dm ow mp df us pw (el_f N) (el_f S) (el_f G) (el_f K) (el_f C) nm co dv jr (n + 1) (nI q + (-1)) (nI st) := by
  have e1 : nI q + (-1) + nI st = nI (q + st - 1) := by
    rw [Int32.add_assoc, Int32.add_comm (-1) (nI st), sb_m1 (by omega), nI_add]
    exact congrArg nI (by omega)
  have e2 : nI (q + st) + (-1) = nI (q + st - 1) := sb_m1 (by omega)
  have e3 : nI st >>> ((1 : Int32) &&& 31) = nI (st / 2) := pk_shrN (by omega) _ 1 (by decide)
  unfold wX_lastAt_12
  refine br_f (nI_nle (by omega) (by omega)) (nm_r e1 ⟨vp_in_nI hL (by omega), ?_⟩)
  rw [el_fa (by omega)]
  refine pk_le (N L) (q + st - 1) (fun z => nm_r e3 (hA (by omega))) (fun z => ?_)
  rw [nI_add]
  refine ⟨vp_in_nI (by omega) (by omega), ?_⟩
  rw [el_fa (by omega), show 16 * L + (q + st - 1) = 16 * L + (q + st - 1) from rfl]
  have a := hs (q + st - 1) z
  have c := hS (q + st - 1) z
  refine pk_lt b (S (16 * L + (q + st - 1))) (fun y => nm_r e3 (hA (by omega))) (fun y => nm_r e3 ?_)
  rw [← e2]
  exact hB (by omega)
theorem ex_la {post : Int32 → Prop} {L b r : Nat} (hL : L < 8) (hb : b < 16) (hn : N L ≤ 16) (hr : r ≤ N L) (hS : ∀ j, j < N L → S (16 * L + j) ≤ 16) (hs : ∀ j, j < N L → (S (16 * L + j) ≤ b ↔ j < r)) (h : post (nI r + (-1))) :
    wpX_lastAt post (fc, fd, gf, gb, gc, dm, ow, mp, df, us, pw, (el_f N), (el_f S), (el_f G), (el_f K), (el_f C), nm, co, dv, jr) (nI L) (nI b) := by
  have a0 : ∀ q, q = r → wX_lastAt_12 post (nI L) (nI b) (nI (16 * L)) fc fd gf gb gc dm ow mp df us pw (el_f N) (el_f S) (el_f G) (el_f K) (el_f C) nm co dv jr 1 (nI q + (-1)) (nI (1 / 2)) := by
    rintro q rfl
    exact br_t (by decide) h
  have a1 : ∀ q, q ≤ r → r < q + 2 → wX_lastAt_12 post (nI L) (nI b) (nI (16 * L)) fc fd gf gb gc dm ow mp df us pw (el_f N) (el_f S) (el_f G) (el_f K) (el_f C) nm co dv jr 2 (nI q + (-1)) (nI (2 / 2)) := fun q h1 h2 =>
    ex_laS (st := 1) hL hb hn hr hS hs (by omega) (by omega) (fun z => a0 q (by omega)) (fun z => a0 (q + 1) (by omega))
  have a2 : ∀ q, q ≤ r → r < q + 4 → wX_lastAt_12 post (nI L) (nI b) (nI (16 * L)) fc fd gf gb gc dm ow mp df us pw (el_f N) (el_f S) (el_f G) (el_f K) (el_f C) nm co dv jr 3 (nI q + (-1)) (nI (4 / 2)) := fun q h1 h2 =>
    ex_laS (st := 2) hL hb hn hr hS hs (by omega) (by omega) (fun z => a1 q (by omega) (by omega)) (fun z => a1 (q + 2) (by omega) (by omega))
  have a3 : ∀ q, q ≤ r → r < q + 8 → wX_lastAt_12 post (nI L) (nI b) (nI (16 * L)) fc fd gf gb gc dm ow mp df us pw (el_f N) (el_f S) (el_f G) (el_f K) (el_f C) nm co dv jr 4 (nI q + (-1)) (nI (8 / 2)) := fun q h1 h2 =>
    ex_laS (st := 4) hL hb hn hr hS hs (by omega) (by omega) (fun z => a2 q (by omega) (by omega)) (fun z => a2 (q + 4) (by omega) (by omega))
  have a4 : ∀ q, q ≤ r → r < q + 16 → wX_lastAt_12 post (nI L) (nI b) (nI (16 * L)) fc fd gf gb gc dm ow mp df us pw (el_f N) (el_f S) (el_f G) (el_f K) (el_f C) nm co dv jr 5 (nI q + (-1)) (nI (16 / 2)) := fun q h1 h2 =>
    ex_laS (st := 8) hL hb hn hr hS hs (by omega) (by omega) (fun z => a3 q (by omega) (by omega)) (fun z => a3 (q + 8) (by omega) (by omega))
  have a5 : wX_lastAt_12 post (nI L) (nI b) (nI (16 * L)) fc fd gf gb gc dm ow mp df us pw (el_f N) (el_f S) (el_f G) (el_f K) (el_f C) nm co dv jr 6 (nI 0 + (-1)) (nI 16) :=
    ex_laS (st := 16) hL hb hn hr hS hs (by omega) (by omega) (fun z => a4 0 (by omega) (by omega)) (fun z => a4 (0 + 16) (by omega) (by omega))
  unfold wpX_lastAt
  have e : nI L * 16 = nI (16 * L) := by rw [show (16 : Int32) = nI 16 from rfl, pk_mul, Nat.mul_comm]
  exact nm_r e ⟨6, a5⟩
theorem el_Es {V : Nat → Nat} (h : el_E N S G K C V) {L : Nat} (hL : L < 8) : N L ≤ 16 ∧ ∀ j, j < N L → S (16 * L + j) ≤ 16 := by
  refine ⟨el_n (h L hL), fun j hj => ?_⟩
  have := (h L hL).1 j hj
  dsimp only at this
  omega
theorem ex_en {post : Int32 → Prop} {V : Nat → Nat} (hE : el_E N S G K C V) {m p : Nat} (hm : m < 2) (hp : p < 64) (h : post (nI (V (64 * m + p)))) : wpX_entryAt post (fc, fd, gf, gb, gc, dm, ow, mp, df, us, pw, (el_f N), (el_f S), (el_f G), (el_f K), (el_f C), nm, co, dv, jr) (nI m) (nI p) := by
  have hL : 4 * m + p / 16 < 8 := by omega
  have e1 : nI m * 4 + (nI p >>> ((4 : Int32) &&& 31)) = nI (4 * m + p / 16) := by
    rw [pk_shrN (by omega) _ 4 (by decide), show (4 : Int32) = nI 4 from rfl, pk_mul, nI_add]
    exact congrArg nI (by omega)
  have e2 : nI p &&& 15 = nI (p % 16) := pk_andN (by omega) 4 (by decide)
  have eV : 64 * m + p = 16 * (4 * m + p / 16) + p % 16 := by omega
  rw [eV] at h
  have hs := el_Es hE hL
  have hW := hE _ hL
  generalize 4 * m + p / 16 = L at *
  have hb : p % 16 < 16 := by omega
  generalize p % 16 = b at *
  obtain ⟨r, hr, hrs⟩ := el_r hW b
  unfold wpX_entryAt
  refine nm_r e1 (nm_r e2 (ex_la hL hb hs.1 hr hs.2 hrs ?_))
  cases r with
  | zero =>
    have v := el_V0 hW hb hrs
    rw [v] at h
    exact br_f (by decide) h
  | succ q =>
    rw [pk_m1]
    have a := hW.1 q (by omega)
    dsimp only at a
    refine br_t (nI_pos' (by omega)) (nm_r (e' := nI (16 * L + q)) (by rw [show (16 : Int32) = nI 16 from rfl, pk_mul, nI_add, Nat.mul_comm]) ⟨vp_in_nI (by omega) (by omega), ?_⟩)
    rw [el_fa (by omega), el_fa (by omega), el_fa (by omega), el_fa (by omega)]
    have sb : S (16 * L + q) ≤ b := (hrs q (by omega)).mpr (by omega)
    refine nm_r (pk_sub sb) ⟨vp_in_nI (by omega) (by omega), ?_⟩
    refine pk_lt (b - S (16 * L + q)) (G (16 * L + q)) (fun z => ⟨vp_in_nI (by omega) (by omega), vp_in_nI (by omega) (by omega), ?_⟩) (fun z => ?_)
    · have v := (el_V1 hW (by omega) hrs z).2
      rw [nI_add, el_pack _ (by omega) _ (by omega), ← v]
      exact h
    · have v := (el_V2 hW hb (by omega) hrs (Nat.not_lt.mpr z)).2
      rw [v] at h
      exact h
theorem ex_mv {post : SX → Prop} {x y : Nat} (hx : x < 128) (hy : y < 128) (h : post (fc, fd, gf, gb, gc, dm, ow, mp, df, us, pw, (el_f N), (el_f (eu S y (S x))), (el_f (eu G y (G x))), (el_f (eu K y (K x))), (el_f (eu C y (C x))), nm, co, dv, jr)) : wpX_moveExtent post (fc, fd, gf, gb, gc, dm, ow, mp, df, us, pw, (el_f N), (el_f S), (el_f G), (el_f K), (el_f C), nm, co, dv, jr) (nI x) (nI y) := by
  have ix : vp_in (nI x) 128 := vp_in_nI hx (by omega)
  have iy : vp_in (nI y) 128 := vp_in_nI hy (by omega)
  unfold wpX_moveExtent
  rw [nI_clamp (show x < 2 ^ 31 by omega), nI_clamp (show y < 2 ^ 31 by omega)]
  exact ⟨ix, iy, nm_r (el_fu S y (S x)) ⟨ix, iy, nm_r (el_fu G y (G x)) ⟨ix, iy, nm_r (el_fu K y (K x)) ⟨ix, iy, nm_r (el_fu C y (C x)) h⟩⟩⟩⟩
end
def el_rm (A : Nat → Nat) (x j : Nat) : Nat → Nat := fun y => if x ≤ y ∧ y < j then A (y + 1) else A y
theorem el_rm0 (A : Nat → Nat) (x : Nat) : el_rm A x x = A := by
  funext y
  exact if_neg (by omega)
theorem el_rmS {A : Nat → Nat} {x j : Nat} (h : x ≤ j) : eu (el_rm A x j) j (el_rm A x j (j + 1)) = el_rm A x (j + 1) := by
  funext y
  have e : el_rm A x j (j + 1) = A (j + 1) := if_neg (by omega)
  rw [e]
  by_cases z : y = j
  · subst z; rw [eu_s]; exact (if_pos (by omega)).symm
  · rw [eu_n z]
    unfold el_rm
    by_cases w : x ≤ y ∧ y < j
    · rw [if_pos w, if_pos (by omega)]
    · rw [if_neg w, if_neg (by omega)]
def el_dn (A : Nat → Nat) (j m : Nat) : Nat → Nat := fun y => if j < y ∧ y ≤ m then A (y - 1) else A y
theorem el_dn0 (A : Nat → Nat) (m : Nat) : el_dn A m m = A := by
  funext y
  exact if_neg (by omega)
theorem el_dnS {A : Nat → Nat} {j m : Nat} (h : j + 1 ≤ m) : eu (el_dn A (j + 1) m) (j + 1) (el_dn A (j + 1) m j) = el_dn A j m := by
  funext y
  have e : el_dn A (j + 1) m j = A j := if_neg (by omega)
  rw [e]
  by_cases z : y = j + 1
  · subst z; rw [eu_s]; exact (if_pos (by omega)).symm
  · rw [eu_n z]
    unfold el_dn
    by_cases w : j + 1 < y ∧ y ≤ m
    · rw [if_pos w, if_pos (by omega)]
    · rw [if_neg w, if_neg (by omega)]
section
variable {fc fd gf gb gc : Int32} {dm ow mp df us : Int64} {pw : Int32} {N S G K C : Nat → Nat} {nm : Nat → Int64} {co dv jr : Nat → Int32}
theorem ex_reL {post : SX → Prop} {L n x : Nat} (hL : L < 8) (hn : N L = n) (h0 : 1 ≤ n) (hn16 : n ≤ 16) (hx : 16 * L ≤ x)
    (h : post (fc, fd, gf, gb, gc, dm, ow, mp, df, us, pw, (el_f (eu N L (n - 1))), (el_f (el_rm S x (16 * L + n - 1))), (el_f (el_rm G x (16 * L + n - 1))), (el_f (el_rm K x (16 * L + n - 1))), (el_f (el_rm C x (16 * L + n - 1))), nm, co, dv, jr)) :
    ∀ d j, x ≤ j → j + d = 16 * L + n - 1 → wX_removeExtent_22 post (nI L) (nI (16 * L + n - 1)) (d + 1) (nI j) fc fd gf gb gc dm ow mp df us pw (el_f N) (el_f (el_rm S x j)) (el_f (el_rm G x j)) (el_f (el_rm K x j)) (el_f (el_rm C x j)) nm co dv jr := by
  intro d
  induction d with
  | zero =>
    intro j hj e
    have e : j = 16 * L + n - 1 := by omega
    subst e
    unfold wX_removeExtent_22
    refine br_t (nI_le (Nat.le_refl _) (by omega)) ⟨vp_in_nI hL (by omega), vp_in_nI hL (by omega), ?_⟩
    rw [el_fa (by omega), hn, nI_clamp (by omega), show nI n - 1 = nI n - nI 1 from rfl, pk_sub h0, el_fu]
    exact nm_e h
  | succ d ih =>
    intro j hj e
    unfold wX_removeExtent_22
    refine br_f (nI_ge (by omega) (by omega)) ?_
    rw [nI_1]
    refine ex_mv (by omega) (by omega) ?_
    rw [el_rmS hj, el_rmS hj, el_rmS hj, el_rmS hj]
    exact nm_e (ih (j + 1) (by omega) (by omega))
theorem ex_re {post : SX → Prop} {L n i : Nat} (hL : L < 8) (hn : N L = n) (hn16 : n ≤ 16) (hi : i < n)
    (h : post (fc, fd, gf, gb, gc, dm, ow, mp, df, us, pw, (el_f (eu N L (n - 1))), (el_f (el_rm S (16 * L + i) (16 * L + n - 1))), (el_f (el_rm G (16 * L + i) (16 * L + n - 1))), (el_f (el_rm K (16 * L + i) (16 * L + n - 1))), (el_f (el_rm C (16 * L + i) (16 * L + n - 1))), nm, co, dv, jr)) :
    wpX_removeExtent post (fc, fd, gf, gb, gc, dm, ow, mp, df, us, pw, (el_f N), (el_f S), (el_f G), (el_f K), (el_f C), nm, co, dv, jr) (nI L) (nI i) := by
  have m : nI L * 16 = nI (16 * L) := by rw [show (16 : Int32) = nI 16 from rfl, pk_mul, Nat.mul_comm]
  unfold wpX_removeExtent
  dsimp only
  rw [el_fa (by omega), hn, m, nI_add, nI_add]
  refine ⟨vp_in_nI hL (by omega), nm_r (e' := nI (16 * L + n - 1)) (by rw [show (1 : Int32) = nI 1 from rfl, pk_sub (by omega)]) (nm_e ⟨16 * L + n - 1 - (16 * L + i) + 1, ?_⟩)⟩
  have := ex_reL (fc := fc) (fd := fd) (gf := gf) (gb := gb) (gc := gc) (dm := dm) (ow := ow) (mp := mp) (df := df) (us := us) (pw := pw) (nm := nm) (co := co) (dv := dv) (jr := jr) hL hn (by omega) hn16 (by omega) h (16 * L + n - 1 - (16 * L + i)) (16 * L + i) (Nat.le_refl _) (by omega)
  rw [el_rm0, el_rm0, el_rm0, el_rm0] at this
  exact this
theorem ex_inL {post : SX → Prop} {L n x s0 l0 e0 : Nat} (hL : L < 8) (hn : N L = n) (hn16 : n < 16) (hx : 16 * L ≤ x) (he : e0 < 2 ^ 31) (hxm : x ≤ 16 * L + n)
    (h : post (fc, fd, gf, gb, gc, dm, ow, mp, df, us, pw, (el_f (eu N L (n + 1))), (el_f (eu (el_dn S x (16 * L + n)) x s0)), (el_f (eu (el_dn G x (16 * L + n)) x l0)), (el_f (eu (el_dn K x (16 * L + n)) x (e0 % 4))), (el_f (eu (el_dn C x (16 * L + n)) x (e0 / 4))), nm, co, dv, jr)) :
    ∀ d j, j = x + d → j ≤ 16 * L + n → wX_insertExtent_21 post (nI L) (nI s0) (nI l0) (nI e0) (nI x) (d + 1) (nI j) fc fd gf gb gc dm ow mp df us pw (el_f N) (el_f (el_dn S j (16 * L + n))) (el_f (el_dn G j (16 * L + n))) (el_f (el_dn K j (16 * L + n))) (el_f (el_dn C j (16 * L + n))) nm co dv jr := by
  intro d
  have ix : vp_in (nI x) 128 := vp_in_nI (by omega) (by omega)
  have iL : vp_in (nI L) 8 := vp_in_nI hL (by omega)
  induction d with
  | zero =>
    intro j e hj
    have e : j = x := by omega
    subst e
    unfold wX_insertExtent_21
    refine br_t (nI_le (Nat.le_refl _) (by omega)) ⟨iL, iL, ?_⟩
    rw [el_fa (by omega), hn, nI_clamp (show L < 2 ^ 31 by omega), nI_1, el_fu, nI_clamp (show j < 2 ^ 31 by omega), el_kind he, el_cell he, el_fu, el_fu, el_fu, el_fu]
    exact nm_e ⟨ix, nm_e ⟨ix, nm_e ⟨ix, nm_e ⟨ix, nm_e h⟩⟩⟩⟩
  | succ d ih =>
    intro j e hj
    obtain ⟨j, rfl⟩ : ∃ i, j = i + 1 := ⟨j - 1, by omega⟩
    unfold wX_insertExtent_21
    refine br_f (nI_ge (by omega) (by omega)) ?_
    rw [nI_pred]
    refine ex_mv (by omega) (by omega) ?_
    rw [el_dnS hj, el_dnS hj, el_dnS hj, el_dnS hj]
    exact nm_r (pk_m1 j) (ih j (by omega) (by omega))
theorem ex_in {post : SX → Prop} {L n i s0 l0 e0 : Nat} (hL : L < 8) (hn : N L = n) (hn16 : n < 16) (hi : i ≤ n) (he : e0 < 2 ^ 31)
    (h : post (fc, fd, gf, gb, gc, dm, ow, mp, df, us, pw, (el_f (eu N L (n + 1))), (el_f (eu (el_dn S (16 * L + i) (16 * L + n)) (16 * L + i) s0)), (el_f (eu (el_dn G (16 * L + i) (16 * L + n)) (16 * L + i) l0)), (el_f (eu (el_dn K (16 * L + i) (16 * L + n)) (16 * L + i) (e0 % 4))), (el_f (eu (el_dn C (16 * L + i) (16 * L + n)) (16 * L + i) (e0 / 4))), nm, co, dv, jr)) :
    wpX_insertExtent post (fc, fd, gf, gb, gc, dm, ow, mp, df, us, pw, (el_f N), (el_f S), (el_f G), (el_f K), (el_f C), nm, co, dv, jr) (nI L) (nI i) (nI s0) (nI l0) (nI e0) := by
  have m : nI L * 16 = nI (16 * L) := by rw [show (16 : Int32) = nI 16 from rfl, pk_mul, Nat.mul_comm]
  unfold wpX_insertExtent
  dsimp only
  rw [el_fa (by omega), hn, m, nI_add, nI_add]
  refine nm_e ⟨vp_in_nI hL (by omega), nm_e ⟨n - i + 1, ?_⟩⟩
  have := ex_inL (fc := fc) (fd := fd) (gf := gf) (gb := gb) (gc := gc) (dm := dm) (ow := ow) (mp := mp) (df := df) (us := us) (pw := pw) (nm := nm) (co := co) (dv := dv) (jr := jr) hL hn hn16 (by omega) he (by omega) h (n - i) (16 * L + n) (by omega) (by omega)
  rw [el_dn0, el_dn0, el_dn0, el_dn0] at this
  exact this
end
end
section
/-! the extent lists as wholes: an entry goes, an entry comes -/
theorem el_rmg {A : Nat → Nat} {L q n i : Nat} (hi : i < n) : el_rm A (16 * L + q) (16 * L + (n + 1) - 1) (16 * L + i) = A (16 * L + el_sg q i) := by
  unfold el_rm
  by_cases z : i < q
  · rw [el_sg1 z, if_neg (by omega)]
  · rw [el_sg2 z, if_pos (by omega)]
    rfl
theorem el_rmo {A : Nat → Nat} {L q n y : Nat} (hn : n ≤ 16) (hy : y < 16 * L ∨ 16 * L + 16 ≤ y) : el_rm A (16 * L + q) (16 * L + n - 1) y = A y := if_neg (by omega)
theorem el_aig {A : Nat → Nat} {L i n j v : Nat} (hj : j < n + 1) : eu (el_dn A (16 * L + i) (16 * L + n)) (16 * L + i) v (16 * L + j) = el_in (fun j => A (16 * L + j)) i v j := by
  rcases Nat.lt_trichotomy j i with z | z | z
  · rw [eu_n (by omega), el_in1 z]
    exact if_neg (by omega)
  · subst z; rw [eu_s, el_in2]
  · rw [eu_n (by omega), el_in3 z]
    unfold el_dn
    rw [if_pos (by omega)]
    exact congrArg A (by omega)
theorem el_aio {A : Nat → Nat} {L i n v y : Nat} (hn : n < 16) (hi : i ≤ n) (hy : y < 16 * L ∨ 16 * L + 16 ≤ y) : eu (el_dn A (16 * L + i) (16 * L + n)) (16 * L + i) v y = A y := by
  rw [eu_n (by omega)]
  exact if_neg (by omega)
section
variable {N S G K C V : Nat → Nat}
theorem el_Erm {L n q : Nat} (h : el_E N S G K C V) (hL : L < 8) (hn : N L = n) (hq : q < n) :
    el_E (eu N L (n - 1)) (el_rm S (16 * L + q) (16 * L + n - 1)) (el_rm G (16 * L + q) (16 * L + n - 1)) (el_rm K (16 * L + q) (16 * L + n - 1)) (el_rm C (16 * L + q) (16 * L + n - 1))
      (fun y => if 16 * L + S (16 * L + q) ≤ y ∧ y < 16 * L + S (16 * L + q) + G (16 * L + q) then 0 else V y) := by
  have hW := h L hL
  have h16 := el_n hW
  rw [hn] at h16 hW
  have a := hW.1 q hq
  dsimp only at a
  refine el_EL (L := L) h (fun q hq => eu_n hq) (fun y hy => ⟨el_rmo h16 hy, el_rmo h16 hy, el_rmo h16 hy, el_rmo h16 hy, if_neg (by omega)⟩) ?_
  obtain ⟨n, rfl⟩ : ∃ n', n = n' + 1 := ⟨n - 1, by omega⟩
  rw [eu_s]
  refine el_Wc (el_Wrm hW hq) (fun i hi => ⟨el_rmg hi, el_rmg hi, el_rmg hi, el_rmg hi⟩) (fun b hb => ?_)
  try dsimp only
  by_cases z : S (16 * L + q) ≤ b ∧ b < S (16 * L + q) + G (16 * L + q)
  · rw [if_pos z, if_pos (by omega)]
  · rw [if_neg z, if_neg (by omega)]
theorem el_Esh {L n q o : Nat} (h : el_E N S G K C V) (hL : L < 8) (hn : N L = n) (hq : q < n) (h0 : 1 ≤ o) (ho : o ≤ G (16 * L + q)) :
    el_E N S (eu G (16 * L + q) o) K C (fun y => if 16 * L + S (16 * L + q) + o ≤ y ∧ y < 16 * L + S (16 * L + q) + G (16 * L + q) then 0 else V y) := by
  have hW := h L hL
  have h16 := el_n hW
  rw [hn] at h16
  have a := hW.1 q (by omega)
  dsimp only at a
  refine el_EL (L := L) h (fun q hq => rfl) (fun y hy => ⟨rfl, eu_n (by omega), rfl, rfl, if_neg (by omega)⟩) ?_
  refine el_Wc (el_Wsh hW (q := q) (o := o) (by omega) h0 ho) (fun i hi => ⟨rfl, ?_, rfl, rfl⟩) (fun b hb => ?_)
  · try dsimp only
    by_cases e : i = q
    · subst e; rw [eu_s, if_pos rfl]
    · rw [eu_n (by omega), if_neg e]
  · try dsimp only
    by_cases z : S (16 * L + q) + o ≤ b ∧ b < S (16 * L + q) + G (16 * L + q)
    · rw [if_pos z, if_pos (by omega)]
    · rw [if_neg z, if_neg (by omega)]
theorem el_Ejn {L n q : Nat} (h : el_E N S G K C V) (hL : L < 8) (hn : N L = n) (hq : q + 1 < n) (e1 : S (16 * L + q) + G (16 * L + q) = S (16 * L + (q + 1))) (e2 : C (16 * L + q) + G (16 * L + q) = C (16 * L + (q + 1))) (e3 : K (16 * L + q) = K (16 * L + (q + 1))) :
    el_E (eu N L (n - 1)) (el_rm S (16 * L + (q + 1)) (16 * L + n - 1)) (el_rm (eu G (16 * L + q) (G (16 * L + q) + G (16 * L + (q + 1)))) (16 * L + (q + 1)) (16 * L + n - 1)) (el_rm K (16 * L + (q + 1)) (16 * L + n - 1)) (el_rm C (16 * L + (q + 1)) (16 * L + n - 1)) V := by
  have hW := h L hL
  have h16 := el_n hW
  rw [hn] at h16 hW
  refine el_EL (L := L) h (fun q hq => eu_n hq) (fun y hy => ⟨el_rmo h16 hy, ?_, el_rmo h16 hy, el_rmo h16 hy, rfl⟩) ?_
  · rw [el_rmo h16 hy, eu_n (by omega)]
  · obtain ⟨n, rfl⟩ : ∃ n', n = n' + 1 := ⟨n - 1, by omega⟩
    rw [eu_s]
    refine el_Wc (el_Wjn hW hq e1 e2 e3) (fun i hi => ⟨el_rmg hi, ?_, el_rmg hi, el_rmg hi⟩) (fun b hb => rfl)
    rw [el_rmg (n := n) hi]
    by_cases e : el_sg (q + 1) i = q
    · rw [e, eu_s, if_pos rfl]
    · rw [eu_n (by omega), if_neg e]
theorem el_Ein {L n i s0 l0 e0 : Nat} (h : el_E N S G K C V) (hL : L < 8) (hn : N L = n) (hi : i ≤ n) (g1 : 1 ≤ l0) (g2 : s0 + l0 ≤ 16) (g3 : e0 / 4 + l0 ≤ 32) (g4 : e0 % 4 = 1 ∨ e0 % 4 = 2)
    (hlo : ∀ j, j < i → S (16 * L + j) + G (16 * L + j) ≤ s0) (hhi : ∀ j, i ≤ j → j < n → s0 + l0 ≤ S (16 * L + j)) :
    n < 16 ∧ el_E (eu N L (n + 1)) (eu (el_dn S (16 * L + i) (16 * L + n)) (16 * L + i) s0) (eu (el_dn G (16 * L + i) (16 * L + n)) (16 * L + i) l0) (eu (el_dn K (16 * L + i) (16 * L + n)) (16 * L + i) (e0 % 4)) (eu (el_dn C (16 * L + i) (16 * L + n)) (16 * L + i) (e0 / 4))
      (fun y => if 16 * L + s0 ≤ y ∧ y < 16 * L + s0 + l0 then 4 * (e0 / 4 + (y - (16 * L + s0))) + e0 % 4 else V y) := by
  have hW := h L hL
  rw [hn] at hW
  have hI := el_Win hW hi g1 g2 g3 g4 hlo hhi
  have h16 := el_n hI
  have h16 : n < 16 := by omega
  refine ⟨h16, el_EL (L := L) h (fun q hq => eu_n hq) (fun y hy => ⟨el_aio h16 hi hy, el_aio h16 hi hy, el_aio h16 hi hy, el_aio h16 hi hy, if_neg (by omega)⟩) ?_⟩
  rw [eu_s]
  refine el_Wc hI (fun j hj => ⟨el_aig hj, el_aig hj, el_aig hj, el_aig hj⟩) (fun b hb => ?_)
  try dsimp only
  by_cases z : s0 ≤ b ∧ b < s0 + l0
  · rw [if_pos z, if_pos (by omega), show 16 * L + b - (16 * L + s0) = b - s0 by omega]
  · rw [if_neg z, if_neg (by omega)]
end
section
variable {fc fd gf gb gc : Int32} {dm ow mp df us : Int64} {pw : Int32} {N S G K C : Nat → Nat} {nm : Nat → Int64} {co dv jr : Nat → Int32} {V : Nat → Nat}
/-- joinNext: both ways -/
theorem ex_jnW {post : SX → Prop} {L i : Nat} (hE : el_E N S G K C V) (hL : L < 8) (hi : i + 1 < N L)
    (hM : S (16 * L + i) + G (16 * L + i) = S (16 * L + (i + 1)) → C (16 * L + i) + G (16 * L + i) = C (16 * L + (i + 1)) → K (16 * L + i) = K (16 * L + (i + 1)) →
      post (fc, fd, gf, gb, gc, dm, ow, mp, df, us, pw, (el_f (eu N L (N L - 1))), (el_f (el_rm S (16 * L + (i + 1)) (16 * L + N L - 1))), (el_f (el_rm (eu G (16 * L + i) (G (16 * L + i) + G (16 * L + (i + 1)))) (16 * L + (i + 1)) (16 * L + N L - 1))), (el_f (el_rm K (16 * L + (i + 1)) (16 * L + N L - 1))), (el_f (el_rm C (16 * L + (i + 1)) (16 * L + N L - 1))), nm, co, dv, jr))
    (hN : ¬ (S (16 * L + i) + G (16 * L + i) = S (16 * L + (i + 1)) ∧ C (16 * L + i) + G (16 * L + i) = C (16 * L + (i + 1)) ∧ K (16 * L + i) = K (16 * L + (i + 1))) → post (fc, fd, gf, gb, gc, dm, ow, mp, df, us, pw, (el_f N), (el_f S), (el_f G), (el_f K), (el_f C), nm, co, dv, jr)) :
    wpX_joinNext post (fc, fd, gf, gb, gc, dm, ow, mp, df, us, pw, (el_f N), (el_f S), (el_f G), (el_f K), (el_f C), nm, co, dv, jr) (nI L) (nI i) := by
  have hW := hE L hL
  have h16 := el_n hW
  have a := hW.1 i (by omega)
  have b := hW.1 (i + 1) hi
  dsimp only at a b
  have ix : vp_in (nI (16 * L + i)) 128 := vp_in_nI (by omega) (by omega)
  have iy : vp_in (nI (16 * L + (i + 1))) 128 := vp_in_nI (by omega) (by omega)
  have m : nI L * 16 + nI i = nI (16 * L + i) := by rw [show (16 : Int32) = nI 16 from rfl, pk_mul, nI_add, Nat.mul_comm]
  have n1 : nI (16 * L + i) + 1 = nI (16 * L + (i + 1)) := nI_1 _
  have c84 : ∀ t f : Int32, (t = 0 ∨ t = 1) → (f = 0 ∨ f = 1) → (t = 1 → S (16 * L + i) + G (16 * L + i) = S (16 * L + (i + 1))) → (f = 1 → C (16 * L + i) + G (16 * L + i) = C (16 * L + (i + 1))) →
      (t = 0 → ¬ S (16 * L + i) + G (16 * L + i) = S (16 * L + (i + 1))) → (f = 0 → ¬ C (16 * L + i) + G (16 * L + i) = C (16 * L + (i + 1))) →
      wX_joinNext_84 post (nI L) (nI i) (nI (16 * L + i)) (nI (G (16 * L + i))) t f fc fd gf gb gc dm ow mp df us pw (el_f N) (el_f S) (el_f G) (el_f K) (el_f C) nm co dv jr := by
    intro t f ht hf t1 f1 t0 f0
    unfold wX_joinNext_84
    rw [n1]
    refine br_c (fun z => hN (fun y => t0 z y.1)) (fun z => br_c (fun w => hN (fun y => f0 w y.2.1)) (fun w => ⟨ix, iy, ?_⟩))
    have t1 := t1 (ht.resolve_left z)
    have f1 := f1 (hf.resolve_left w)
    rw [el_fa (by omega), el_fa (by omega), el_fa (by omega), nI_clamp (show 16 * L + i < 2 ^ 31 by omega), nI_add, el_fu, nI_1]
    refine pk_eq (K (16 * L + i)) (K (16 * L + (i + 1))) (fun e => ⟨iy, ix, nm_e (ex_re hL rfl h16 hi (hM t1 f1 e))⟩) (fun e => hN (fun y => e y.2.2))
  have c57 : ∀ t : Int32, (t = 0 ∨ t = 1) → (t = 1 → S (16 * L + i) + G (16 * L + i) = S (16 * L + (i + 1))) → (t = 0 → ¬ S (16 * L + i) + G (16 * L + i) = S (16 * L + (i + 1))) →
      wX_joinNext_57 post (nI L) (nI i) (nI (16 * L + i)) (nI (G (16 * L + i))) t fc fd gf gb gc dm ow mp df us pw (el_f N) (el_f S) (el_f G) (el_f K) (el_f C) nm co dv jr := by
    intro t ht t1 t0
    unfold wX_joinNext_57
    rw [n1, el_fa (by omega), el_fa (by omega), nI_add]
    refine ⟨ix, iy, pk_eq _ _ (fun e => c84 t 1 ht (Or.inr rfl) t1 (fun _ => e) t0 (fun z => absurd z (by decide))) (fun e => c84 t 0 ht (Or.inl rfl) t1 (fun z => absurd z (by decide)) t0 (fun _ => e))⟩
  unfold wpX_joinNext
  dsimp only
  rw [m, el_fa (by omega), nI_1]
  refine br_f (nI_pos (by omega)) ⟨vp_in_nI hL (by omega), br_t (nI_lt hi (by omega)) (nm_e ⟨ix, ?_⟩)⟩
  rw [el_fa (by omega), n1, el_fa (by omega), el_fa (by omega)]
  refine nm_e ⟨ix, iy, ?_⟩
  rw [nI_add]
  exact pk_eq _ _ (fun e => c57 1 (Or.inr rfl) (fun _ => e) (fun z => absurd z (by decide))) (fun e => c57 0 (Or.inl rfl) (fun z => absurd z (by decide)) (fun _ => e))
theorem ex_jn {L i : Nat} (hE : el_E N S G K C V) (hL : L < 8) (hi : i < 100) : ∃ N' S' G' K' C' : Nat → Nat, el_E N' S' G' K' C' V ∧ ∀ post : SX → Prop, post (fc, fd, gf, gb, gc, dm, ow, mp, df, us, pw, (el_f N'), (el_f S'), (el_f G'), (el_f K'), (el_f C'), nm, co, dv, jr) → wpX_joinNext post (fc, fd, gf, gb, gc, dm, ow, mp, df, us, pw, (el_f N), (el_f S), (el_f G), (el_f K), (el_f C), nm, co, dv, jr) (nI L) (nI i) := by
  by_cases z : i + 1 < N L
  · by_cases e : S (16 * L + i) + G (16 * L + i) = S (16 * L + (i + 1)) ∧ C (16 * L + i) + G (16 * L + i) = C (16 * L + (i + 1)) ∧ K (16 * L + i) = K (16 * L + (i + 1))
    · exact ⟨_, _, _, _, _, el_Ejn hE hL rfl z e.1 e.2.1 e.2.2, fun post h => ex_jnW hE hL z (fun _ _ _ => h) (fun y => absurd e y)⟩
    · exact ⟨_, _, _, _, _, hE, fun post h => ex_jnW hE hL z (fun a b c => absurd ⟨a, b, c⟩ e) (fun _ => h)⟩
  · refine ⟨_, _, _, _, _, hE, fun post h => ?_⟩
    have h16 := el_n (hE L hL)
    unfold wpX_joinNext
    dsimp only
    rw [el_fa (by omega), nI_1]
    exact br_f (nI_pos (by omega)) ⟨vp_in_nI hL (by omega), br_f (nI_nlt (by omega) (by omega)) h⟩
theorem ex_jn0 {L : Nat} {post : SX → Prop} (h : post (fc, fd, gf, gb, gc, dm, ow, mp, df, us, pw, (el_f N), (el_f S), (el_f G), (el_f K), (el_f C), nm, co, dv, jr)) : wpX_joinNext post (fc, fd, gf, gb, gc, dm, ow, mp, df, us, pw, (el_f N), (el_f S), (el_f G), (el_f K), (el_f C), nm, co, dv, jr) (nI L) (-1) := by
  unfold wpX_joinNext
  exact br_t (by decide) h
/-- an entry comes where a hole was -/
theorem ex_pb {L b e : Nat} (hE : el_E N S G K C V) (hL : L < 8) (hb : b < 16) (hV : V (16 * L + b) = 0) (he : (e % 4 = 1 ∨ e % 4 = 2) ∧ e / 4 < 32) :
    ∃ N' S' G' K' C' : Nat → Nat, el_E N' S' G' K' C' (eu V (16 * L + b) e) ∧ ∀ post : SX → Prop, post (fc, fd, gf, gb, gc, dm, ow, mp, df, us, pw, (el_f N'), (el_f S'), (el_f G'), (el_f K'), (el_f C'), nm, co, dv, jr) → wpX_putBlock post (fc, fd, gf, gb, gc, dm, ow, mp, df, us, pw, (el_f N), (el_f S), (el_f G), (el_f K), (el_f C), nm, co, dv, jr) (nI L) (nI b) (nI e) := by
  have hW := hE L hL
  have hs := el_Es hE hL
  obtain ⟨r, hr, hrs⟩ := el_r hW b
  have hh := el_hole hW hb hV hrs
  obtain ⟨h16, E1⟩ := el_Ein (L := L) (i := r) (s0 := b) (l0 := 1) (e0 := e) hE hL rfl hr (by omega) (by omega) (by omega) he.1 (fun j hj => hh.1 j hj (by omega)) hh.2
  have E1 := el_Ec (V' := eu V (16 * L + b) e) E1 (fun y _ => by
    try dsimp only
    by_cases z : y = 16 * L + b
    · subst z; rw [eu_s, if_pos (by omega)]; omega
    · rw [eu_n z, if_neg (by omega)])
  obtain ⟨N2, S2, G2, K2, C2, E2, w2⟩ := ex_jn (fc := fc) (fd := fd) (gf := gf) (gb := gb) (gc := gc) (dm := dm) (ow := ow) (mp := mp) (df := df) (us := us) (pw := pw) (nm := nm) (co := co) (dv := dv) (jr := jr) (i := r) E1 hL (by omega)
  have fin : ∃ N' S' G' K' C' : Nat → Nat, el_E N' S' G' K' C' (eu V (16 * L + b) e) ∧ ∀ post : SX → Prop, post (fc, fd, gf, gb, gc, dm, ow, mp, df, us, pw, (el_f N'), (el_f S'), (el_f G'), (el_f K'), (el_f C'), nm, co, dv, jr) → wpX_joinNext post (fc, fd, gf, gb, gc, dm, ow, mp, df, us, pw, (el_f N2), (el_f S2), (el_f G2), (el_f K2), (el_f C2), nm, co, dv, jr) (nI L) (nI r - 1) := by
    cases r with
    | zero => exact ⟨_, _, _, _, _, E2, fun post h => ex_jn0 h⟩
    | succ q =>
      rw [nI_pred]
      exact ex_jn E2 hL (by omega)
  obtain ⟨N3, S3, G3, K3, C3, E3, w3⟩ := fin
  refine ⟨N3, S3, G3, K3, C3, E3, fun post h => ?_⟩
  unfold wpX_putBlock
  refine ex_la hL hb hs.1 hr hs.2 hrs (nm_r (e' := nI r) (by rw [Int32.add_assoc, show (-1 : Int32) + 1 = 0 from by decide, Int32.add_zero]) ?_)
  exact ex_in (l0 := 1) hL rfl h16 hr (by omega) (w2 _ (w3 _ h))
/-- carve, behind the first half -/
theorem ex_cv2 {L i b rest e : Nat} {x3 : Int32} (hE : el_E N S G K C V) (hL : L < 8) (hb : b < 16) (hx : x3 + 1 = nI i) (hi : i ≤ N L) (hr : b + 1 + rest ≤ 16) (he : (e % 4 = 1 ∨ e % 4 = 2) ∧ e / 4 + rest ≤ 32)
    (hlo : ∀ j, j < i → S (16 * L + j) + G (16 * L + j) ≤ b + 1) (hhi : ∀ j, i ≤ j → j < N L → b + 1 + rest ≤ S (16 * L + j)) :
    ∃ N' S' G' K' C' : Nat → Nat, el_E N' S' G' K' C' (fun y => if 16 * L + (b + 1) ≤ y ∧ y < 16 * L + (b + 1) + rest then 4 * (e / 4 + (y - (16 * L + (b + 1)))) + e % 4 else V y) ∧
      ∀ post : SX → Prop, post (fc, fd, gf, gb, gc, dm, ow, mp, df, us, pw, (el_f N'), (el_f S'), (el_f G'), (el_f K'), (el_f C'), nm, co, dv, jr) → wX_carve_101 post (nI L) (nI b) x3 (nI rest) (nI e) fc fd gf gb gc dm ow mp df us pw (el_f N) (el_f S) (el_f G) (el_f K) (el_f C) nm co dv jr := by
  by_cases z : rest = 0
  · subst z
    refine ⟨N, S, G, K, C, el_Ec hE (fun y _ => if_neg (by omega)), fun post h => ?_⟩
    unfold wX_carve_101
    exact br_t (by decide) h
  · obtain ⟨h16, E1⟩ := el_Ein (L := L) (i := i) (s0 := b + 1) (l0 := rest) (e0 := e) hE hL rfl hi (by omega) hr he.2 he.1 hlo hhi
    refine ⟨_, _, _, _, _, E1, fun post h => ?_⟩
    unfold wX_carve_101
    rw [hx, nI_1]
    exact br_f (nI_nle (by omega) (by omega)) (ex_in hL rfl h16 hi (by omega) h)
/-- an entry goes -/
theorem ex_cv {L b : Nat} (hE : el_E N S G K C V) (hL : L < 8) (hb : b < 16) (hV : V (16 * L + b) ≠ 0) :
    ∃ N' S' G' K' C' : Nat → Nat, el_E N' S' G' K' C' (eu V (16 * L + b) 0) ∧ ∀ post : SX → Prop, post (fc, fd, gf, gb, gc, dm, ow, mp, df, us, pw, (el_f N'), (el_f S'), (el_f G'), (el_f K'), (el_f C'), nm, co, dv, jr) → wpX_carve post (fc, fd, gf, gb, gc, dm, ow, mp, df, us, pw, (el_f N), (el_f S), (el_f G), (el_f K), (el_f C), nm, co, dv, jr) (nI L) (nI b) := by
  have hW := hE L hL
  have hs := el_Es hE hL
  obtain ⟨r, hr, hrs⟩ := el_r hW b
  cases r with
  | zero => exact absurd (el_V0 hW hb hrs) hV
  | succ q =>
    have hq : q < N L := by omega
    have z : b - S (16 * L + q) < G (16 * L + q) := by
      rcases Nat.lt_or_ge (b - S (16 * L + q)) (G (16 * L + q)) with y | y
      · exact y
      · exact absurd (el_V2 hW hb hq hrs (Nat.not_lt.mpr y)).2 hV
    have v1 := el_V1 hW hq hrs z
    have sb : S (16 * L + q) ≤ b := v1.1
    have a := hW.1 q hq
    have d := hW.2.1
    have h3 := hW.2.2.1 q
    dsimp only at a d h3
    have ix : vp_in (nI (16 * L + q)) 128 := vp_in_nI (by omega) (by omega)
    have m : nI L * 16 + nI q = nI (16 * L + q) := by rw [show (16 : Int32) = nI 16 from rfl, pk_mul, nI_add, Nat.mul_comm]
    obtain ⟨o, ho⟩ : ∃ o, o = b - S (16 * L + q) := ⟨_, rfl⟩
    obtain ⟨t, ht⟩ : ∃ t, t = G (16 * L + q) - o - 1 := ⟨_, rfl⟩
    obtain ⟨e, he⟩ : ∃ e, e = 4 * (C (16 * L + q) + o + 1) + K (16 * L + q) := ⟨_, rfl⟩
    have he4 : e / 4 = C (16 * L + q) + o + 1 := by omega
    have hek : e % 4 = K (16 * L + q) := by omega
    have last : ∀ Y : Nat → Nat, (∀ y, Y y = if 16 * L + b ≤ y ∧ y < 16 * L + S (16 * L + q) + G (16 * L + q) then 0 else V y) →
        ∀ y, y < 128 → eu V (16 * L + b) 0 y = (fun y => if 16 * L + (b + 1) ≤ y ∧ y < 16 * L + (b + 1) + t then 4 * (e / 4 + (y - (16 * L + (b + 1)))) + e % 4 else Y y) y := by
      intro Y hY y hy
      dsimp only
      by_cases w : y = 16 * L + b
      · subst w; rw [eu_s, if_neg (by omega), hY, if_pos (by omega)]
      · rw [eu_n w]
        by_cases w2 : 16 * L + (b + 1) ≤ y ∧ y < 16 * L + (b + 1) + t
        · rw [if_pos w2, hek, he4]
          have := h3 (y - 16 * L) hq (by omega) (by omega)
          rw [show 16 * L + (y - 16 * L) = y by omega] at this
          omega
        · rw [if_neg w2, hY, if_neg (by omega)]
    have main : ∃ N' S' G' K' C' : Nat → Nat, el_E N' S' G' K' C' (eu V (16 * L + b) 0) ∧ ∀ post : SX → Prop, post (fc, fd, gf, gb, gc, dm, ow, mp, df, us, pw, (el_f N'), (el_f S'), (el_f G'), (el_f K'), (el_f C'), nm, co, dv, jr) →
        ((nI o ≤ 0 → wpX_removeExtent (fun u => match u with | (f1, f2, f3, f4, f5, f6, f7, f8, f9, f10, f11, f12, f13, f14, f15, f16, f17, f18, f19, f20) => ∀ x : Int32, x = nI q + (-1) → wX_carve_101 post (nI L) (nI b) x (nI t) (nI e) f1 f2 f3 f4 f5 f6 f7 f8 f9 f10 f11 f12 f13 f14 f15 f16 f17 f18 f19 f20) (fc, fd, gf, gb, gc, dm, ow, mp, df, us, pw, (el_f N), (el_f S), (el_f G), (el_f K), (el_f C), nm, co, dv, jr) (nI L) (nI q)) ∧
         (¬ nI o ≤ 0 → (vp_in (nI (16 * L + q)) 128 ∧ ∀ y : Nat → Int32, y = upd (el_f G) (16 * L + q) (nI o) → wX_carve_101 post (nI L) (nI b) (nI q) (nI t) (nI e) fc fd gf gb gc dm ow mp df us pw (el_f N) (el_f S) y (el_f K) (el_f C) nm co dv jr))) := by
      by_cases o0 : o = 0
      · have E1 := el_Erm hE hL rfl hq
        obtain ⟨N2, S2, G2, K2, C2, E2, w2⟩ := ex_cv2 (fc := fc) (fd := fd) (gf := gf) (gb := gb) (gc := gc) (dm := dm) (ow := ow) (mp := mp) (df := df) (us := us) (pw := pw) (nm := nm) (co := co) (dv := dv) (jr := jr) (x3 := nI q + (-1)) (i := q) (b := b) (rest := t) (e := e) E1 hL hb
          (by rw [Int32.add_assoc, show (-1 : Int32) + 1 = 0 from by decide, Int32.add_zero]) (by rw [eu_s]; omega) (by omega) ⟨by omega, by omega⟩
          (fun j hj => by
            obtain ⟨n, hn⟩ : ∃ n', N L = n' + 1 := ⟨N L - 1, by omega⟩
            rw [hn, el_rmg (by omega), el_rmg (by omega), el_sg1 hj]
            have := d j q hj hq
            omega)
          (fun j hj hj2 => by
            rw [eu_s] at hj2
            obtain ⟨n, hn⟩ : ∃ n', N L = n' + 1 := ⟨N L - 1, by omega⟩
            rw [hn, el_rmg (by omega), el_sg2 (by omega)]
            have := d q (j + 1) (by omega) (by omega)
            omega)
        refine ⟨N2, S2, G2, K2, C2, el_Ec E2 (last _ (fun y => by rw [show S (16 * L + q) = b by omega])), fun post h => ?_⟩
        rw [o0]
        exact br_t (by decide) (ex_re hL rfl hs.1 hq (nm_e (w2 post h)))
      · have E1 := el_Esh (o := o) hE hL rfl hq (by omega) (by omega)
        obtain ⟨N2, S2, G2, K2, C2, E2, w2⟩ := ex_cv2 (fc := fc) (fd := fd) (gf := gf) (gb := gb) (gc := gc) (dm := dm) (ow := ow) (mp := mp) (df := df) (us := us) (pw := pw) (nm := nm) (co := co) (dv := dv) (jr := jr) (x3 := nI q) (i := q + 1) (b := b) (rest := t) (e := e) E1 hL hb
          (nI_1 q) (by omega) (by omega) ⟨by omega, by omega⟩
          (fun j hj => by
            by_cases w : j = q
            · subst w; rw [eu_s]; omega
            · rw [eu_n (by omega)]
              have := d j q (by omega) hq
              omega)
          (fun j hj hj2 => by
            have := d q j (by omega) hj2
            omega)
        refine ⟨N2, S2, G2, K2, C2, el_Ec E2 (last _ (fun y => by rw [show 16 * L + S (16 * L + q) + o = 16 * L + b by omega])), fun post h => ?_⟩
        refine br_f (nI_nle (by omega) (by omega)) ⟨ix, ?_⟩
        rw [el_fu]
        exact nm_e (w2 post h)
    obtain ⟨N2, S2, G2, K2, C2, E2, w2⟩ := main
    refine ⟨N2, S2, G2, K2, C2, E2, fun post h => ?_⟩
    have w3 := w2 post h
    unfold wpX_carve
    refine ex_la hL hb hs.1 hr hs.2 hrs ?_
    rw [pk_m1, m]
    refine br_t (nI_pos' (by omega)) (nm_e ⟨ix, ?_⟩)
    rw [el_fa (by omega), el_fa (by omega), el_fa (by omega), el_fa (by omega), nI_clamp (show 16 * L + q < 2 ^ 31 by omega)]
    refine nm_r (e' := nI o) (by rw [pk_sub sb, ho]) ⟨ix, nm_r (e' := nI t) (by rw [pk_sub (by omega), show (1 : Int32) = nI 1 from rfl, pk_sub (by omega), ht]) (br_t (nI_pos' (by omega)) ⟨ix, ix, nm_r (e' := nI e) ?_ w3⟩)⟩
    rw [nI_add, nI_1, el_pack _ (by omega) _ (by omega), he]
end
end
section
/-! the reverse map, own places, used cells -/
def en_Q (V : Nat → Nat) (m c p : Nat) : Prop := V (64 * m + p) ≠ 0 ∧ V (64 * m + p) / 4 = c
theorem en_Q0 {V : Nat → Nat} {c p : Nat} : en_Q V 0 c p ↔ V p ≠ 0 ∧ V p / 4 = c := by
  unfold en_Q; rw [Nat.mul_zero, Nat.zero_add]
theorem en_Q1 {V : Nat → Nat} {c p : Nat} : en_Q V 1 c p ↔ V (64 + p) ≠ 0 ∧ V (64 + p) / 4 = c := by
  unfold en_Q; rw [Nat.mul_one]
theorem en_Qh {V : Nat → Nat} {c p : Nat} : (en_Q V 0 c p ∨ en_Q V 1 c p) ↔ ev_h V c p := by
  rw [en_Q0, en_Q1]; exact Iff.rfl
def en_M (Q : Nat → Nat → Nat → Prop) (nm : Nat → Int64) (ow us : Int64) : Prop :=
  (∀ m c p, m < 2 → c < 32 → p < 64 → (eb (nm (32 * m + c)) p ↔ Q m c p)) ∧
  (∀ p, p < 64 → (eb ow p ↔ ∃ c, c < 32 ∧ Q 0 c p ∧ ∀ q, q < 64 → (Q 0 c q ∨ Q 1 c q) → q = p)) ∧
  (∀ c, c < 64 → (eb us c ↔ c < 32 ∧ ∃ q, q < 64 ∧ (Q 0 c q ∨ Q 1 c q)))
theorem en_Mc {Q Q' : Nat → Nat → Nat → Prop} {nm : Nat → Int64} {ow us : Int64} (h : en_M Q nm ow us) (e : ∀ m c p, m < 2 → c < 32 → p < 64 → (Q' m c p ↔ Q m c p)) : en_M Q' nm ow us := by
  obtain ⟨h1, h2, h3⟩ := h
  refine ⟨fun m c p hm hc hp => ?_, fun p hp => ?_, fun c hc => ?_⟩
  · rw [e m c p hm hc hp]; exact h1 m c p hm hc hp
  · rw [h2 p hp]
    constructor
    · rintro ⟨c, hc, a, b⟩
      refine ⟨c, hc, (e 0 c p (by omega) hc hp).mpr a, fun q hq z => b q hq ?_⟩
      rw [e 0 c q (by omega) hc hq, e 1 c q (by omega) hc hq] at z
      exact z
    · rintro ⟨c, hc, a, b⟩
      refine ⟨c, hc, (e 0 c p (by omega) hc hp).mp a, fun q hq z => b q hq ?_⟩
      rw [e 0 c q (by omega) hc hq, e 1 c q (by omega) hc hq]
      exact z
  · rw [h3 c hc]
    constructor
    · rintro ⟨hc, q, hq, z⟩
      refine ⟨hc, q, hq, ?_⟩
      rw [e 0 c q (by omega) hc hq, e 1 c q (by omega) hc hq]
      exact z
    · rintro ⟨hc, q, hq, z⟩
      refine ⟨hc, q, hq, ?_⟩
      rw [e 0 c q (by omega) hc hq, e 1 c q (by omega) hc hq] at z
      exact z
theorem en_own {V : Nat → Nat} {nm : Nat → Int64} {ow us : Int64} (h : en_M (en_Q V) nm ow us) (hv : ∀ i, i < 128 → V i = 0 ∨ ((V i % 4 = 1 ∨ V i % 4 = 2) ∧ V i / 4 < 32)) {p : Nat} (hp : p < 64) : eb ow p ↔ ev_own V p := by
  rw [h.2.1 p hp]
  constructor
  · rintro ⟨c, hc, a, b⟩
    rw [en_Q0] at a
    refine ⟨a.1, fun q hq hn z => hn (b q hq ?_)⟩
    rw [en_Qh, ← a.2]; exact z
  · rintro ⟨a, b⟩
    have := hv p (by omega)
    refine ⟨V p / 4, by omega, en_Q0.mpr ⟨a, rfl⟩, fun q hq z => ?_⟩
    rw [en_Qh] at z
    by_cases e : q = p
    · exact e
    · exact absurd z (b q hq e)
theorem en_us {V : Nat → Nat} {nm : Nat → Int64} {ow us : Int64} (h : en_M (en_Q V) nm ow us) (hv : ∀ i, i < 128 → V i = 0 ∨ ((V i % 4 = 1 ∨ V i % 4 = 2) ∧ V i / 4 < 32)) {c : Nat} (hc : c < 64) : eb us c ↔ ev_us V c := by
  rw [h.2.2 c hc]
  constructor
  · rintro ⟨_, q, hq, z⟩
    exact ⟨q, hq, en_Qh.mp z⟩
  · rintro ⟨q, hq, z⟩
    refine ⟨?_, q, hq, en_Qh.mpr z⟩
    rcases z with z | z
    · have := hv q (by omega); omega
    · have := hv (64 + q) (by omega); omega
section
variable {fc fd gf gb gc : Int32} {dm ow mp df us : Int64} {pw : Int32} {N S G K C : Nat → Nat} {nm : Nat → Int64} {co dv jr : Nat → Int32}
theorem ex_so {c : Nat} (hc : c < 32) : ∃ r : Int64, (∀ i, i < 64 → (eb r i ↔ eb (nm c) i ∧ ∀ q, q < 64 → (eb (nm c) q ∨ eb (nm (32 + c)) q) → q = i)) ∧ ∀ post : Int64 → Prop, post r → wpX_soleOwner post (fc, fd, gf, gb, gc, dm, ow, mp, df, us, pw, (el_f N), (el_f S), (el_f G), (el_f K), (el_f C), nm, co, dv, jr) (nI c) := by
  have e1 : (32 : Int32) + nI c = nI (32 + c) := nI_add 32 c
  have i1 : vp_in (nI c) 64 := vp_in_nI (by omega) (by omega)
  have i2 : vp_in (nI (32 + c)) 64 := vp_in_nI (by omega) (by omega)
  have sg := eb_sing (nm c ||| nm (32 + c))
  by_cases z : ((nm c ||| nm (32 + c)) &&& ((nm c ||| nm (32 + c)) - 1)) = 0
  · have zz := sg.mp z
    by_cases y : nm c = nm c ||| nm (32 + c)
    · refine ⟨nm c ||| nm (32 + c), fun i hi => ?_, fun post h => ?_⟩
      · constructor
        · intro a
          refine ⟨by rw [y]; exact a, fun q hq b => zz q i hq hi ((eb_or _ _ _).mpr b) a⟩
        · rintro ⟨a, b⟩
          exact (eb_or _ _ _).mpr (Or.inl a)
      · unfold wpX_soleOwner wX_soleOwner_32
        dsimp only
        rw [e1, nI_clamp (show c < 2 ^ 31 by omega), nI_clamp (show 32 + c < 2 ^ 31 by omega)]
        exact ⟨i1, i2, nm_e (br_t z (br_f (by decide) ⟨i1, br_t y h⟩))⟩
    · refine ⟨0, fun i hi => ⟨fun a => absurd a (eb_0 i), ?_⟩, fun post h => ?_⟩
      · rintro ⟨a, b⟩
        refine absurd (eb_ext (fun q hq => ?_)) y
        rw [eb_or]
        constructor
        · exact Or.inl
        · intro t
          rw [b q hq t]; exact a
      · unfold wpX_soleOwner wX_soleOwner_32
        dsimp only
        rw [e1, nI_clamp (show c < 2 ^ 31 by omega), nI_clamp (show 32 + c < 2 ^ 31 by omega)]
        exact ⟨i1, i2, nm_e (br_t z (br_f (by decide) ⟨i1, br_f y h⟩))⟩
  · refine ⟨0, fun i hi => ⟨fun a => absurd a (eb_0 i), ?_⟩, fun post h => ?_⟩
    · rintro ⟨a, b⟩
      refine absurd (sg.mpr (fun q r hq hr t w => ?_)) z
      rw [eb_or] at t w
      rw [b q hq t, b r hr w]
    · unfold wpX_soleOwner wX_soleOwner_32
      dsimp only
      rw [e1, nI_clamp (show c < 2 ^ 31 by omega), nI_clamp (show 32 + c < 2 ^ 31 by omega)]
      exact ⟨i1, i2, nm_e (br_f z (br_t rfl h))⟩
theorem ex_tg {Q Q' : Nat → Nat → Nat → Prop} {m p c : Nat} (hm : m < 2) (hp : p < 64) (hc : c < 32) (hM : en_M Q nm ow us) (fn : ∀ q a b, q < 64 → Q 0 a q → Q 0 b q → a = b)
    (hQ1 : Q' m c p ↔ ¬ Q m c p) (hQ2 : ∀ m' c' p', m' < 2 → c' < 32 → p' < 64 → ¬ (m' = m ∧ c' = c ∧ p' = p) → (Q' m' c' p' ↔ Q m' c' p')) :
    ∃ (ow' us' : Int64) (nm' : Nat → Int64), en_M Q' nm' ow' us' ∧ ∀ post : SX → Prop, post (fc, fd, gf, gb, gc, dm, ow', mp, df, us', pw, (el_f N), (el_f S), (el_f G), (el_f K), (el_f C), nm', co, dv, jr) → wpX_toggleName post (fc, fd, gf, gb, gc, dm, ow, mp, df, us, pw, (el_f N), (el_f S), (el_f G), (el_f K), (el_f C), nm, co, dv, jr) (nI m) (nI p) (nI c) := by
  obtain ⟨h1, h2, h3⟩ := hM
  obtain ⟨r1, b1, w1⟩ := ex_so (fc := fc) (fd := fd) (gf := gf) (gb := gb) (gc := gc) (dm := dm) (ow := ow) (mp := mp) (df := df) (us := us) (pw := pw) (N := N) (S := S) (G := G) (K := K) (C := C) (nm := nm) (co := co) (dv := dv) (jr := jr) hc
  obtain ⟨x, hx⟩ : ∃ x, x = nm (32 * m + c) ^^^ ((1 : Int64) <<< ((nI p).toInt64 &&& 63)) := ⟨_, rfl⟩
  obtain ⟨nm2, hnm⟩ : ∃ nm2, nm2 = vp_updL nm (32 * m + c) x := ⟨_, rfl⟩
  obtain ⟨r2, b2, w2⟩ := ex_so (fc := fc) (fd := fd) (gf := gf) (gb := gb) (gc := gc) (dm := dm) (ow := ow &&& (r1 ^^^ (-1))) (mp := mp) (df := df) (us := us) (pw := pw) (N := N) (S := S) (G := G) (K := K) (C := C) (nm := nm2) (co := co) (dv := dv) (jr := jr) hc
  -- the names
  have n1 : ∀ m' c' p', m' < 2 → c' < 32 → p' < 64 → (eb (nm2 (32 * m' + c')) p' ↔ Q' m' c' p') := by
    intro m' c' p' hm' hc' hp'
    rw [hnm]
    by_cases e : 32 * m' + c' = 32 * m + c
    · have em : m' = m := by omega
      have ec : c' = c := by omega
      subst em ec
      rw [pk_uLs, hx, eb_xor, eb_1 hp hp', h1 m' c' p' hm' hc' hp']
      by_cases ep : p' = p
      · subst ep
        rw [hQ1]
        exact ⟨fun a b => a ⟨fun _ => rfl, fun _ => b⟩, fun a b => a (b.mpr rfl)⟩
      · rw [hQ2 m' c' p' hm' hc' hp' (fun t => ep t.2.2)]
        constructor
        · intro a
          by_cases y : Q m' c' p'
          · exact y
          · exact absurd ⟨fun t => absurd t y, fun t => absurd t ep⟩ a
        · intro a b
          exact ep (b.mp a)
    · rw [pk_uLn e, hQ2 m' c' p' hm' hc' hp' (fun t => e (by rw [t.1, t.2.1]))]
      exact h1 m' c' p' hm' hc' hp'
  have a0 : ∀ q, q < 64 → (eb (nm c) q ↔ Q 0 c q) := fun q hq => by
    have := h1 0 c q (by omega) hc hq
    rw [Nat.mul_zero, Nat.zero_add] at this; exact this
  have a1 : ∀ q, q < 64 → (eb (nm (32 + c)) q ↔ Q 1 c q) := fun q hq => by
    have := h1 1 c q (by omega) hc hq
    rw [Nat.mul_one] at this; exact this
  have a0' : ∀ q, q < 64 → (eb (nm2 c) q ↔ Q' 0 c q) := fun q hq => by
    have := n1 0 c q (by omega) hc hq
    rw [Nat.mul_zero, Nat.zero_add] at this; exact this
  have a1' : ∀ q, q < 64 → (eb (nm2 (32 + c)) q ↔ Q' 1 c q) := fun q hq => by
    have := n1 1 c q (by omega) hc hq
    rw [Nat.mul_one] at this; exact this
  have s1 : ∀ i, i < 64 → (eb r1 i ↔ Q 0 c i ∧ ∀ q, q < 64 → (Q 0 c q ∨ Q 1 c q) → q = i) := by
    intro i hi
    rw [b1 i hi, a0 i hi]
    constructor
    · rintro ⟨x, y⟩
      exact ⟨x, fun q hq t => y q hq (by rw [a0 q hq, a1 q hq]; exact t)⟩
    · rintro ⟨x, y⟩
      exact ⟨x, fun q hq t => y q hq (by rw [a0 q hq, a1 q hq] at t; exact t)⟩
  have s2 : ∀ i, i < 64 → (eb r2 i ↔ Q' 0 c i ∧ ∀ q, q < 64 → (Q' 0 c q ∨ Q' 1 c q) → q = i) := by
    intro i hi
    rw [b2 i hi, a0' i hi]
    constructor
    · rintro ⟨x, y⟩
      exact ⟨x, fun q hq t => y q hq (by rw [a0' q hq, a1' q hq]; exact t)⟩
    · rintro ⟨x, y⟩
      exact ⟨x, fun q hq t => y q hq (by rw [a0' q hq, a1' q hq] at t; exact t)⟩
  have oth : ∀ m' c' p', m' < 2 → c' < 32 → p' < 64 → c' ≠ c → (Q' m' c' p' ↔ Q m' c' p') := fun m' c' p' hm' hc' hp' e => hQ2 m' c' p' hm' hc' hp' (fun t => e t.2.1)
  have n2 : ∀ i, i < 64 → (eb ((ow &&& (r1 ^^^ (-1))) ||| r2) i ↔ ∃ c, c < 32 ∧ Q' 0 c i ∧ ∀ q, q < 64 → (Q' 0 c q ∨ Q' 1 c q) → q = i) := by
    intro i hi
    rw [eb_or, eb_and, eb_not _ hi, h2 i hi, s1 i hi, s2 i hi]
    constructor
    · rintro (⟨⟨c', hc', x, y⟩, no⟩ | t)
      · have e : c' ≠ c := by rintro rfl; exact no ⟨x, y⟩
        refine ⟨c', hc', (oth 0 c' i (by omega) hc' hi e).mpr x, fun q hq t => y q hq ?_⟩
        rw [oth 0 c' q (by omega) hc' hq e, oth 1 c' q (by omega) hc' hq e] at t
        exact t
      · exact ⟨c, hc, t⟩
    · rintro ⟨c', hc', x, y⟩
      by_cases e : c' = c
      · subst e; exact Or.inr ⟨x, y⟩
      · have x' := (oth 0 c' i (by omega) hc' hi e).mp x
        refine Or.inl ⟨⟨c', hc', x', fun q hq t => y q hq ?_⟩, fun t => e (fn i c' c hi x' t.1)⟩
        rw [oth 0 c' q (by omega) hc' hq e, oth 1 c' q (by omega) hc' hq e]
        exact t
  have u0 : ((nm2 c) ||| (nm2 (32 + c))) = 0 ↔ ¬ ∃ q, q < 64 ∧ (Q' 0 c q ∨ Q' 1 c q) := by
    rw [eb_z]
    constructor
    · rintro a ⟨q, hq, t⟩
      apply a q hq
      rw [eb_or, a0' q hq, a1' q hq]; exact t
    · intro a q hq t
      rw [eb_or, a0' q hq, a1' q hq] at t
      exact a ⟨q, hq, t⟩
  have e1 : (32 : Int32) + nI c = nI (32 + c) := nI_add 32 c
  have e2 : nI m * 32 + nI c = nI (32 * m + c) := by rw [show (32 : Int32) = nI 32 from rfl, pk_mul, nI_add, Nat.mul_comm]
  have i0 : vp_in (nI (32 * m + c)) 64 := vp_in_nI (by omega) (by omega)
  have i1 : vp_in (nI c) 64 := vp_in_nI (by omega) (by omega)
  have i2 : vp_in (nI (32 + c)) 64 := vp_in_nI (by omega) (by omega)
  have u3 : ∀ c', c' < 64 → c' ≠ c → (eb us c' ↔ c' < 32 ∧ ∃ q, q < 64 ∧ (Q' 0 c' q ∨ Q' 1 c' q)) := by
    intro c' hc' e
    rw [h3 c' hc']
    constructor
    · rintro ⟨l, q, hq, t⟩
      refine ⟨l, q, hq, ?_⟩
      rw [oth 0 c' q (by omega) l hq e, oth 1 c' q (by omega) l hq e]; exact t
    · rintro ⟨l, q, hq, t⟩
      refine ⟨l, q, hq, ?_⟩
      rw [oth 0 c' q (by omega) l hq e, oth 1 c' q (by omega) l hq e] at t; exact t
  by_cases z : ((nm2 c) ||| (nm2 (32 + c))) = 0
  · refine ⟨(ow &&& (r1 ^^^ (-1))) ||| r2, eb_cl us c, nm2, ⟨n1, n2, fun c' hc' => ?_⟩, fun post h => ?_⟩
    · rw [eb_cli us (by omega) hc']
      by_cases e : c' = c
      · subst e
        exact ⟨fun t => absurd rfl t.2, fun t => absurd t.2 (u0.mp z)⟩
      · rw [u3 c' hc' e]
        exact ⟨fun t => t.1, fun t => ⟨t, e⟩⟩
    · unfold wpX_toggleName
      refine w1 _ (nm_e ?_)
      rw [e2, e1, nI_clamp (show 32 * m + c < 2 ^ 31 by omega), nI_clamp (show c < 2 ^ 31 by omega), nI_clamp (show 32 + c < 2 ^ 31 by omega)]
      refine ⟨i0, i0, nm_r (e' := nm2) (by rw [hnm, hx]) (w2 _ (nm_e ⟨i1, i2, br_t z ?_⟩))⟩
      unfold wX_toggleName_82
      exact ex_w0 _ h
  · refine ⟨(ow &&& (r1 ^^^ (-1))) ||| r2, eb_st us c, nm2, ⟨n1, n2, fun c' hc' => ?_⟩, fun post h => ?_⟩
    · rw [eb_sti us (by omega) hc']
      by_cases e : c' = c
      · subst e
        exact ⟨fun t => ⟨hc, Classical.not_not.mp (fun y => z (u0.mpr y))⟩, fun t => Or.inr rfl⟩
      · rw [u3 c' hc' e]
        exact ⟨fun t => t.resolve_right e, fun t => Or.inl t⟩
    · unfold wpX_toggleName
      refine w1 _ (nm_e ?_)
      rw [e2, e1, nI_clamp (show 32 * m + c < 2 ^ 31 by omega), nI_clamp (show c < 2 ^ 31 by omega), nI_clamp (show 32 + c < 2 ^ 31 by omega)]
      refine ⟨i0, i0, nm_r (e' := nm2) (by rw [hnm, hx]) (w2 _ (nm_e ⟨i1, i2, br_f z ?_⟩))⟩
      unfold wX_toggleName_82
      exact ex_w1 _ h
end
end
section
/-! what the component keeps beside its lists, and assign -/
def ex_O (V : Nat → Nat) (ow mp df us : Int64) (N S G K C : Nat → Nat) (nm : Nat → Int64) : Prop :=
  el_E N S G K C V ∧ en_M (en_Q V) nm ow us ∧ (∀ p, p < 64 → (eb mp p ↔ V p ≠ 0)) ∧ (∀ p, p < 64 → (eb df p ↔ V p ≠ V (64 + p)))
theorem ex_Oc {V V' : Nat → Nat} {ow mp df us : Int64} {N S G K C : Nat → Nat} {nm : Nat → Int64} (h : ex_O V ow mp df us N S G K C nm) (e : ∀ i, i < 128 → V' i = V i) : ex_O V' ow mp df us N S G K C nm := by
  obtain ⟨h1, h2, h3, h4⟩ := h
  refine ⟨el_Ec h1 e, en_Mc h2 (fun m c p hm hc hp => ?_), fun p hp => ?_, fun p hp => ?_⟩
  · unfold en_Q; rw [e _ (by omega)]
  · rw [e p (by omega)]; exact h3 p hp
  · rw [e p (by omega), e (64 + p) (by omega)]; exact h4 p hp
theorem en_fn {V : Nat → Nat} : ∀ q a b, q < 64 → en_Q V 0 a q → en_Q V 0 b q → a = b := by
  intro q a b _ h1 h2
  exact h1.2.symm.trans h2.2
/-- one entry goes: its name goes -/
theorem en_off {V : Nat → Nat} {m p : Nat} (hz : V (64 * m + p) ≠ 0) (hp : p < 64) :
    (en_Q (eu V (64 * m + p) 0) m (V (64 * m + p) / 4) p ↔ ¬ en_Q V m (V (64 * m + p) / 4) p) ∧
    ∀ m' c' p', m' < 2 → c' < 32 → p' < 64 → ¬ (m' = m ∧ c' = V (64 * m + p) / 4 ∧ p' = p) → (en_Q (eu V (64 * m + p) 0) m' c' p' ↔ en_Q V m' c' p') := by
  constructor
  · unfold en_Q
    rw [eu_s]
    exact ⟨fun t => absurd rfl t.1, fun t => absurd ⟨hz, rfl⟩ t⟩
  · intro m' c' p' hm' hc' hp' no
    unfold en_Q
    by_cases e : 64 * m' + p' = 64 * m + p
    · have em : m' = m := by omega
      have ep : p' = p := by omega
      subst em ep
      rw [eu_s]
      exact ⟨fun t => absurd rfl t.1, fun t => absurd ⟨rfl, t.2.symm, rfl⟩ no⟩
    · rw [eu_n e]
/-- one entry comes: its name comes -/
theorem en_on {V : Nat → Nat} {m p e : Nat} (hz : V (64 * m + p) = 0) (he : e ≠ 0) (hp : p < 64) :
    (en_Q (eu V (64 * m + p) e) m (e / 4) p ↔ ¬ en_Q V m (e / 4) p) ∧
    ∀ m' c' p', m' < 2 → c' < 32 → p' < 64 → ¬ (m' = m ∧ c' = e / 4 ∧ p' = p) → (en_Q (eu V (64 * m + p) e) m' c' p' ↔ en_Q V m' c' p') := by
  constructor
  · unfold en_Q
    rw [eu_s, hz]
    exact ⟨fun t y => y.1 rfl, fun t => ⟨he, rfl⟩⟩
  · intro m' c' p' hm' hc' hp' no
    unfold en_Q
    by_cases f : 64 * m' + p' = 64 * m + p
    · have em : m' = m := by omega
      have ep : p' = p := by omega
      subst em ep
      rw [eu_s, hz]
      exact ⟨fun t => absurd ⟨rfl, t.2.symm, rfl⟩ no, fun t => absurd rfl t.1⟩
    · rw [eu_n f]
section
variable {fc fd gf gb gc : Int32} {dm ow mp df us : Int64} {pw : Int32} {N S G K C : Nat → Nat} {nm : Nat → Int64} {co dv jr : Nat → Int32} {V : Nat → Nat}
theorem ex_as73 {p : Nat} (hE : el_E N S G K C V) (hp : p < 64) (hm : ∀ q, q < 64 → q ≠ p → (eb mp q ↔ V q ≠ 0)) (hd : ∀ q, q < 64 → q ≠ p → (eb df q ↔ V q ≠ V (64 + q))) :
    ∃ mp' df' : Int64, (∀ q, q < 64 → (eb mp' q ↔ V q ≠ 0)) ∧ (∀ q, q < 64 → (eb df' q ↔ V q ≠ V (64 + q))) ∧ ∀ post : SX → Prop, post (fc, fd, gf, gb, gc, dm, ow, mp', df', us, pw, (el_f N), (el_f S), (el_f G), (el_f K), (el_f C), nm, co, dv, jr) → wX_assign_73 post (nI p) fc fd gf gb gc dm ow mp df us pw (el_f N) (el_f S) (el_f G) (el_f K) (el_f C) nm co dv jr := by
  have v0 := el_Ev hE (i := p) (by omega)
  have v1 := el_Ev hE (i := 64 + p) (by omega)
  have x1 : ∃ mp' : Int64, (∀ q, q < 64 → (eb mp' q ↔ V q ≠ 0)) ∧ ((V p = 0 ∧ mp' = eb_cl mp p) ∨ (V p ≠ 0 ∧ mp' = eb_st mp p)) := by
    by_cases z : V p = 0
    · refine ⟨eb_cl mp p, fun q hq => ?_, Or.inl ⟨z, rfl⟩⟩
      rw [eb_cli mp hp hq]
      by_cases e : q = p
      · subst e; exact ⟨fun t => absurd rfl t.2, fun t => absurd z t⟩
      · rw [hm q hq e]; exact ⟨fun t => t.1, fun t => ⟨t, e⟩⟩
    · refine ⟨eb_st mp p, fun q hq => ?_, Or.inr ⟨z, rfl⟩⟩
      rw [eb_sti mp hp hq]
      by_cases e : q = p
      · subst e; exact ⟨fun t => z, fun t => Or.inr rfl⟩
      · rw [hm q hq e]; exact ⟨fun t => t.resolve_right e, Or.inl⟩
  have x2 : ∃ df' : Int64, (∀ q, q < 64 → (eb df' q ↔ V q ≠ V (64 + q))) ∧ ((V p = V (64 + p) ∧ df' = eb_cl df p) ∨ (V p ≠ V (64 + p) ∧ df' = eb_st df p)) := by
    by_cases z : V p = V (64 + p)
    · refine ⟨eb_cl df p, fun q hq => ?_, Or.inl ⟨z, rfl⟩⟩
      rw [eb_cli df hp hq]
      by_cases e : q = p
      · subst e; exact ⟨fun t => absurd rfl t.2, fun t => absurd z t⟩
      · rw [hd q hq e]; exact ⟨fun t => t.1, fun t => ⟨t, e⟩⟩
    · refine ⟨eb_st df p, fun q hq => ?_, Or.inr ⟨z, rfl⟩⟩
      rw [eb_sti df hp hq]
      by_cases e : q = p
      · subst e; exact ⟨fun t => z, fun t => Or.inr rfl⟩
      · rw [hd q hq e]; exact ⟨fun t => t.resolve_right e, Or.inl⟩
  obtain ⟨mp', m1, m2⟩ := x1
  obtain ⟨df', d1, d2⟩ := x2
  refine ⟨mp', df', m1, d1, fun post h => ?_⟩
  have c106 : wpX_withBit (fun r_69 => (((nI (V p) = nI (V (64 + p)) → (wX_assign_131 post 0 (nI p) df fc fd gf gb gc dm ow r_69 df us pw (el_f N) (el_f S) (el_f G) (el_f K) (el_f C) nm co dv jr)) ∧ (¬ nI (V p) = nI (V (64 + p)) → (wX_assign_131 post 1 (nI p) df fc fd gf gb gc dm ow r_69 df us pw (el_f N) (el_f S) (el_f G) (el_f K) (el_f C) nm co dv jr))))) (fc, fd, gf, gb, gc, dm, ow, mp, df, us, pw, (el_f N), (el_f S), (el_f G), (el_f K), (el_f C), nm, co, dv, jr) mp (nI p) 0 ∧ V p = 0 ∨
      wpX_withBit (fun r_69 => (((nI (V p) = nI (V (64 + p)) → (wX_assign_131 post 0 (nI p) df fc fd gf gb gc dm ow r_69 df us pw (el_f N) (el_f S) (el_f G) (el_f K) (el_f C) nm co dv jr)) ∧ (¬ nI (V p) = nI (V (64 + p)) → (wX_assign_131 post 1 (nI p) df fc fd gf gb gc dm ow r_69 df us pw (el_f N) (el_f S) (el_f G) (el_f K) (el_f C) nm co dv jr))))) (fc, fd, gf, gb, gc, dm, ow, mp, df, us, pw, (el_f N), (el_f S), (el_f G), (el_f K), (el_f C), nm, co, dv, jr) mp (nI p) 1 ∧ V p ≠ 0 := by
    have k : ((nI (V p) = nI (V (64 + p)) → (wX_assign_131 post 0 (nI p) df fc fd gf gb gc dm ow mp' df us pw (el_f N) (el_f S) (el_f G) (el_f K) (el_f C) nm co dv jr)) ∧ (¬ nI (V p) = nI (V (64 + p)) → (wX_assign_131 post 1 (nI p) df fc fd gf gb gc dm ow mp' df us pw (el_f N) (el_f S) (el_f G) (el_f K) (el_f C) nm co dv jr))) := by
      refine pk_eq (V p) (V (64 + p)) (fun e => ?_) (fun e => ?_)
      · rcases d2 with ⟨_, d2⟩ | ⟨d2, _⟩
        · subst d2; unfold wX_assign_131; exact ex_w0 _ h
        · exact absurd e d2
      · rcases d2 with ⟨d2, _⟩ | ⟨_, d2⟩
        · exact absurd d2 e
        · subst d2; unfold wX_assign_131; exact ex_w1 _ h
    rcases m2 with ⟨z, m2⟩ | ⟨z, m2⟩
    · subst m2; exact Or.inl ⟨ex_w0 _ k, z⟩
    · subst m2; exact Or.inr ⟨ex_w1 _ k, z⟩
  unfold wX_assign_73
  refine ex_en (m := 0) hE (by omega) hp ?_
  refine ex_en (m := 1) hE (by omega) hp ?_
  rw [show 64 * 0 + p = p by omega, show 64 * 1 + p = 64 + p by omega]
  refine pk_eq (V p) 0 (fun e => ?_) (fun e => ?_)
  · unfold wX_assign_106
    rcases c106 with c | c
    · exact c.1
    · exact absurd e c.2
  · unfold wX_assign_106
    rcases c106 with c | c
    · exact absurd c.2 e
    · exact c.1
theorem ex_as49 {m p e : Nat} (hE : el_E N S G K C V) (hM : en_M (en_Q V) nm ow us) (hm2 : m < 2) (hp : p < 64) (hz : V (64 * m + p) = 0) (he : e = 0 ∨ ((e % 4 = 1 ∨ e % 4 = 2) ∧ e / 4 < 32)) (hm : ∀ q, q < 64 → q ≠ p → (eb mp q ↔ V q ≠ 0)) (hd : ∀ q, q < 64 → q ≠ p → (eb df q ↔ V q ≠ V (64 + q))) :
    ∃ (ow' mp' df' us' : Int64) (N' S' G' K' C' : Nat → Nat) (nm' : Nat → Int64), ex_O (eu V (64 * m + p) e) ow' mp' df' us' N' S' G' K' C' nm' ∧
      ∀ post : SX → Prop, post (fc, fd, gf, gb, gc, dm, ow', mp', df', us', pw, (el_f N'), (el_f S'), (el_f G'), (el_f K'), (el_f C'), nm', co, dv, jr) → wX_assign_49 post (nI m) (nI p) (nI e) (nI (4 * m + p / 16)) fc fd gf gb gc dm ow mp df us pw (el_f N) (el_f S) (el_f G) (el_f K) (el_f C) nm co dv jr := by
  by_cases z : e = 0
  · subst z
    have same : ∀ i, i < 128 → eu V (64 * m + p) 0 i = V i := by
      intro i _
      by_cases f : i = 64 * m + p
      · subst f; rw [eu_s, hz]
      · rw [eu_n f]
    obtain ⟨mp', df', m1, d1, w⟩ := ex_as73 (fc := fc) (fd := fd) (gf := gf) (gb := gb) (gc := gc) (dm := dm) (ow := ow) (us := us) (pw := pw) (nm := nm) (co := co) (dv := dv) (jr := jr) hE hp hm hd
    refine ⟨ow, mp', df', us, N, S, G, K, C, nm, ex_Oc ⟨hE, hM, m1, d1⟩ same, fun post h => ?_⟩
    unfold wX_assign_49
    exact br_t rfl (w post h)
  · have he := he.resolve_left z
    have eL : 64 * m + p = 16 * (4 * m + p / 16) + p % 16 := by omega
    have hp15 : nI p &&& 15 = nI (p % 16) := pk_andN (by omega) 4 (by decide)
    have pb := ex_pb (fc := fc) (fd := fd) (gf := gf) (gb := gb) (gc := gc) (dm := dm) (ow := ow) (mp := mp) (df := df) (us := us) (pw := pw) (nm := nm) (co := co) (dv := dv) (jr := jr) (L := 4 * m + p / 16) (b := p % 16) (e := e) hE (by omega) (by omega) (by rw [← eL]; exact hz) he
    rw [← eL] at pb
    obtain ⟨N', S', G', K', C', E1, w1⟩ := pb
    have on := en_on (e := e) hz z hp
    obtain ⟨ow', us', nm', M1, w2⟩ := ex_tg (fc := fc) (fd := fd) (gf := gf) (gb := gb) (gc := gc) (dm := dm) (mp := mp) (df := df) (pw := pw) (N := N') (S := S') (G := G') (K := K') (C := C') (co := co) (dv := dv) (jr := jr) hm2 hp he.2 hM en_fn on.1 on.2
    obtain ⟨mp', df', m1, d1, w⟩ := ex_as73 (fc := fc) (fd := fd) (gf := gf) (gb := gb) (gc := gc) (dm := dm) (ow := ow') (mp := mp) (df := df) (us := us') (pw := pw) (nm := nm') (co := co) (dv := dv) (jr := jr) E1 hp
      (fun q hq hn => by rw [hm q hq hn]; by_cases f : q = 64 * m + p
                         · omega
                         · rw [eu_n f])
      (fun q hq hn => by rw [hd q hq hn, eu_n (by omega), eu_n (by omega)])
    refine ⟨ow', mp', df', us', N', S', G', K', C', nm', ⟨E1, M1, m1, d1⟩, fun post h => ?_⟩
    unfold wX_assign_49
    rw [hp15, el_cell (by omega)]
    exact br_f (nI_ne0 (by omega) (by omega)) (w1 _ (w2 _ (w post h)))
theorem ex_as {m p e : Nat} (hO : ex_O V ow mp df us N S G K C nm) (hm2 : m < 2) (hp : p < 64) (he : e = 0 ∨ ((e % 4 = 1 ∨ e % 4 = 2) ∧ e / 4 < 32)) :
    ∃ (ow' mp' df' us' : Int64) (N' S' G' K' C' : Nat → Nat) (nm' : Nat → Int64), ex_O (eu V (64 * m + p) e) ow' mp' df' us' N' S' G' K' C' nm' ∧
      ∀ post : SX → Prop, post (fc, fd, gf, gb, gc, dm, ow', mp', df', us', pw, (el_f N'), (el_f S'), (el_f G'), (el_f K'), (el_f C'), nm', co, dv, jr) → wpX_assign post (fc, fd, gf, gb, gc, dm, ow, mp, df, us, pw, (el_f N), (el_f S), (el_f G), (el_f K), (el_f C), nm, co, dv, jr) (nI m) (nI p) (nI e) := by
  have hO' := hO
  obtain ⟨hE, hM, hm, hd⟩ := hO
  have eL : 64 * m + p = 16 * (4 * m + p / 16) + p % 16 := by omega
  have hp15 : nI p &&& 15 = nI (p % 16) := pk_andN (by omega) 4 (by decide)
  have hL : nI m * 4 + (nI p >>> ((4 : Int32) &&& 31)) = nI (4 * m + p / 16) := by
    rw [pk_shrN (by omega) _ 4 (by decide), show (4 : Int32) = nI 4 from rfl, pk_mul, nI_add]
    exact congrArg nI (by omega)
  have vv := el_Ev hE (i := 64 * m + p) (by omega)
  by_cases z : V (64 * m + p) = e
  · refine ⟨ow, mp, df, us, N, S, G, K, C, nm, ex_Oc hO' (fun i _ => ?_), fun post h => ?_⟩
    · by_cases f : i = 64 * m + p
      · subst f; rw [eu_s, z]
      · rw [eu_n f]
    · unfold wpX_assign
      refine ex_en hE hm2 hp (br_t (congrArg nI z) h)
  · have ne : ¬ nI (V (64 * m + p)) = nI e := by
      rw [nI_eq (by omega) (by omega)]; exact z
    by_cases y : V (64 * m + p) = 0
    · obtain ⟨ow', mp', df', us', N', S', G', K', C', nm', O1, w⟩ := ex_as49 (fc := fc) (fd := fd) (gf := gf) (gb := gb) (gc := gc) (dm := dm) (pw := pw) (co := co) (dv := dv) (jr := jr) (e := e) hE hM hm2 hp y he (fun q hq _ => hm q hq) (fun q hq _ => hd q hq)
      refine ⟨ow', mp', df', us', N', S', G', K', C', nm', O1, fun post h => ?_⟩
      unfold wpX_assign
      refine ex_en hE hm2 hp (br_f ne (nm_r hL (br_t (by rw [y]; rfl) (w post h))))
    · have vv := vv.resolve_left y
      have cv := ex_cv (fc := fc) (fd := fd) (gf := gf) (gb := gb) (gc := gc) (dm := dm) (ow := ow) (mp := mp) (df := df) (us := us) (pw := pw) (nm := nm) (co := co) (dv := dv) (jr := jr) (L := 4 * m + p / 16) (b := p % 16) hE (by omega) (by omega) (by rw [← eL]; exact y)
      rw [← eL] at cv
      obtain ⟨N1, S1, G1, K1, C1, E1, w1⟩ := cv
      have off := en_off y hp
      obtain ⟨ow1, us1, nm1, M1, w2⟩ := ex_tg (fc := fc) (fd := fd) (gf := gf) (gb := gb) (gc := gc) (dm := dm) (mp := mp) (df := df) (pw := pw) (N := N1) (S := S1) (G := G1) (K := K1) (C := C1) (co := co) (dv := dv) (jr := jr) hm2 hp vv.2 hM en_fn off.1 off.2
      obtain ⟨ow', mp', df', us', N', S', G', K', C', nm', O1, w⟩ := ex_as49 (fc := fc) (fd := fd) (gf := gf) (gb := gb) (gc := gc) (dm := dm) (mp := mp) (df := df) (pw := pw) (co := co) (dv := dv) (jr := jr) (e := e) E1 M1 hm2 hp eu_s he
        (fun q hq hn => by rw [hm q hq]; by_cases f : q = 64 * m + p
                           · omega
                           · rw [eu_n f])
        (fun q hq hn => by rw [hd q hq, eu_n (by omega), eu_n (by omega)])
      refine ⟨ow', mp', df', us', N', S', G', K', C', nm', ex_Oc O1 (fun i _ => ?_), fun post h => ?_⟩
      · by_cases f : i = 64 * m + p
        · subst f; rw [eu_s, eu_s]
        · rw [eu_n f, eu_n f, eu_n f]
      · unfold wpX_assign
        refine ex_en hE hm2 hp (br_f ne (nm_r hL (br_f (nI_ne0 (by omega) (by omega)) ?_)))
        rw [hp15, el_cell (by omega)]
        exact w1 _ (w2 _ (w post h))
end
end
section
/-! the component's state: files, blocks, cells, the table V, the dirty set dm, the power, contents, dirty values, journal -/
def ex_R (fl bl cl : Nat) (V : Nat → Nat) (dm : Int64) (pw : Int32) (co dv jr : Nat → Int32) (u : SX) : Prop :=
  ∃ (fc fd : Int32) (ow mp df us : Int64) (N S G K C : Nat → Nat) (nm : Nat → Int64), ex_O V ow mp df us N S G K C nm ∧ u = (fc, fd, (nI fl), (nI bl), (nI cl), dm, ow, mp, df, us, pw, (el_f N), (el_f S), (el_f G), (el_f K), (el_f C), nm, co, dv, jr)
theorem ex_el {fl bl cl : Nat} {V : Nat → Nat} {dm : Int64} {pw : Int32} {co dv jr : Nat → Int32} {u : SX} {P : SX → Prop}
    (h : ∀ (fc fd : Int32) (ow mp df us : Int64) (N S G K C : Nat → Nat) (nm : Nat → Int64), ex_O V ow mp df us N S G K C nm → P (fc, fd, (nI fl), (nI bl), (nI cl), dm, ow, mp, df, us, pw, (el_f N), (el_f S), (el_f G), (el_f K), (el_f C), nm, co, dv, jr)) (I : ex_R fl bl cl V dm pw co dv jr u) : P u := by
  obtain ⟨fc, fd, ow, mp, df, us, N, S, G, K, C, nm, h1, h2⟩ := I
  rw [h2]
  exact h fc fd ow mp df us N S G K C nm h1
theorem ex_Ri {fl bl cl : Nat} {V : Nat → Nat} {dm : Int64} {pw : Int32} {co dv jr : Nat → Int32} {fc fd : Int32} {ow mp df us : Int64} {N S G K C : Nat → Nat} {nm : Nat → Int64} (h : ex_O V ow mp df us N S G K C nm) : ex_R fl bl cl V dm pw co dv jr (fc, fd, (nI fl), (nI bl), (nI cl), dm, ow, mp, df, us, pw, (el_f N), (el_f S), (el_f G), (el_f K), (el_f C), nm, co, dv, jr) :=
  ⟨fc, fd, ow, mp, df, us, N, S, G, K, C, nm, h, rfl⟩
theorem ex_Rc {fl bl cl : Nat} {V V' : Nat → Nat} {dm : Int64} {pw : Int32} {co dv jr : Nat → Int32} {u : SX} (I : ex_R fl bl cl V dm pw co dv jr u) (e : ∀ i, i < 128 → V' i = V i) : ex_R fl bl cl V' dm pw co dv jr u :=
  ex_el (P := fun u => ex_R fl bl cl V' dm pw co dv jr u) (fun _ _ _ _ _ _ _ _ _ _ _ _ h => ex_Ri (ex_Oc h e)) I
theorem ex_Rf {fl bl cl : Nat} {V : Nat → Nat} {dm : Int64} {pw : Int32} {co dv jr : Nat → Int32} {u : SX} (I : ex_R fl bl cl V dm pw co dv jr u) : u.2.2.1 = nI fl ∧ u.2.2.2.1 = nI bl :=
  ex_el (P := fun u => u.2.2.1 = nI fl ∧ u.2.2.2.1 = nI bl) (fun _ _ _ _ _ _ _ _ _ _ _ _ _ => ⟨rfl, rfl⟩) I
section
variable {fl bl cl : Nat} {V : Nat → Nat} {dm : Int64} {pw : Int32} {co dv jr : Nat → Int32} {u : SX}
theorem ex_Ren (I : ex_R fl bl cl V dm pw co dv jr u) {post : Int32 → Prop} {m p : Nat} (hm : m < 2) (hp : p < 64) (h : post (nI (V (64 * m + p)))) : wpX_entryAt post u (nI m) (nI p) :=
  ex_el (P := fun u => wpX_entryAt post u (nI m) (nI p)) (fun _ _ _ _ _ _ _ _ _ _ _ _ hO => ex_en hO.1 hm hp h) I
theorem ex_Rex (I : ex_R fl bl cl V dm pw co dv jr u) (hf : fl ≤ 4) (hb : bl ≤ 16) {post : Int32 → Prop} {p0 p1 : Int32} (h1 : eg_ok fl bl p0 p1 → post 1) (h0 : ¬ eg_ok fl bl p0 p1 → post 0) : wpX_exists post u p0 p1 :=
  ex_ex hf hb (ex_Rf I).1 (ex_Rf I).2 h1 h0
theorem ex_Rgd (I : ex_R fl bl cl V dm pw co dv jr u) (hf : fl ≤ 4) (hb : bl ≤ 16) {post : Int32 → Prop} {p0 p1 p2 : Int32} (h1 : eg_gd fl bl p0 p1 p2 → post 1) (h0 : ¬ eg_gd fl bl p0 p1 p2 → post 0) : wpX_goodRange post u p0 p1 p2 :=
  ex_gd hf hb (ex_Rf I).1 (ex_Rf I).2 h1 h0
theorem ex_Ras (I : ex_R fl bl cl V dm pw co dv jr u) {m p e : Nat} (hm : m < 2) (hp : p < 64) (he : e = 0 ∨ ((e % 4 = 1 ∨ e % 4 = 2) ∧ e / 4 < 32)) :
    ∃ u', ex_R fl bl cl (eu V (64 * m + p) e) dm pw co dv jr u' ∧ ∀ post : SX → Prop, post u' → wpX_assign post u (nI m) (nI p) (nI e) := by
  refine ex_el (P := fun u => ∃ u', ex_R fl bl cl (eu V (64 * m + p) e) dm pw co dv jr u' ∧ ∀ post : SX → Prop, post u' → wpX_assign post u (nI m) (nI p) (nI e)) ?_ I
  intro fc fd ow mp df us N S G K C nm hO
  obtain ⟨ow', mp', df', us', N', S', G', K', C', nm', O1, w⟩ := ex_as (fc := fc) (fd := fd) (gf := nI fl) (gb := nI bl) (gc := nI cl) (dm := dm) (pw := pw) (co := co) (dv := dv) (jr := jr) hO hm hp he
  exact ⟨_, ex_Ri O1, w⟩
end
/-! counts that the component takes from its masks -/
noncomputable def ef_n (cl : Nat) (V : Nat → Nat) (D : Nat → Prop) : Nat := cl - ec_n cl (ev_us V) - ec_n 64 (fun p => D p ∧ ¬ ev_own V p)
theorem ef_I {cl : Nat} {V : Nat → Nat} {D : Nat → Prop} (h : ev_F cl V D 0) : nI cl - nI (ec_n cl (ev_us V)) - nI (ec_n 64 (fun p => D p ∧ ¬ ev_own V p)) = nI (ef_n cl V D) := by
  unfold ev_F at h
  rw [pk_sub (by omega), pk_sub (by omega)]
  rfl
theorem ef_F {cl : Nat} {V : Nat → Nat} {D : Nat → Prop} {m : Nat} (h : ev_F cl V D 0) (hm : m ≤ ef_n cl V D) : ev_F cl V D m := by
  unfold ev_F at h ⊢
  unfold ef_n at hm
  omega
section
variable {fc fd gf gb gc : Int32} {dm ow mp df us : Int64} {pw : Int32} {N S G K C : Nat → Nat} {nm : Nat → Int64} {co dv jr : Nat → Int32} {fl bl cl : Nat} {V : Nat → Nat}
theorem ex_own (hO : ex_O V ow mp df us N S G K C nm) {p : Nat} (hp : p < 64) : eb ow p ↔ ev_own V p := en_own hO.2.1 (fun _ hi => el_Ev hO.1 hi) hp
theorem ex_us (hO : ex_O V ow mp df us N S G K C nm) {c : Nat} (hc : c < 64) : eb us c ↔ ev_us V c := en_us hO.2.1 (fun _ hi => el_Ev hO.1 hi) hc
theorem ex_usn (hO : ex_O V ow mp df us N S G K C nm) (hv : ev_v cl V) (hc : cl ≤ 32) : ec_n 64 (eb us) = ec_n cl (ev_us V) := by
  have a : ec_n 64 (eb us) = ec_n 64 (ev_us V) := ec_congr 64 (fun i hi => ex_us hO hi)
  rw [a, ec_win (a := 0) (m := cl) (by omega) (fun i hi z => ?_)]
  · exact ec_congr cl (fun i _ => by rw [Nat.zero_add])
  · rw [ev_usi] at z
    obtain ⟨j, hj, z1, z2⟩ := z
    have := hv j hj
    omega
theorem ex_rsn (hO : ex_O V ow mp df us N S G K C nm) : ec_n 64 (eb (dm &&& (ow ^^^ (-1)))) = ec_n 64 (fun p => eb dm p ∧ ¬ ev_own V p) :=
  ec_congr 64 (fun i hi => by rw [eb_and, eb_not _ hi, ex_own hO hi])
theorem ex_rs (hO : ex_O V ow mp df us N S G K C nm) {post : Int32 → Prop} (h : post (nI (ec_n 64 (fun p => eb dm p ∧ ¬ ev_own V p)))) : wpX_reserved post (fc, fd, gf, gb, gc, dm, ow, mp, df, us, pw, (el_f N), (el_f S), (el_f G), (el_f K), (el_f C), nm, co, dv, jr) := by
  unfold wpX_reserved
  refine ex_bc _ ?_
  rw [ex_rsn hO]
  exact h
theorem ex_fe (hO : ex_O V ow mp df us N S G K C nm) (hv : ev_v cl V) (hc : cl ≤ 32) (hF : ev_F cl V (eb dm) 0) {post : Int32 → Prop} (h : post (nI (ef_n cl V (eb dm)))) : wpX_free post (fc, fd, gf, gb, (nI cl), dm, ow, mp, df, us, pw, (el_f N), (el_f S), (el_f G), (el_f K), (el_f C), nm, co, dv, jr) := by
  unfold wpX_free
  refine ex_bc _ (ex_rs hO ?_)
  rw [ex_usn hO hv hc, ef_I hF]
  exact h
/-- a fresh cell -/
theorem ex_fcL (hO : ex_O V ow mp df us N S G K C nm) (hc : cl ≤ 32) {c : Nat} (h1 : c < cl) (h2 : ¬ ev_us V c) (h3 : ∀ j, j < c → ev_us V j) {post : Int32 → Prop} (h : post (nI c)) :
    ∀ d i, i + d = c → wX_freshCell_50 post fc fd gf gb (nI cl) dm ow mp df us pw (el_f N) (el_f S) (el_f G) (el_f K) (el_f C) nm co dv jr (d + 1) (nI i) := by
  intro d
  induction d with
  | zero =>
    intro i hi
    have hi : i = c := by omega
    subst hi
    unfold wX_freshCell_50
    exact br_f (nI_ge h1 (by omega)) (ex_hb _ (by omega) (fun z => absurd ((ex_us hO (by omega)).mp z) h2) (fun _ => br_t rfl h))
  | succ d ih =>
    intro i hi
    unfold wX_freshCell_50
    exact br_f (nI_ge (by omega) (by omega)) (ex_hb _ (by omega) (fun _ => br_f (by decide) (nm_r (nI_1 i) (ih (i + 1) (by omega)))) (fun z => absurd ((ex_us hO (by omega)).mpr (h3 i (by omega))) z))
theorem ex_fc (hO : ex_O V ow mp df us N S G K C nm) (hc : cl ≤ 32) {p : Nat} (hp : p < 64) (hx : ∃ c, c < cl ∧ ¬ ev_us V c) :
    ∃ c, c < cl ∧ ¬ ev_us V c ∧ ∀ post : Int32 → Prop, post (nI c) → wpX_freshCell post (fc, fd, gf, gb, (nI cl), dm, ow, mp, df, us, pw, (el_f N), (el_f S), (el_f G), (el_f K), (el_f C), nm, co, dv, jr) (nI p) := by
  obtain ⟨c, ⟨h1, h2⟩, h3⟩ := pk_least (fun c => c < cl ∧ ¬ ev_us V c) hx
  have h3 : ∀ j, j < c → ev_us V j := fun j hj => Classical.not_not.mp (fun z => h3 j hj ⟨by omega, z⟩)
  have L : ∀ post : Int32 → Prop, post (nI c) → ∃ n, wX_freshCell_50 post fc fd gf gb (nI cl) dm ow mp df us pw (el_f N) (el_f S) (el_f G) (el_f K) (el_f C) nm co dv jr n 0 := fun post h => ⟨c + 1, ex_fcL hO hc h1 h2 h3 h c 0 (by omega)⟩
  have e15 : nI p &&& 15 = nI (p % 16) := pk_andN (by omega) 4 (by decide)
  by_cases z : p % 16 = 0
  · refine ⟨c, h1, h2, fun post h => ?_⟩
    unfold wpX_freshCell
    refine br_t ?_ (L post h)
    rw [e15, z]; rfl
  · have nz : ¬ nI p &&& 15 = 0 := by
      rw [e15]; exact nI_ne0 (by omega) (by omega)
    have pm : nI p - 1 = nI (p - 1) := pk_sub (b := 1) (by omega)
    have vv := el_Ev hO.1 (i := p - 1) (by omega)
    by_cases y : V (p - 1) = 0
    · refine ⟨c, h1, h2, fun post h => ?_⟩
      unfold wpX_freshCell
      refine br_f nz ?_
      rw [pm]
      refine ex_en (m := 0) hO.1 (by omega) (by omega) (nm_e (br_t ?_ (L post h)))
      rw [show 64 * 0 + (p - 1) = p - 1 by omega, y]; rfl
    · have eg : nI (V (64 * 0 + (p - 1))) >>> ((2 : Int32) &&& 31) + 1 = nI (V (p - 1) / 4 + 1) := by
        rw [show 64 * 0 + (p - 1) = p - 1 by omega, el_cell (by omega), nI_1]
      have ny : ¬ nI (V (64 * 0 + (p - 1))) = 0 := by
        rw [show 64 * 0 + (p - 1) = p - 1 by omega]; exact nI_ne0 (by omega) (by omega)
      by_cases x : V (p - 1) / 4 + 1 < cl
      · by_cases w : ev_us V (V (p - 1) / 4 + 1)
        · refine ⟨c, h1, h2, fun post h => ?_⟩
          unfold wpX_freshCell
          refine br_f nz ?_
          rw [pm]
          refine ex_en (m := 0) hO.1 (by omega) (by omega) (nm_r eg (br_f ny (br_f (nI_ge x (by omega)) (ex_hb _ (by omega) (fun _ => br_f (by decide) (L post h)) (fun t => absurd ((ex_us hO (by omega)).mpr w) t)))))
        · refine ⟨V (p - 1) / 4 + 1, x, w, fun post h => ?_⟩
          unfold wpX_freshCell
          refine br_f nz ?_
          rw [pm]
          refine ex_en (m := 0) hO.1 (by omega) (by omega) (nm_r eg (br_f ny (br_f (nI_ge x (by omega)) (ex_hb _ (by omega) (fun t => absurd ((ex_us hO (by omega)).mp t) w) (fun _ => br_t rfl h)))))
      · refine ⟨c, h1, h2, fun post h => ?_⟩
        unfold wpX_freshCell
        refine br_f nz ?_
        rw [pm]
        refine ex_en (m := 0) hO.1 (by omega) (by omega) (nm_r eg (br_f ny (br_t (nI_le (by omega) (by omega)) (L post h))))
/-- places of a file whose entries differ -/
noncomputable def er_pn (V : Nat → Nat) (bl f : Nat) : Nat := ec_n bl (fun j => V (16 * f + j) ≠ V (64 + (16 * f + j)))
theorem ex_pe (hO : ex_O V ow mp df us N S G K C nm) (hf4 : fl ≤ 4) (hb : bl ≤ 16) (hV : ev_O fl bl V) {f : Nat} (hf : f < fl) {post : Int32 → Prop} (h : post (nI (er_pn V bl f))) : wpX_pending post (fc, fd, (nI fl), gb, gc, dm, ow, mp, df, us, pw, (el_f N), (el_f S), (el_f G), (el_f K), (el_f C), nm, co, dv, jr) (nI f) := by
  unfold wpX_pending
  refine br_f (nI_pos (by omega)) (br_t (nI_lt hf (by omega)) (ex_bc _ ?_))
  have e : nI f * 16 = nI (16 * f) := by rw [show (16 : Int32) = nI 16 from rfl, pk_mul, Nat.mul_comm]
  have c : ec_n 64 (eb (df &&& ((65535 : Int64) <<< ((nI f * 16).toInt64 &&& 63)))) = er_pn V bl f := by
    rw [e]
    have a : ec_n 64 (eb (df &&& ((65535 : Int64) <<< ((nI (16 * f)).toInt64 &&& 63)))) = ec_n 64 (fun p => V p ≠ V (64 + p) ∧ (16 * f ≤ p ∧ p < 16 * f + 16)) :=
      ec_congr 64 (fun i hi => by rw [eb_and, hO.2.2.2 i hi, eb_ffff (by omega) hi])
    rw [a, ec_win (a := 16 * f) (m := bl) (by omega) (fun i hi z => ?_)]
    · unfold er_pn
      refine ec_congr bl (fun j hj => ⟨fun t => t.1, fun t => ⟨t, by omega, by omega⟩⟩)
    · refine ⟨z.2.1, ?_⟩
      rcases Nat.lt_or_ge i (16 * f + bl) with y | y
      · exact y
      · have t := hV i hi (Or.inr (by omega))
        exact absurd (t.1.trans t.2.symm) z.1
  rw [c]
  exact h
end
end
section
/-! the component's storing parts, on its table -/
def ed_pw (x : Int32) : Int32 := if x ≤ 0 then x else x - 1
section
variable {fl bl cl : Nat} {dm : Int64} {pw : Int32} {co dv jr : Nat → Int32}
theorem ex_crL {V : Nat → Nat} : ∀ d i, i + d = 64 → ∀ u, ex_R fl bl cl (fun y => if y < i then V (64 + y) else V y) dm pw co dv jr u →
    ∃ u', ex_R fl bl cl (fun y => if y < 64 then V (64 + y) else V y) dm pw co dv jr u' ∧ ∀ post : SX → Prop, post u' → wX_crash_12 post (d + 1) (nI i) u.1 u.2.1 u.2.2.1 u.2.2.2.1 u.2.2.2.2.1 u.2.2.2.2.2.1 u.2.2.2.2.2.2.1 u.2.2.2.2.2.2.2.1 u.2.2.2.2.2.2.2.2.1 u.2.2.2.2.2.2.2.2.2.1 u.2.2.2.2.2.2.2.2.2.2.1 u.2.2.2.2.2.2.2.2.2.2.2.1 u.2.2.2.2.2.2.2.2.2.2.2.2.1 u.2.2.2.2.2.2.2.2.2.2.2.2.2.1 u.2.2.2.2.2.2.2.2.2.2.2.2.2.2.1 u.2.2.2.2.2.2.2.2.2.2.2.2.2.2.2.1 u.2.2.2.2.2.2.2.2.2.2.2.2.2.2.2.2.1 u.2.2.2.2.2.2.2.2.2.2.2.2.2.2.2.2.2.1 u.2.2.2.2.2.2.2.2.2.2.2.2.2.2.2.2.2.2.1 u.2.2.2.2.2.2.2.2.2.2.2.2.2.2.2.2.2.2.2 := by
  intro d
  induction d with
  | zero =>
    intro i hi u I
    have hi : i = 64 := by omega
    subst hi
    refine ⟨u, I, fun post h => ?_⟩
    unfold wX_crash_12
    exact br_t (nI_le (a := 64) (b := 64) (by omega) (by omega)) h
  | succ d ih =>
    intro i hi u I
    have i64 : ¬ (64 : Int32) ≤ nI i := nI_ge (b := 64) (by omega) (by omega)
    refine ex_el (P := fun u => ∃ u', ex_R fl bl cl (fun y => if y < 64 then V (64 + y) else V y) dm pw co dv jr u' ∧ ∀ post : SX → Prop, post u' → wX_crash_12 post (d + 1 + 1) (nI i) u.1 u.2.1 u.2.2.1 u.2.2.2.1 u.2.2.2.2.1 u.2.2.2.2.2.1 u.2.2.2.2.2.2.1 u.2.2.2.2.2.2.2.1 u.2.2.2.2.2.2.2.2.1 u.2.2.2.2.2.2.2.2.2.1 u.2.2.2.2.2.2.2.2.2.2.1 u.2.2.2.2.2.2.2.2.2.2.2.1 u.2.2.2.2.2.2.2.2.2.2.2.2.1 u.2.2.2.2.2.2.2.2.2.2.2.2.2.1 u.2.2.2.2.2.2.2.2.2.2.2.2.2.2.1 u.2.2.2.2.2.2.2.2.2.2.2.2.2.2.2.1 u.2.2.2.2.2.2.2.2.2.2.2.2.2.2.2.2.1 u.2.2.2.2.2.2.2.2.2.2.2.2.2.2.2.2.2.1 u.2.2.2.2.2.2.2.2.2.2.2.2.2.2.2.2.2.2.1 u.2.2.2.2.2.2.2.2.2.2.2.2.2.2.2.2.2.2.2) ?_ I
    intro fc fd ow mp df us N S G K C nm hO
    have hd := hO.2.2.2 i (by omega)
    dsimp only at hd
    rw [if_neg (show ¬ i < i by omega), if_neg (show ¬ 64 + i < i by omega)] at hd
    by_cases z : V i = V (64 + i)
    · obtain ⟨u', I', w⟩ := ih (i + 1) (by omega) _ (ex_Rc (fl := fl) (bl := bl) (cl := cl) (dm := dm) (pw := pw) (co := co) (dv := dv) (jr := jr) (ex_Ri (fc := fc) (fd := fd) hO) (V' := fun y => if y < i + 1 then V (64 + y) else V y) (fun y _ => by
        try dsimp only
        by_cases e : y = i
        · subst e; rw [if_pos (by omega), if_neg (by omega), z]
        · by_cases f : y < i
          · rw [if_pos f, if_pos (by omega)]
          · rw [if_neg f, if_neg (by omega)]))
      refine ⟨u', I', fun post h => ?_⟩
      unfold wX_crash_12
      exact br_f i64 (ex_hb _ (by omega) (fun t => absurd z (hd.mp t)) (fun _ => br_t rfl (nm_r (nI_1 i) (w post h))))
    · have vv := el_Ev hO.1 (i := 64 + i) (by omega)
      try dsimp only at vv
      rw [if_neg (show ¬ 64 + i < i by omega)] at vv
      obtain ⟨u1, I1, w1⟩ := ex_Ras (fl := fl) (bl := bl) (cl := cl) (dm := dm) (pw := pw) (co := co) (dv := dv) (jr := jr) (ex_Ri (fc := fc) (fd := fd) hO) (m := 0) (p := i) (e := V (64 + i)) (by omega) (by omega) vv
      obtain ⟨u', I', w⟩ := ih (i + 1) (by omega) u1 (ex_Rc I1 (fun y _ => by
        try dsimp only
        rw [show 64 * 0 + i = i by omega]
        by_cases e : y = i
        · subst e; rw [if_pos (by omega), eu_s]
        · rw [eu_n e]
          by_cases f : y < i
          · rw [if_pos f, if_pos (by omega)]
          · rw [if_neg f, if_neg (by omega)]))
      refine ⟨u', I', fun post h => ?_⟩
      unfold wX_crash_12
      refine br_f i64 (ex_hb _ (by omega) (fun _ => br_f (by decide) (ex_en (m := 1) hO.1 (by omega) (by omega) ?_)) (fun t => absurd (hd.mpr z) t))
      dsimp only
      rw [show 64 * 1 + i = 64 + i by omega, if_neg (show ¬ 64 + i < i by omega)]
      exact w1 _ (nm_r (nI_1 i) (w post h))
theorem ex_Rcr {V : Nat → Nat} {u : SX} (I : ex_R fl bl cl V dm pw co dv jr u) : ∃ u', ex_R fl bl cl (fun y => if y < 64 then V (64 + y) else V y) 0 (-1) co dv jr u' ∧ ∀ post : SX → Prop, post u' → wpX_crash post u := by
  refine ex_el (P := fun u => ∃ u', ex_R fl bl cl (fun y => if y < 64 then V (64 + y) else V y) 0 (-1) co dv jr u' ∧ ∀ post : SX → Prop, post u' → wpX_crash post u) ?_ I
  intro fc fd ow mp df us N S G K C nm hO
  obtain ⟨u', I', w⟩ := ex_crL (V := V) (fl := fl) (bl := bl) (cl := cl) (dm := 0) (pw := -1) (co := co) (dv := dv) (jr := jr) 64 0 (by omega) (fc, fd, (nI fl), (nI bl), (nI cl), 0, ow, mp, df, us, (-1), (el_f N), (el_f S), (el_f G), (el_f K), (el_f C), nm, co, dv, jr) (ex_Rc (ex_Ri hO) (fun y _ => if_neg (by omega)))
  refine ⟨u', I', fun post h => ?_⟩
  unfold wpX_crash
  exact ⟨65, w post h⟩
theorem ex_Rdw1 {V : Nat → Nat} {u : SX} (I : ex_R fl bl cl V dm pw co dv jr u) (h0 : pw ≠ 0) : ∃ u', ex_R fl bl cl V dm (ed_pw pw) co dv jr u' ∧ ∀ post : Int32 → SX → Prop, post 1 u' → wpX_diskWrite post u := by
  refine ex_el (P := fun u => ∃ u', ex_R fl bl cl V dm (ed_pw pw) co dv jr u' ∧ ∀ post : Int32 → SX → Prop, post 1 u' → wpX_diskWrite post u) ?_ I
  intro fc fd ow mp df us N S G K C nm hO
  refine ⟨_, ex_Ri (fc := fc) (fd := fd) hO, fun post h => ?_⟩
  unfold wpX_diskWrite
  unfold ed_pw at h
  by_cases z : pw ≤ 0
  · rw [if_pos z] at h
    refine br_f (fun y => h0 (Int32.le_antisymm z y)) h
  · rw [if_neg z] at h
    refine br_t (Int32.le_of_lt (Int32.not_le.mp z)) (br_f z (nm_e h))
theorem ex_Rdw0 {V : Nat → Nat} {u : SX} (I : ex_R fl bl cl V dm 0 co dv jr u) : ∃ u', ex_R fl bl cl (fun y => if y < 64 then V (64 + y) else V y) 0 (-1) co dv jr u' ∧ ∀ post : Int32 → SX → Prop, post 0 u' → wpX_diskWrite post u := by
  obtain ⟨u', I', w⟩ := ex_Rcr I
  refine ⟨u', I', fun post h => ?_⟩
  revert w
  refine ex_el (P := fun u => (∀ post : SX → Prop, post u' → wpX_crash post u) → wpX_diskWrite post u) ?_ I
  intro fc fd ow mp df us N S G K C nm hO w
  unfold wpX_diskWrite
  exact br_t (by decide) (br_t (by decide) (w _ h))
/-- write a place out to cell c -/
theorem ex_Rwo28 {V : Nat → Nat} {fc fd : Int32} {ow mp df us : Int64} {N S G K C : Nat → Nat} {nm : Nat → Int64} (hO : ex_O V ow mp df us N S G K C nm) {p c : Nat} (hp : p < 64) (hc : c < 32) :
    ∃ u', ex_R fl bl cl (eu V p (4 * c + 2)) (eb_cl dm p) pw (upd co c (dv p)) dv jr u' ∧ ∀ post : SX → Prop, post u' → wX_writeOut_28 post (nI p) (nI c) fc fd (nI fl) (nI bl) (nI cl) dm ow mp df us pw (el_f N) (el_f S) (el_f G) (el_f K) (el_f C) nm co dv jr := by
  obtain ⟨ow', mp', df', us', N', S', G', K', C', nm', O1, w⟩ := ex_as (fc := fc) (fd := fd) (gf := nI fl) (gb := nI bl) (gc := nI cl) (dm := dm) (pw := pw) (co := upd co c (dv p)) (dv := dv) (jr := jr) hO (m := 0) (p := p) (e := 4 * c + 2) (by omega) hp (Or.inr ⟨by omega, by omega⟩)
  rw [show 64 * 0 + p = p by omega] at O1
  refine ⟨_, ex_Ri (fc := fc) (fd := fd) O1, fun post h => ?_⟩
  unfold wX_writeOut_28
  rw [nI_clamp (show c < 2 ^ 31 by omega), nI_clamp (show p < 2 ^ 31 by omega)]
  refine ⟨vp_in_nI hp (by omega), vp_in_nI hc (by omega), nm_e ?_⟩
  have e : nI c <<< ((2 : Int32) &&& 31) ||| 2 = nI (4 * c + 2) := el_pack c (by omega) 2 (by omega)
  rw [e]
  exact w _ (ex_w0 _ h)
theorem ex_Rwo1 {V : Nat → Nat} {u : SX} (I : ex_R fl bl cl V dm pw co dv jr u) {p : Nat} (hp : p < 64) (ho : ev_own V p) : ∃ u', ex_R fl bl cl (eu V p (4 * (V p / 4) + 2)) (eb_cl dm p) pw (upd co (V p / 4) (dv p)) dv jr u' ∧ ∀ post : SX → Prop, post u' → wpX_writeOut post u (nI p) := by
  refine ex_el (P := fun u => ∃ u', ex_R fl bl cl (eu V p (4 * (V p / 4) + 2)) (eb_cl dm p) pw (upd co (V p / 4) (dv p)) dv jr u' ∧ ∀ post : SX → Prop, post u' → wpX_writeOut post u (nI p)) ?_ I
  intro fc fd ow mp df us N S G K C nm hO
  have vv := (el_Ev hO.1 (i := p) (by omega)).resolve_left ho.1
  obtain ⟨u', I', w⟩ := ex_Rwo28 (fl := fl) (bl := bl) (cl := cl) (dm := dm) (pw := pw) (co := co) (dv := dv) (jr := jr) (fc := fc) (fd := fd) hO hp vv.2
  refine ⟨u', I', fun post h => ?_⟩
  unfold wpX_writeOut
  refine ex_hb _ hp (fun _ => br_f (by decide) (ex_en (m := 0) hO.1 (by omega) hp ?_)) (fun t => absurd ((ex_own hO hp).mpr ho) t)
  rw [show 64 * 0 + p = p by omega, el_cell (by omega)]
  exact w post h
theorem ex_Rwo0 {V : Nat → Nat} {u : SX} (I : ex_R fl bl cl V dm pw co dv jr u) (hc : cl ≤ 32) {p : Nat} (hp : p < 64) (ho : ¬ ev_own V p) (hx : ∃ c, c < cl ∧ ¬ ev_us V c) : ∃ c u', c < cl ∧ ¬ ev_us V c ∧ ex_R fl bl cl (eu V p (4 * c + 2)) (eb_cl dm p) pw (upd co c (dv p)) dv jr u' ∧ ∀ post : SX → Prop, post u' → wpX_writeOut post u (nI p) := by
  refine ex_el (P := fun u => ∃ c u', c < cl ∧ ¬ ev_us V c ∧ ex_R fl bl cl (eu V p (4 * c + 2)) (eb_cl dm p) pw (upd co c (dv p)) dv jr u' ∧ ∀ post : SX → Prop, post u' → wpX_writeOut post u (nI p)) ?_ I
  intro fc fd ow mp df us N S G K C nm hO
  obtain ⟨c, h1, h2, wf⟩ := ex_fc (fc := fc) (fd := fd) (gf := nI fl) (gb := nI bl) (dm := dm) (pw := pw) (co := co) (dv := dv) (jr := jr) hO hc hp hx
  obtain ⟨u', I', w⟩ := ex_Rwo28 (fl := fl) (bl := bl) (cl := cl) (dm := dm) (pw := pw) (co := co) (dv := dv) (jr := jr) (fc := fc) (fd := fd) (c := c) hO hp (by omega)
  refine ⟨c, u', h1, h2, I', fun post h => ?_⟩
  unfold wpX_writeOut
  exact ex_hb _ hp (fun t => absurd ((ex_own hO hp).mp t) ho) (fun _ => br_t rfl (wf _ (w post h)))
/-- a record is applied -/
theorem ex_arL {V : Nat → Nat} {f : Nat} (hf : f < 4) (hb : bl ≤ 16) : ∀ d i, i + d = 16 * f + bl → 16 * f ≤ i → ∀ u, ex_R fl bl cl (fun y => if 64 + 16 * f ≤ y ∧ y < 64 + i then V (y - 64) else V y) dm pw co dv jr u →
    ∃ u', ex_R fl bl cl (fun y => if 64 + 16 * f ≤ y ∧ y < 64 + (16 * f + bl) then V (y - 64) else V y) dm pw co dv jr u' ∧ ∀ post : SX → Prop, post u' → wX_applyRecord_15 post (nI (16 * f + bl)) (d + 1) (nI i) u.1 u.2.1 u.2.2.1 u.2.2.2.1 u.2.2.2.2.1 u.2.2.2.2.2.1 u.2.2.2.2.2.2.1 u.2.2.2.2.2.2.2.1 u.2.2.2.2.2.2.2.2.1 u.2.2.2.2.2.2.2.2.2.1 u.2.2.2.2.2.2.2.2.2.2.1 u.2.2.2.2.2.2.2.2.2.2.2.1 u.2.2.2.2.2.2.2.2.2.2.2.2.1 u.2.2.2.2.2.2.2.2.2.2.2.2.2.1 u.2.2.2.2.2.2.2.2.2.2.2.2.2.2.1 u.2.2.2.2.2.2.2.2.2.2.2.2.2.2.2.1 u.2.2.2.2.2.2.2.2.2.2.2.2.2.2.2.2.1 u.2.2.2.2.2.2.2.2.2.2.2.2.2.2.2.2.2.1 u.2.2.2.2.2.2.2.2.2.2.2.2.2.2.2.2.2.2.1 u.2.2.2.2.2.2.2.2.2.2.2.2.2.2.2.2.2.2.2 := by
  intro d
  induction d with
  | zero =>
    intro i hi hi2 u I
    have hi : i = 16 * f + bl := by omega
    subst hi
    refine ⟨u, I, fun post h => ?_⟩
    unfold wX_applyRecord_15
    exact br_t (nI_le (by omega) (by omega)) h
  | succ d ih =>
    intro i hi hi2 u I
    have ie : ¬ nI (16 * f + bl) ≤ nI i := nI_ge (by omega) (by omega)
    refine ex_el (P := fun u => ∃ u', ex_R fl bl cl (fun y => if 64 + 16 * f ≤ y ∧ y < 64 + (16 * f + bl) then V (y - 64) else V y) dm pw co dv jr u' ∧ ∀ post : SX → Prop, post u' → wX_applyRecord_15 post (nI (16 * f + bl)) (d + 1 + 1) (nI i) u.1 u.2.1 u.2.2.1 u.2.2.2.1 u.2.2.2.2.1 u.2.2.2.2.2.1 u.2.2.2.2.2.2.1 u.2.2.2.2.2.2.2.1 u.2.2.2.2.2.2.2.2.1 u.2.2.2.2.2.2.2.2.2.1 u.2.2.2.2.2.2.2.2.2.2.1 u.2.2.2.2.2.2.2.2.2.2.2.1 u.2.2.2.2.2.2.2.2.2.2.2.2.1 u.2.2.2.2.2.2.2.2.2.2.2.2.2.1 u.2.2.2.2.2.2.2.2.2.2.2.2.2.2.1 u.2.2.2.2.2.2.2.2.2.2.2.2.2.2.2.1 u.2.2.2.2.2.2.2.2.2.2.2.2.2.2.2.2.1 u.2.2.2.2.2.2.2.2.2.2.2.2.2.2.2.2.2.1 u.2.2.2.2.2.2.2.2.2.2.2.2.2.2.2.2.2.2.1 u.2.2.2.2.2.2.2.2.2.2.2.2.2.2.2.2.2.2.2) ?_ I
    intro fc fd ow mp df us N S G K C nm hO
    have hd := hO.2.2.2 i (by omega)
    dsimp only at hd
    rw [if_neg (show ¬ (64 + 16 * f ≤ i ∧ i < 64 + i) by omega), if_neg (show ¬ (64 + 16 * f ≤ 64 + i ∧ 64 + i < 64 + i) by omega)] at hd
    by_cases z : V i = V (64 + i)
    · obtain ⟨u', I', w⟩ := ih (i + 1) (by omega) (by omega) _ (ex_Rc (fl := fl) (bl := bl) (cl := cl) (dm := dm) (pw := pw) (co := co) (dv := dv) (jr := jr) (ex_Ri (fc := fc) (fd := fd) hO) (V' := fun y => if 64 + 16 * f ≤ y ∧ y < 64 + (i + 1) then V (y - 64) else V y) (fun y _ => by
        try dsimp only
        by_cases e : y = 64 + i
        · subst e; rw [if_pos (by omega), if_neg (by omega), show 64 + i - 64 = i by omega, z]
        · by_cases g : 64 + 16 * f ≤ y ∧ y < 64 + i
          · rw [if_pos g, if_pos (by omega)]
          · rw [if_neg g, if_neg (by omega)]))
      refine ⟨u', I', fun post h => ?_⟩
      unfold wX_applyRecord_15
      exact br_f ie (ex_hb _ (by omega) (fun t => absurd z (hd.mp t)) (fun _ => br_t rfl (nm_r (nI_1 i) (w post h))))
    · have vv := el_Ev hO.1 (i := i) (by omega)
      try dsimp only at vv
      rw [if_neg (show ¬ (64 + 16 * f ≤ i ∧ i < 64 + i) by omega)] at vv
      obtain ⟨u1, I1, w1⟩ := ex_Ras (fl := fl) (bl := bl) (cl := cl) (dm := dm) (pw := pw) (co := co) (dv := dv) (jr := jr) (ex_Ri (fc := fc) (fd := fd) hO) (m := 1) (p := i) (e := V i) (by omega) (by omega) vv
      obtain ⟨u', I', w⟩ := ih (i + 1) (by omega) (by omega) u1 (ex_Rc I1 (fun y _ => by
        try dsimp only
        rw [show 64 * 1 + i = 64 + i by omega]
        by_cases e : y = 64 + i
        · subst e; rw [if_pos (by omega), eu_s, show 64 + i - 64 = i by omega]
        · rw [eu_n e]
          by_cases g : 64 + 16 * f ≤ y ∧ y < 64 + i
          · rw [if_pos g, if_pos (by omega)]
          · rw [if_neg g, if_neg (by omega)]))
      refine ⟨u', I', fun post h => ?_⟩
      unfold wX_applyRecord_15
      refine br_f ie (ex_hb _ (by omega) (fun _ => br_f (by decide) (ex_en (m := 0) hO.1 (by omega) (by omega) ?_)) (fun t => absurd (hd.mpr z) t))
      dsimp only
      rw [show 64 * 0 + i = i by omega, if_neg (show ¬ (64 + 16 * f ≤ i ∧ i < 64 + i) by omega)]
      exact w1 _ (nm_r (nI_1 i) (w post h))
theorem ex_Rar {V : Nat → Nat} {u : SX} (I : ex_R fl bl cl V dm pw co dv jr u) {f : Nat} (hf : f < 4) (hb : bl ≤ 16) : ∃ u', ex_R fl bl cl (fun y => if 64 + 16 * f ≤ y ∧ y < 64 + (16 * f + bl) then V (y - 64) else V y) dm pw co dv jr u' ∧ ∀ post : SX → Prop, post u' → wpX_applyRecord post u (nI f) := by
  refine ex_el (P := fun u => ∃ u', ex_R fl bl cl (fun y => if 64 + 16 * f ≤ y ∧ y < 64 + (16 * f + bl) then V (y - 64) else V y) dm pw co dv jr u' ∧ ∀ post : SX → Prop, post u' → wpX_applyRecord post u (nI f)) ?_ I
  intro fc fd ow mp df us N S G K C nm hO
  obtain ⟨u', I', w⟩ := ex_arL (V := V) (fl := fl) (cl := cl) (dm := dm) (pw := pw) (co := co) (dv := dv) (jr := jr) hf hb bl (16 * f) (by omega) (by omega) (fc, fd, (nI fl), (nI bl), (nI cl), dm, ow, mp, df, us, pw, (el_f N), (el_f S), (el_f G), (el_f K), (el_f C), nm, co, dv, jr) (ex_Rc (ex_Ri hO) (fun y _ => if_neg (by omega)))
  refine ⟨u', I', fun post h => ?_⟩
  have e : nI f * 16 = nI (16 * f) := by rw [show (16 : Int32) = nI 16 from rfl, pk_mul, Nat.mul_comm]
  unfold wpX_applyRecord
  dsimp only
  rw [e, nI_add]
  exact nm_e (nm_e ⟨bl + 1, w post h⟩)
/-- all records are applied -/
def ej_A (V : Nat → Nat) (bl : Nat) (jr : Nat → Int32) (r : Nat) (W : Nat → Nat) : Prop :=
  (∀ y, y < 64 → W y = V y) ∧ (∀ p, p < 64 → W (64 + p) = V p ∨ W (64 + p) = V (64 + p)) ∧ (∀ p, p < 64 → p % 16 < bl → (∃ q, q < r ∧ jr q = nI (p / 16)) → W (64 + p) = V p)
theorem ex_ca {V : Nat → Nat} (hb : bl ≤ 16) {k : Nat} (hk : k ≤ 4) (hj : ∀ r, r < k → ∃ f, f < 4 ∧ jr r = nI f) : ∀ d i, i + d = k → ∀ u W, ej_A V bl jr i W → ex_R fl bl cl W dm pw co dv jr u →
    ∃ u' W', ej_A V bl jr k W' ∧ ex_R fl bl cl W' dm pw co dv jr u' ∧ ∀ post : Int32 → SX → Prop, post (nI k) u' → wX_commit_36 post (nI k) (d + 1) (nI i) u.1 u.2.1 u.2.2.1 u.2.2.2.1 u.2.2.2.2.1 u.2.2.2.2.2.1 u.2.2.2.2.2.2.1 u.2.2.2.2.2.2.2.1 u.2.2.2.2.2.2.2.2.1 u.2.2.2.2.2.2.2.2.2.1 u.2.2.2.2.2.2.2.2.2.2.1 u.2.2.2.2.2.2.2.2.2.2.2.1 u.2.2.2.2.2.2.2.2.2.2.2.2.1 u.2.2.2.2.2.2.2.2.2.2.2.2.2.1 u.2.2.2.2.2.2.2.2.2.2.2.2.2.2.1 u.2.2.2.2.2.2.2.2.2.2.2.2.2.2.2.1 u.2.2.2.2.2.2.2.2.2.2.2.2.2.2.2.2.1 u.2.2.2.2.2.2.2.2.2.2.2.2.2.2.2.2.2.1 u.2.2.2.2.2.2.2.2.2.2.2.2.2.2.2.2.2.2.1 u.2.2.2.2.2.2.2.2.2.2.2.2.2.2.2.2.2.2.2 := by
  intro d
  induction d with
  | zero =>
    intro i hi u W hA I
    have hi : i = k := by omega
    subst hi
    refine ⟨u, W, hA, I, fun post h => ?_⟩
    unfold wX_commit_36
    exact br_t (nI_le (by omega) (by omega)) h
  | succ d ih =>
    intro i hi u W hA I
    obtain ⟨f, hf, ef⟩ := hj i (by omega)
    obtain ⟨u1, I1, w1⟩ := ex_Rar I hf hb
    obtain ⟨u', W', hA', I', w⟩ := ih (i + 1) (by omega) u1 _ (by
      obtain ⟨a1, a2, a3⟩ := hA
      refine ⟨fun y hy => ?_, fun p hp => ?_, fun p hp hpb hx => ?_⟩
      · dsimp only; rw [if_neg (by omega)]; exact a1 y hy
      · dsimp only
        by_cases z : 64 + 16 * f ≤ 64 + p ∧ 64 + p < 64 + (16 * f + bl)
        · rw [if_pos z, show 64 + p - 64 = p by omega, a1 p hp]; exact Or.inl rfl
        · rw [if_neg z]; exact a2 p hp
      · dsimp only
        by_cases z : 64 + 16 * f ≤ 64 + p ∧ 64 + p < 64 + (16 * f + bl)
        · rw [if_pos z, show 64 + p - 64 = p by omega, a1 p hp]
        · rw [if_neg z]
          obtain ⟨q, hq, eq⟩ := hx
          refine a3 p hp hpb ⟨q, ?_, eq⟩
          rcases Nat.lt_or_ge q i with t | t
          · exact t
          · have : q = i := by omega
            subst this
            rw [ef, nI_eq (by omega) (by omega)] at eq
            omega) I1
    refine ⟨u', W', hA', I', fun post h => ?_⟩
    revert w1
    refine ex_el (P := fun u => (∀ post : SX → Prop, post u1 → wpX_applyRecord post u (nI f)) → wX_commit_36 post (nI k) (d + 1 + 1) (nI i) u.1 u.2.1 u.2.2.1 u.2.2.2.1 u.2.2.2.2.1 u.2.2.2.2.2.1 u.2.2.2.2.2.2.1 u.2.2.2.2.2.2.2.1 u.2.2.2.2.2.2.2.2.1 u.2.2.2.2.2.2.2.2.2.1 u.2.2.2.2.2.2.2.2.2.2.1 u.2.2.2.2.2.2.2.2.2.2.2.1 u.2.2.2.2.2.2.2.2.2.2.2.2.1 u.2.2.2.2.2.2.2.2.2.2.2.2.2.1 u.2.2.2.2.2.2.2.2.2.2.2.2.2.2.1 u.2.2.2.2.2.2.2.2.2.2.2.2.2.2.2.1 u.2.2.2.2.2.2.2.2.2.2.2.2.2.2.2.2.1 u.2.2.2.2.2.2.2.2.2.2.2.2.2.2.2.2.2.1 u.2.2.2.2.2.2.2.2.2.2.2.2.2.2.2.2.2.2.1 u.2.2.2.2.2.2.2.2.2.2.2.2.2.2.2.2.2.2.2) ?_ I
    intro fc fd ow mp df us N S G K C nm hO w1
    unfold wX_commit_36
    refine br_f (nI_ge (by omega) (by omega)) ⟨vp_in_nI (by omega) (by omega), ?_⟩
    dsimp only
    rw [nI_clamp (by omega), ef]
    exact w1 _ (nm_r (nI_1 i) (w post h))
/-- the journal -/
def ej_J (P : Nat → Prop) (f : Nat) (jr : Nat → Int32) : Prop :=
  (∀ r, r < ec_n f P → ∃ g, g < f ∧ jr r = nI g) ∧ (∀ g, g < f → P g → ∃ r, r < ec_n f P ∧ jr r = nI g)
theorem ex_fjL {V : Nat → Nat} {fc fd : Int32} {ow mp df us : Int64} {N S G K C : Nat → Nat} {nm : Nat → Int64} (hO : ex_O V ow mp df us N S G K C nm) (hf4 : fl ≤ 4) (hb : bl ≤ 16) (hV : ev_O fl bl V) : ∀ d f (jr : Nat → Int32), f + d = fl → ej_J (fun g => 0 < er_pn V bl g) f jr →
    ∃ jr', ej_J (fun g => 0 < er_pn V bl g) fl jr' ∧ ∀ post : Int32 → SX → Prop, post (nI (ec_n fl (fun g => 0 < er_pn V bl g))) (fc, fd, (nI fl), (nI bl), (nI cl), dm, ow, mp, df, us, pw, (el_f N), (el_f S), (el_f G), (el_f K), (el_f C), nm, co, dv, jr') → wX_fillJournal_4 post fc fd (nI fl) (nI bl) (nI cl) dm ow mp df us pw (d + 1) (nI (ec_n f (fun g => 0 < er_pn V bl g))) (nI f) (el_f N) (el_f S) (el_f G) (el_f K) (el_f C) nm co dv jr := by
  intro d
  induction d with
  | zero =>
    intro f jr hf hJ
    have hf : f = fl := by omega
    subst hf
    refine ⟨jr, hJ, fun post h => ?_⟩
    unfold wX_fillJournal_4
    exact br_t (nI_le (by omega) (by omega)) h
  | succ d ih =>
    intro f jr hf hJ
    have hk := ec_le (fun g => 0 < er_pn V bl g) f
    have hpn : er_pn V bl f ≤ bl := ec_le _ bl
    by_cases z : 0 < er_pn V bl f
    · have e1 := ec_st (P := fun g => 0 < er_pn V bl g) (n := f) z
      obtain ⟨jr', J', w⟩ := ih (f + 1) (upd jr (ec_n f (fun g => 0 < er_pn V bl g)) (nI f)) (by omega) (by
        constructor
        · intro r hr
          rw [e1] at hr
          by_cases e : r = ec_n f (fun g => 0 < er_pn V bl g)
          · subst e; exact ⟨f, by omega, pk_us⟩
          · obtain ⟨g, hg, eg⟩ := hJ.1 r (by omega)
            exact ⟨g, by omega, by rw [pk_un e]; exact eg⟩
        · intro g hg hp
          rw [e1]
          by_cases e : g = f
          · subst e; exact ⟨_, by omega, pk_us⟩
          · obtain ⟨r, hr, er⟩ := hJ.2 g (by omega) hp
            exact ⟨r, by omega, by rw [pk_un (by omega)]; exact er⟩)
      refine ⟨jr', J', fun post h => ?_⟩
      have w2 := w post h
      rw [e1] at w2
      unfold wX_fillJournal_4
      refine br_f (nI_ge (by omega) (by omega)) (ex_pe hO hf4 hb hV (by omega) (br_f (nI_nle z (by omega)) ⟨vp_in_nI (by omega) (by omega), ?_⟩))
      rw [nI_clamp (by omega)]
      exact nm_e (nm_r (nI_1 _) (nm_r (nI_1 _) w2))
    · have e1 := ec_sf (P := fun g => 0 < er_pn V bl g) (n := f) z
      obtain ⟨jr', J', w⟩ := ih (f + 1) jr (by omega) (by
        constructor
        · intro r hr
          rw [e1] at hr
          obtain ⟨g, hg, eg⟩ := hJ.1 r hr
          exact ⟨g, by omega, eg⟩
        · intro g hg hp
          rw [e1]
          by_cases e : g = f
          · subst e; exact absurd hp z
          · exact hJ.2 g (by omega) hp)
      refine ⟨jr', J', fun post h => ?_⟩
      have w2 := w post h
      rw [e1] at w2
      unfold wX_fillJournal_4
      refine br_f (nI_ge (by omega) (by omega)) (ex_pe hO hf4 hb hV (by omega) (br_t ?_ (nm_r (nI_1 _) w2)))
      rw [show er_pn V bl f = 0 by omega]
      decide
theorem ex_Rfj {V : Nat → Nat} {u : SX} (I : ex_R fl bl cl V dm pw co dv jr u) (hf4 : fl ≤ 4) (hb : bl ≤ 16) (hV : ev_O fl bl V) : ∃ u' jr', ej_J (fun g => 0 < er_pn V bl g) fl jr' ∧ ex_R fl bl cl V dm pw co dv jr' u' ∧ ∀ post : Int32 → SX → Prop, post (nI (ec_n fl (fun g => 0 < er_pn V bl g))) u' → wpX_fillJournal post u := by
  refine ex_el (P := fun u => ∃ u' jr', ej_J (fun g => 0 < er_pn V bl g) fl jr' ∧ ex_R fl bl cl V dm pw co dv jr' u' ∧ ∀ post : Int32 → SX → Prop, post (nI (ec_n fl (fun g => 0 < er_pn V bl g))) u' → wpX_fillJournal post u) ?_ I
  intro fc fd ow mp df us N S G K C nm hO
  obtain ⟨jr', J', w⟩ := ex_fjL (fc := fc) (fd := fd) (cl := cl) (dm := dm) (pw := pw) (co := co) (dv := dv) hO hf4 hb hV fl 0 jr (by omega) ⟨fun r hr => by rw [ec_0] at hr; omega, fun g hg => by omega⟩
  refine ⟨_, jr', J', ex_Ri (fc := fc) (fd := fd) hO, fun post h => ?_⟩
  unfold wpX_fillJournal
  exact ⟨fl + 1, w post h⟩
end
end
section
/-! the reference's state -/
def ey_O (V : Nat → Nat) (D : Nat → Prop) (ck cc dk dc da : Nat → Int32) : Prop :=
  ∀ p, p < 64 → (ck p = nI (V p % 4) ∧ (V p ≠ 0 → cc p = nI (V p / 4))) ∧ (dk p = nI (V (64 + p) % 4) ∧ (V (64 + p) ≠ 0 → dc p = nI (V (64 + p) / 4))) ∧ ((D p ∧ da p = 1) ∨ (¬ D p ∧ da p = 0))
def ey_R (fl bl cl : Nat) (V : Nat → Nat) (D : Nat → Prop) (pw : Int32) (co dv : Nat → Int32) (v : SY) : Prop :=
  ∃ ck cc dk dc da : Nat → Int32, ey_O V D ck cc dk dc da ∧ v = ((nI fl), (nI bl), (nI cl), pw, ck, cc, dk, dc, da, dv, co)
theorem ey_el {fl bl cl : Nat} {V : Nat → Nat} {D : Nat → Prop} {pw : Int32} {co dv : Nat → Int32} {v : SY} {P : SY → Prop}
    (h : ∀ ck cc dk dc da : Nat → Int32, ey_O V D ck cc dk dc da → P ((nI fl), (nI bl), (nI cl), pw, ck, cc, dk, dc, da, dv, co)) (I : ey_R fl bl cl V D pw co dv v) : P v := by
  obtain ⟨ck, cc, dk, dc, da, h1, h2⟩ := I
  rw [h2]
  exact h ck cc dk dc da h1
theorem ey_Ri {fl bl cl : Nat} {V : Nat → Nat} {D : Nat → Prop} {pw : Int32} {co dv ck cc dk dc da : Nat → Int32} (h : ey_O V D ck cc dk dc da) : ey_R fl bl cl V D pw co dv ((nI fl), (nI bl), (nI cl), pw, ck, cc, dk, dc, da, dv, co) :=
  ⟨ck, cc, dk, dc, da, h, rfl⟩
theorem ey_Oc {V V' : Nat → Nat} {D D' : Nat → Prop} {ck cc dk dc da : Nat → Int32} (h : ey_O V D ck cc dk dc da) (e : ∀ i, i < 128 → V' i = V i) (f : ∀ p, p < 64 → (D' p ↔ D p)) : ey_O V' D' ck cc dk dc da := by
  intro p hp
  rw [e p (by omega), e (64 + p) (by omega), f p hp]
  exact h p hp
theorem ey_Rc {fl bl cl : Nat} {V V' : Nat → Nat} {D D' : Nat → Prop} {pw : Int32} {co dv : Nat → Int32} {v : SY} (I : ey_R fl bl cl V D pw co dv v) (e : ∀ i, i < 128 → V' i = V i) (f : ∀ p, p < 64 → (D' p ↔ D p)) : ey_R fl bl cl V' D' pw co dv v :=
  ey_el (P := fun v => ey_R fl bl cl V' D' pw co dv v) (fun _ _ _ _ _ h => ey_Ri (ey_Oc h e f)) I
theorem ey_Rf {fl bl cl : Nat} {V : Nat → Nat} {D : Nat → Prop} {pw : Int32} {co dv : Nat → Int32} {v : SY} (I : ey_R fl bl cl V D pw co dv v) : v.1 = nI fl ∧ v.2.1 = nI bl :=
  ey_el (P := fun v => v.1 = nI fl ∧ v.2.1 = nI bl) (fun _ _ _ _ _ _ => ⟨rfl, rfl⟩) I
theorem ey_Rex {fl bl cl : Nat} {V : Nat → Nat} {D : Nat → Prop} {pw : Int32} {co dv : Nat → Int32} {v : SY} (I : ey_R fl bl cl V D pw co dv v) (hf : fl ≤ 4) (hb : bl ≤ 16) {post : Int32 → Prop} {p0 p1 : Int32} (h1 : eg_ok fl bl p0 p1 → post 1) (h0 : ¬ eg_ok fl bl p0 p1 → post 0) : wpY_exists post v p0 p1 :=
  ey_ex hf hb (ey_Rf I).1 (ey_Rf I).2 h1 h0
theorem ey_Rgd {fl bl cl : Nat} {V : Nat → Nat} {D : Nat → Prop} {pw : Int32} {co dv : Nat → Int32} {v : SY} (I : ey_R fl bl cl V D pw co dv v) (hf : fl ≤ 4) (hb : bl ≤ 16) {post : Int32 → Prop} {p0 p1 p2 : Int32} (h1 : eg_gd fl bl p0 p1 p2 → post 1) (h0 : ¬ eg_gd fl bl p0 p1 p2 → post 0) : wpY_good post v p0 p1 p2 :=
  ey_gd hf hb (ey_Rf I).1 (ey_Rf I).2 h1 h0
section
variable {gf gb gc pw : Int32} {ck cc dk dc da dv co : Nat → Int32} {fl bl cl : Nat} {V : Nat → Nat} {D : Nat → Prop}
theorem ey_ck (hO : ey_O V D ck cc dk dc da) (hv : ev_v cl V) {p : Nat} (hp : p < 64) : (ck p = 0 ↔ V p = 0) ∧ (dk p = 0 ↔ V (64 + p) = 0) := by
  obtain ⟨⟨a1, a2⟩, ⟨b1, b2⟩, c⟩ := hO p hp
  have v0 := ev_z hv (i := p) (by omega)
  have v1 := ev_z hv (i := 64 + p) (by omega)
  have e : (0 : Int32) = nI 0 := rfl
  rw [a1, b1, e, nI_eq (by omega) (by omega), nI_eq (by omega) (by omega)]
  omega
theorem ey_ho (hO : ey_O V D ck cc dk dc da) (hv : ev_v cl V) (hcl : cl ≤ 32) {q c : Nat} (hq : q < 64) (hc : c < 64) {post : Int32 → Prop} (h1 : ev_h V c q → post 1) (h0 : ¬ ev_h V c q → post 0) : wpY_holds post (gf, gb, gc, pw, ck, cc, dk, dc, da, dv, co) (nI q) (nI c) := by
  have hk := ey_ck hO hv hq
  obtain ⟨⟨a1, a2⟩, ⟨b1, b2⟩, _⟩ := hO q hq
  have w0 := hv q (by omega)
  have w1 := hv (64 + q) (by omega)
  have iq : vp_in (nI q) 64 := vp_in_nI hq (by omega)
  have H19 : ¬ (V q ≠ 0 ∧ V q / 4 = c) → wY_holds_19 post (nI q) (nI c) gf gb gc pw ck cc dk dc da dv co := by
    intro no
    unfold wY_holds_19
    rw [nI_clamp (show q < 2 ^ 31 by omega)]
    refine ⟨iq, br_c (fun z => h0 ?_) (fun z => ⟨iq, br_c (fun y => h1 (Or.inr ?_)) (fun y => h0 ?_)⟩)⟩
    · rintro (t | t)
      · exact no t
      · exact t.1 (hk.2.mp z)
    · have nz : V (64 + q) ≠ 0 := fun t => z (hk.2.mpr t)
      rw [b2 nz, nI_eq (by omega) (by omega)] at y
      exact ⟨nz, y⟩
    · rintro (t | t)
      · exact no t
      · apply y
        rw [b2 t.1, t.2]
  unfold wpY_holds
  dsimp only
  rw [nI_clamp (show q < 2 ^ 31 by omega)]
  refine ⟨iq, br_c (fun z => H19 (fun t => t.1 (hk.1.mp z))) (fun z => ⟨iq, br_c (fun y => h1 (Or.inl ?_)) (fun y => H19 ?_)⟩)⟩
  · have nz : V q ≠ 0 := fun t => z (hk.1.mpr t)
    rw [a2 nz, nI_eq (by omega) (by omega)] at y
    exact ⟨nz, y⟩
  · intro t
    apply y
    rw [a2 t.1, t.2]
/-- x names a place to leave out, or none -/
theorem ey_hbL (hO : ey_O V D ck cc dk dc da) (hv : ev_v cl V) (hcl : cl ≤ 32) {c : Nat} (hc : c < 64) {x : Int32} {X : Nat → Prop} (hx : ∀ q, q < 64 → (nI q = x ↔ X q)) {post : Int32 → Prop}
    (h1 : (∃ q, q < 64 ∧ ¬ X q ∧ ev_h V c q) → post 1) (h0 : ¬ (∃ q, q < 64 ∧ ¬ X q ∧ ev_h V c q) → post 0) :
    ∀ d i, i + d = 64 → (∀ q, q < i → ¬ X q → ¬ ev_h V c q) → wY_heldByOther_2 post x (nI c) gf gb gc pw ck cc dk dc da dv co (d + 1) (nI i) := by
  intro d
  induction d with
  | zero =>
    intro i hi hn
    have hi : i = 64 := by omega
    subst hi
    unfold wY_heldByOther_2
    refine br_t (nI_le (a := 64) (b := 64) (by omega) (by omega)) (h0 ?_)
    rintro ⟨q, hq, hx, hh⟩
    exact hn q hq hx hh
  | succ d ih =>
    intro i hi hn
    unfold wY_heldByOther_2
    refine br_f (nI_ge (b := 64) (by omega) (by omega)) (br_c (fun z => nm_r (nI_1 i) (ih (i + 1) (by omega) (fun q hq nx => ?_))) (fun z => ?_))
    · by_cases e : q = i
      · subst e; exact absurd ((hx q (by omega)).mp z) nx
      · exact hn q (by omega) nx
    · have nx : ¬ X i := fun t => z ((hx i (by omega)).mpr t)
      refine ey_ho hO hv hcl (by omega) hc (fun y => br_f (by decide) (h1 ⟨i, by omega, nx, y⟩)) (fun y => br_t rfl (nm_r (nI_1 i) (ih (i + 1) (by omega) (fun q hq nx => ?_))))
      by_cases e : q = i
      · subst e; exact y
      · exact hn q (by omega) nx
theorem ey_hb {p c : Nat} (hO : ey_O V D ck cc dk dc da) (hv : ev_v cl V) (hcl : cl ≤ 32) (hp : p < 64) (hc : c < 64) {post : Int32 → Prop} (h1 : (∃ q, q < 64 ∧ ¬ q = p ∧ ev_h V c q) → post 1) (h0 : ¬ (∃ q, q < 64 ∧ ¬ q = p ∧ ev_h V c q) → post 0) : wpY_heldByOther post (gf, gb, gc, pw, ck, cc, dk, dc, da, dv, co) (nI p) (nI c) := by
  unfold wpY_heldByOther
  exact ⟨65, ey_hbL hO hv hcl hc (X := fun q => q = p) (fun q hq => nI_eq (by omega) (by omega)) h1 h0 64 0 (by omega) (fun q hq => by omega)⟩
theorem ey_hb0 {c : Nat} (hO : ey_O V D ck cc dk dc da) (hv : ev_v cl V) (hcl : cl ≤ 32) (hc : c < 64) {post : Int32 → Prop} (h1 : ev_us V c → post 1) (h0 : ¬ ev_us V c → post 0) : wpY_heldByOther post (gf, gb, gc, pw, ck, cc, dk, dc, da, dv, co) (-1) (nI c) := by
  have e : (∃ q, q < 64 ∧ ¬ False ∧ ev_h V c q) ↔ ev_us V c := ⟨fun ⟨q, a, _, b⟩ => ⟨q, a, b⟩, fun ⟨q, a, b⟩ => ⟨q, a, id, b⟩⟩
  unfold wpY_heldByOther
  refine ⟨65, ey_hbL hO hv hcl hc (X := fun q => False) (fun q hq => ⟨fun z => ?_, fun z => z.elim⟩) (fun t => h1 (e.mp t)) (fun t => h0 (fun y => t (e.mpr y))) 64 0 (by omega) (fun q hq => by omega)⟩
  have t := nI_pos (n := q) (by omega)
  rw [z] at t
  exact t (by decide)
theorem ey_ow {p : Nat} (hO : ey_O V D ck cc dk dc da) (hv : ev_v cl V) (hcl : cl ≤ 32) (hp : p < 64) {post : Int32 → Prop} (h1 : ev_own V p → post 1) (h0 : ¬ ev_own V p → post 0) : wpY_own post (gf, gb, gc, pw, ck, cc, dk, dc, da, dv, co) (nI p) := by
  have hk := ey_ck hO hv hp
  obtain ⟨⟨a1, a2⟩, _, _⟩ := hO p hp
  have w0 := hv p (by omega)
  have ip : vp_in (nI p) 64 := vp_in_nI hp (by omega)
  unfold wpY_own
  dsimp only
  rw [nI_clamp (show p < 2 ^ 31 by omega)]
  refine ⟨ip, br_c (fun z => h0 (fun t => t.1 (hk.1.mp z))) (fun z => ⟨ip, ?_⟩)⟩
  have nz : V p ≠ 0 := fun t => z (hk.1.mpr t)
  rw [a2 nz]
  refine ey_hb hO hv hcl hp (by omega) (fun t => br_f (by decide) (h0 ?_)) (fun t => br_t rfl (h1 ⟨nz, fun q hq hn hh => t ⟨q, hq, hn, hh⟩⟩))
  rintro ⟨_, o⟩
  obtain ⟨q, hq, hn, hh⟩ := t
  exact o q hq hn hh
theorem ey_fc (hO : ey_O V D ck cc dk dc da) (hv : ev_v cl V) (hcl : cl ≤ 32) (hx : ∃ c, c < cl ∧ ¬ ev_us V c) :
    ∃ c, c < cl ∧ ¬ ev_us V c ∧ ∀ post : Int32 → Prop, post (nI c) → wpY_fresh post (gf, gb, (nI cl), pw, ck, cc, dk, dc, da, dv, co) := by
  obtain ⟨c, ⟨h1, h2⟩, h3⟩ := pk_least (fun c => c < cl ∧ ¬ ev_us V c) hx
  refine ⟨c, h1, h2, fun post h => ?_⟩
  have L : ∀ d i, i + d = c → wY_fresh_2 post gf gb (nI cl) pw ck cc dk dc da dv co (d + 1) (nI i) := by
    intro d
    induction d with
    | zero =>
      intro i hi
      have hi : i = c := by omega
      subst hi
      unfold wY_fresh_2
      exact br_f (nI_ge h1 (by omega)) (ey_hb0 hO hv hcl (by omega) (fun z => absurd z h2) (fun _ => br_t rfl h))
    | succ d ih =>
      intro i hi
      unfold wY_fresh_2
      exact br_f (nI_ge (by omega) (by omega)) (ey_hb0 hO hv hcl (by omega) (fun _ => br_f (by decide) (nm_r (nI_1 i) (ih (i + 1) (by omega)))) (fun z => absurd ⟨by omega, z⟩ (h3 i (by omega))))
  unfold wpY_fresh
  exact ⟨c + 1, L c 0 (by omega)⟩
theorem ey_da (hO : ey_O V D ck cc dk dc da) {p : Nat} (hp : p < 64) : da p = 0 ↔ ¬ D p := by
  obtain ⟨_, _, c⟩ := hO p hp
  rcases c with ⟨c1, c2⟩ | ⟨c1, c2⟩
  · rw [c2]; exact ⟨fun z => absurd z (by decide), fun z => absurd c1 z⟩
  · rw [c2]; exact ⟨fun _ => c1, fun _ => rfl⟩
theorem ey_rs (hO : ey_O V D ck cc dk dc da) (hv : ev_v cl V) (hcl : cl ≤ 32) {post : Int32 → Prop} (h : post (nI (ec_n 64 (fun p => D p ∧ ¬ ev_own V p)))) : wpY_reserved post (gf, gb, gc, pw, ck, cc, dk, dc, da, dv, co) := by
  have L : ∀ d i, i + d = 64 → wY_reserved_4 post gf gb gc pw ck cc dk dc da dv co (d + 1) (nI (ec_n i (fun p => D p ∧ ¬ ev_own V p))) (nI i) := by
    intro d
    induction d with
    | zero =>
      intro i hi
      have hi : i = 64 := by omega
      subst hi
      unfold wY_reserved_4
      exact br_t (nI_le (a := 64) (b := 64) (by omega) (by omega)) h
    | succ d ih =>
      intro i hi
      have k := ih (i + 1) (by omega)
      have hda := ey_da hO (p := i) (by omega)
      unfold wY_reserved_4
      rw [nI_clamp (show i < 2 ^ 31 by omega)]
      refine br_f (nI_ge (b := 64) (by omega) (by omega)) ⟨vp_in_nI (by omega) (by omega), br_c (fun z => ?_) (fun z => ?_)⟩
      · rw [ec_sf (fun t => hda.mp z t.1)] at k
        exact nm_r (nI_1 i) k
      · have hD : D i := Classical.not_not.mp (fun t => z (hda.mpr t))
        refine ey_ow hO hv hcl (by omega) (fun o => br_f (by decide) ?_) (fun o => br_t rfl ?_)
        · rw [ec_sf (fun t => t.2 o)] at k
          exact nm_r (nI_1 i) k
        · rw [ec_st ⟨hD, o⟩] at k
          exact nm_r (nI_1 _) (nm_r (nI_1 i) k)
  unfold wpY_reserved
  exact ⟨65, L 64 0 (by omega)⟩
theorem ey_fe (hO : ey_O V D ck cc dk dc da) (hv : ev_v cl V) (hcl : cl ≤ 32) (hF : ev_F cl V D 0) {post : Int32 → Prop} (h : post (nI (ef_n cl V D))) : wpY_free post (gf, gb, (nI cl), pw, ck, cc, dk, dc, da, dv, co) := by
  have L : ∀ d i, i + d = cl → wY_free_4 post gf gb (nI cl) pw ck cc dk dc da dv co (d + 1) (nI (ec_n i (ev_us V))) (nI i) := by
    intro d
    induction d with
    | zero =>
      intro i hi
      have hi : i = cl := by omega
      subst hi
      unfold wY_free_4
      refine br_t (nI_le (by omega) (by omega)) (ey_rs hO hv hcl ?_)
      rw [ef_I hF]
      exact h
    | succ d ih =>
      intro i hi
      have k := ih (i + 1) (by omega)
      unfold wY_free_4
      refine br_f (nI_ge (by omega) (by omega)) (ey_hb0 hO hv hcl (by omega) (fun z => br_f (by decide) ?_) (fun z => br_t rfl ?_))
      · rw [ec_st z] at k
        exact nm_r (nI_1 _) (nm_r (nI_1 i) k)
      · rw [ec_sf z] at k
        exact nm_r (nI_1 i) k
  unfold wpY_free
  exact ⟨cl + 1, L cl 0 (by omega)⟩
theorem ey_pe (hO : ey_O V D ck cc dk dc da) (hv : ev_v cl V) (hcl : cl ≤ 32) (hf4 : fl ≤ 4) (hb : bl ≤ 16) {f : Nat} (hf : f < fl) {post : Int32 → Prop} (h : post (nI (er_pn V bl f))) : wpY_pending post ((nI fl), (nI bl), gc, pw, ck, cc, dk, dc, da, dv, co) (nI f) := by
  have e : (16 : Int32) * nI f = nI (16 * f) := pk_mul 16 f
  have L : ∀ d i, i + d = bl → wY_pending_21 post (nI f) (nI fl) (nI bl) gc pw ck cc dk dc da dv co (d + 1) (nI (ec_n i (fun j => V (16 * f + j) ≠ V (64 + (16 * f + j))))) (nI (16 * f + i)) := by
    intro d
    induction d with
    | zero =>
      intro i hi
      have hi : i = bl := by omega
      subst hi
      unfold wY_pending_21
      rw [e, nI_add]
      exact br_t (nI_le (by omega) (by omega)) h
    | succ d ih =>
      intro i hi
      have k := ih (i + 1) (by omega)
      have hp : 16 * f + i < 64 := by omega
      have ip : vp_in (nI (16 * f + i)) 64 := vp_in_nI hp (by omega)
      have hk := ey_ck hO hv hp
      obtain ⟨⟨a1, a2⟩, ⟨b1, b2⟩, _⟩ := hO _ hp
      have w0 := hv (16 * f + i) (by omega)
      have w1 := hv (64 + (16 * f + i)) (by omega)
      have n1 : nI (16 * f + i) + 1 = nI (16 * f + (i + 1)) := nI_1 _
      unfold wY_pending_21
      rw [e, nI_add, nI_clamp (show 16 * f + i < 2 ^ 31 by omega)]
      refine br_f (nI_ge (by omega) (by omega)) ⟨ip, ip, br_c (fun z => ⟨ip, br_c (fun y => ?_) (fun y => ⟨ip, ip, br_c (fun x => ?_) (fun x => ?_)⟩)⟩) (fun z => ?_)⟩
      · have t0 := hk.1.mp y
        have t1 := hk.2.mp (z.symm.trans y)
        rw [ec_sf (fun t => t (t0.trans t1.symm))] at k
        exact nm_r n1 k
      · have t0 : V (16 * f + i) ≠ 0 := fun t => y (hk.1.mpr t)
        have t1 : V (64 + (16 * f + i)) ≠ 0 := fun t => y (z.trans (hk.2.mpr t))
        rw [a2 t0, b2 t1, nI_eq (by omega) (by omega)] at x
        rw [a1, b1, nI_eq (by omega) (by omega)] at z
        rw [ec_sf (fun t => t (by omega))] at k
        exact nm_r n1 k
      · have t0 : V (16 * f + i) ≠ 0 := fun t => y (hk.1.mpr t)
        have t1 : V (64 + (16 * f + i)) ≠ 0 := fun t => y (z.trans (hk.2.mpr t))
        rw [a2 t0, b2 t1, nI_eq (by omega) (by omega)] at x
        rw [ec_st (n := i) (P := fun j => V (16 * f + j) ≠ V (64 + (16 * f + j))) (show V (16 * f + i) ≠ V (64 + (16 * f + i)) by omega)] at k
        exact nm_r (nI_1 _) (nm_r n1 k)
      · rw [a1, b1, nI_eq (by omega) (by omega)] at z
        rw [ec_st (n := i) (P := fun j => V (16 * f + j) ≠ V (64 + (16 * f + j))) (show V (16 * f + i) ≠ V (64 + (16 * f + i)) by omega)] at k
        exact nm_r (nI_1 _) (nm_r n1 k)
  unfold wpY_pending
  exact br_f (nI_pos (by omega)) (br_t (nI_lt hf (by omega)) (nm_r e ⟨bl + 1, L bl 0 (by omega)⟩))
end
theorem ey_nar0 : vp_nar .boolean 0 = 0 := by decide
theorem ey_nar1 : vp_nar .boolean 1 = 1 := by decide
section
variable {fl bl cl : Nat} {V : Nat → Nat} {D : Nat → Prop} {pw : Int32} {co dv : Nat → Int32} {v : SY}
theorem ey_Rcr (I : ey_R fl bl cl V D pw co dv v) : ∃ v', ey_R fl bl cl (fun y => if y < 64 then V (64 + y) else V y) (fun _ => False) (-1) co dv v' ∧ ∀ post : SY → Prop, post v' → wpY_crash post v := by
  have L : ∀ d i, i + d = 64 → ∀ ck cc dk dc da : Nat → Int32, ey_O (fun y => if y < i then V (64 + y) else V y) (fun p => D p ∧ i ≤ p) ck cc dk dc da →
      ∃ v', ey_R fl bl cl (fun y => if y < 64 then V (64 + y) else V y) (fun _ => False) (-1) co dv v' ∧ ∀ post : SY → Prop, post v' → wY_crash_2 post (nI fl) (nI bl) (nI cl) pw (d + 1) (nI i) ck cc dk dc da dv co := by
    intro d
    induction d with
    | zero =>
      intro i hi ck cc dk dc da hO
      have hi : i = 64 := by omega
      subst hi
      refine ⟨_, ey_Ri (ey_Oc hO (fun _ _ => rfl) (fun p hp => ⟨fun t => t.elim, fun t => by omega⟩)), fun post h => ?_⟩
      unfold wY_crash_2
      exact br_t (nI_le (a := 64) (b := 64) (by omega) (by omega)) h
    | succ d ih =>
      intro i hi ck cc dk dc da hO
      obtain ⟨v', I', w⟩ := ih (i + 1) (by omega) (upd ck i (dk i)) (upd cc i (dc i)) dk dc (upd da i 0) (by
        intro p hp
        have a := hO p hp
        have b := hO i (by omega)
        dsimp only at a b ⊢
        rw [if_neg (show ¬ 64 + p < i by omega)] at a
        rw [if_neg (show ¬ 64 + i < i by omega)] at b
        rw [if_neg (show ¬ 64 + p < i + 1 by omega)]
        by_cases e : p = i
        · subst e
          rw [pk_us, pk_us, pk_us, if_pos (by omega)]
          exact ⟨b.2.1, b.2.1, Or.inr ⟨fun t => by omega, rfl⟩⟩
        · rw [pk_un e, pk_un e, pk_un e]
          by_cases f : p < i
          · rw [if_pos f] at a
            rw [if_pos (by omega)]
            refine ⟨a.1, a.2.1, ?_⟩
            rcases a.2.2 with t | t
            · exact Or.inl ⟨⟨t.1.1, by omega⟩, t.2⟩
            · exact Or.inr ⟨fun y => t.1 ⟨y.1, by omega⟩, t.2⟩
          · rw [if_neg f] at a
            rw [if_neg (by omega)]
            refine ⟨a.1, a.2.1, ?_⟩
            rcases a.2.2 with t | t
            · exact Or.inl ⟨⟨t.1.1, by omega⟩, t.2⟩
            · exact Or.inr ⟨fun y => t.1 ⟨y.1, by omega⟩, t.2⟩)
      refine ⟨v', I', fun post h => ?_⟩
      have ip : vp_in (nI i) 64 := vp_in_nI (by omega) (by omega)
      unfold wY_crash_2
      rw [nI_clamp (show i < 2 ^ 31 by omega), ey_nar0]
      exact br_f (nI_ge (b := 64) (by omega) (by omega)) ⟨ip, ip, nm_e ⟨ip, ip, nm_e ⟨ip, nm_e (nm_r (nI_1 i) (w post h))⟩⟩⟩
  refine ey_el (P := fun v => ∃ v', ey_R fl bl cl (fun y => if y < 64 then V (64 + y) else V y) (fun _ => False) (-1) co dv v' ∧ ∀ post : SY → Prop, post v' → wpY_crash post v) ?_ I
  intro ck cc dk dc da hO
  obtain ⟨v', I', w⟩ := L 64 0 (by omega) ck cc dk dc da (ey_Oc hO (fun y _ => if_neg (by omega)) (fun p hp => ⟨fun t => t.1, fun t => ⟨t, by omega⟩⟩))
  refine ⟨v', I', fun post h => ?_⟩
  unfold wpY_crash
  exact ⟨65, w post h⟩
theorem ey_Rdw1 (I : ey_R fl bl cl V D pw co dv v) (h0 : pw ≠ 0) : ∃ v', ey_R fl bl cl V D (ed_pw pw) co dv v' ∧ ∀ post : Int32 → SY → Prop, post 1 v' → wpY_diskWrite post v := by
  refine ey_el (P := fun v => ∃ v', ey_R fl bl cl V D (ed_pw pw) co dv v' ∧ ∀ post : Int32 → SY → Prop, post 1 v' → wpY_diskWrite post v) ?_ I
  intro ck cc dk dc da hO
  refine ⟨_, ey_Ri hO, fun post h => ?_⟩
  unfold wpY_diskWrite
  unfold ed_pw at h
  refine br_f h0 ?_
  by_cases z : pw ≤ 0
  · rw [if_pos z] at h
    exact br_t z h
  · rw [if_neg z] at h
    exact br_f z (nm_e h)
theorem ey_Rdw0 (I : ey_R fl bl cl V D 0 co dv v) : ∃ v', ey_R fl bl cl (fun y => if y < 64 then V (64 + y) else V y) (fun _ => False) (-1) co dv v' ∧ ∀ post : Int32 → SY → Prop, post 0 v' → wpY_diskWrite post v := by
  obtain ⟨v', I', w⟩ := ey_Rcr I
  refine ⟨v', I', fun post h => ?_⟩
  revert w
  refine ey_el (P := fun v => (∀ post : SY → Prop, post v' → wpY_crash post v) → wpY_diskWrite post v) ?_ I
  intro ck cc dk dc da hO w
  unfold wpY_diskWrite
  exact br_t rfl (w _ h)
end
end
section
/-! the relation; the constructors; the calls that only read -/
def er_B (fl bl cl : Nat) : Prop := 2 ≤ fl ∧ fl ≤ 4 ∧ 4 ≤ bl ∧ bl ≤ 16 ∧ 8 ≤ cl ∧ cl ≤ 32
/-- the two states under one dirty set, one power, one table of dirty values -/
def er_T (fl bl cl : Nat) (V W : Nat → Nat) (dm : Int64) (pw : Int32) (x y dv jr : Nat → Int32) (m : Nat) (u : SX) (v : SY) : Prop :=
  er_B fl bl cl ∧ er_P fl bl cl V W (eb dm) x y m ∧ ex_R fl bl cl V dm pw x dv jr u ∧ ey_R fl bl cl W (eb dm) pw y dv v
def er_S (u : SX) (v : SY) : Prop := ∃ (fl bl cl : Nat) (V W : Nat → Nat) (dm : Int64) (pw : Int32) (x y dv jr : Nat → Int32), er_T fl bl cl V W dm pw x y dv jr 0 u v
def i_Rel (k : Nat) (u : SX) (v : SY) : Prop := er_S u v
theorem i_up {k : Nat} {u : SX} {v : SY} (h : i_Rel k u v) : i_Rel (k + 5) u v := h
theorem ei_cl (k : Int32) {lo hi : Nat} (h : lo ≤ hi) (hh : hi < 2 ^ 31) : ∃ n, lo ≤ n ∧ n ≤ hi ∧ ∀ A : Int32 → Prop, A (nI n) → ((nI lo ≤ k → ((k ≤ nI hi → A k) ∧ (¬ k ≤ nI hi → A (nI hi)))) ∧ (¬ nI lo ≤ k → A (nI lo))) := by
  by_cases z : nI lo ≤ k
  · by_cases y : k ≤ nI hi
    · have k0 : ¬ k < 0 := by
        have := nI_pos' (n := lo) (by omega)
        exact Int32.not_lt.mpr (Int32.le_trans this z)
      obtain ⟨n, hn, rfl⟩ := nI_of k0
      rw [nI_leI (by omega) hn] at z
      rw [nI_leI hn hh] at y
      exact ⟨n, z, y, fun A a => br_t (nI_le z hn) (br_t (nI_le y hh) a)⟩
    · exact ⟨hi, h, Nat.le_refl _, fun A a => br_t z (br_f y a)⟩
  · exact ⟨lo, Nat.le_refl _, h, fun A a => br_f z a⟩
theorem ei_cx {post : Int32 → Prop} {u : SX} {k lo hi : Int32} (h : (lo ≤ k → ((k ≤ hi → post k) ∧ (¬ k ≤ hi → post hi))) ∧ (¬ lo ≤ k → post lo)) : wpX_clamp post u k lo hi := by
  obtain ⟨u1, u2, u3, u4, u5, u6, u7, u8, u9, u10, u11, u12, u13, u14, u15, u16, u17, u18, u19, u20⟩ := u
  exact h
theorem ei_O : ex_O (fun _ => 0) 0 0 0 0 (fun _ => 0) (fun _ => 0) (fun _ => 0) (fun _ => 0) (fun _ => 0) (fun _ => 0) := by
  have nq : ∀ m c p, ¬ en_Q (fun _ => 0) m c p := fun m c p t => t.1 rfl
  refine ⟨fun q hq => ⟨fun i hi => absurd hi (Nat.not_lt_zero _), fun i j hi hj => absurd hj (Nat.not_lt_zero _), fun i b hi => absurd hi (Nat.not_lt_zero _), fun b hb _ => rfl⟩, ⟨fun m c p _ _ _ => ?_, fun p _ => ?_, fun c _ => ?_⟩, fun p hp => ?_, fun p hp => ?_⟩
  · exact ⟨fun t => absurd t (eb_0 p), fun t => absurd t (nq m c p)⟩
  · exact ⟨fun t => absurd t (eb_0 p), fun ⟨c, _, t, _⟩ => absurd t (nq 0 c p)⟩
  · exact ⟨fun t => absurd t (eb_0 c), fun ⟨_, q, _, t⟩ => t.elim (fun t => absurd t (nq 0 c q)) (fun t => absurd t (nq 1 c q))⟩
  · exact ⟨fun t => absurd t (eb_0 p), fun t => absurd rfl t⟩
  · exact ⟨fun t => absurd t (eb_0 p), fun t => absurd rfl t⟩
theorem ei_P (fl bl cl : Nat) : er_P fl bl cl (fun _ => 0) (fun _ => 0) (eb 0) (fun _ => 0) (fun _ => 0) 0 := by
  refine ⟨fun i _ => Or.inl rfl, fun i _ => Or.inl rfl, ⟨fun i _ => rfl, fun i j _ _ t _ => absurd rfl t⟩, fun i _ t => absurd t (show ¬ 0 % 4 = 2 by decide), ?_, fun p _ _ => ⟨rfl, rfl⟩⟩
  unfold ev_F
  rw [ec_z cl (P := ev_us (fun _ => 0)) (fun c _ ⟨q, _, t⟩ => t.elim (fun t => t.1 rfl) (fun t => t.1 rfl)), ec_z 64 (fun p _ t => absurd t.1 (eb_0 p))]
  omega
theorem i_vc0 (k0 : Int32) (k1 : Int32) (k2 : Int32) : wpX_init (fun u => wpY_init (fun v => i_Rel 3 u v) k0 k1 k2) k0 k1 k2 := by
  obtain ⟨fl, a1, a2, A⟩ := ei_cl k0 (lo := 2) (hi := 4) (by omega) (by omega)
  obtain ⟨bl, b1, b2, B⟩ := ei_cl k1 (lo := 4) (hi := 16) (by omega) (by omega)
  obtain ⟨cl, c1, c2, C⟩ := ei_cl k2 (lo := 8) (hi := 32) (by omega) (by omega)
  have A' : ∀ (post : Int32 → Prop) (u : SX), post (nI fl) → wpX_clamp post u k0 2 4 := fun post u h => ei_cx (A post h)
  have B' : ∀ (post : Int32 → Prop) (u : SX), post (nI bl) → wpX_clamp post u k1 4 16 := fun post u h => ei_cx (B post h)
  have C' : ∀ (post : Int32 → Prop) (u : SX), post (nI cl) → wpX_clamp post u k2 8 32 := fun post u h => ei_cx (C post h)
  unfold wpX_init
  refine A' _ _ ?_
  refine B' _ _ ?_
  refine C' _ _ ?_
  unfold wpY_init
  refine A (fun z => wY_init_85 _ k1 k2 z 0 0 0 (-1) (fun _ => 0) (fun _ => 0) (fun _ => 0) (fun _ => 0) (fun _ => 0) (fun _ => 0) (fun _ => 0)) ?_
  unfold wY_init_85
  refine B (fun z => wY_init_110 _ k2 z (nI fl) 0 0 (-1) (fun _ => 0) (fun _ => 0) (fun _ => 0) (fun _ => 0) (fun _ => 0) (fun _ => 0) (fun _ => 0)) ?_
  unfold wY_init_110
  refine C (fun z => i_Rel 3 _ (nI fl, nI bl, z, -1, _, _, _, _, _, _, _)) ?_
  refine ⟨fl, bl, cl, fun _ => 0, fun _ => 0, 0, -1, fun _ => 0, fun _ => 0, fun _ => 0, fun _ => 0, ⟨a1, a2, b1, b2, c1, c2⟩, ei_P fl bl cl, ?_, ?_⟩
  · exact ⟨0, 1, 0, 0, 0, 0, _, _, _, _, _, _, ei_O, rfl⟩
  · exact ⟨_, _, _, _, _, fun p _ => ⟨⟨rfl, fun t => absurd rfl t⟩, ⟨rfl, fun t => absurd rfl t⟩, Or.inr ⟨eb_0 p, rfl⟩⟩, rfl⟩
theorem ev_Re {cl : Nat} {V W : Nat → Nat} (h : ev_v cl V) (g : ev_v cl W) (r : ev_R V W) {i j : Nat} (hi : i < 128) (hj : j < 128) : V i = V j ↔ W i = W j := by
  have a := r.1 i hi
  have b := r.1 j hj
  have c := r.2 i j hi hj
  have zi := ev_Rz h g r hi
  have zj := ev_Rz h g r hj
  by_cases x : V i = 0
  · have x2 : W i = 0 := Classical.not_not.mp (fun t => zi.mpr t x)
    rw [x, x2]
    constructor
    · intro t; exact (Classical.not_not.mp (fun s => zj.mpr s t.symm)).symm
    · intro t; exact (Classical.not_not.mp (fun s => zj.mp s t.symm)).symm
  · by_cases y : V j = 0
    · have y2 : W j = 0 := Classical.not_not.mp (fun t => zj.mpr t y)
      rw [y, y2]
      exact ⟨fun t => absurd t x, fun t => absurd t (zi.mp x)⟩
    · have c := c x y
      omega
theorem er_pnE {fl bl cl : Nat} {V W : Nat → Nat} {D : Nat → Prop} {x y : Nat → Int32} {m : Nat} (h : er_P fl bl cl V W D x y m) (hb : bl ≤ 16) {f : Nat} (hf : f < 4) : er_pn V bl f = er_pn W bl f := by
  obtain ⟨g1, g2, g3, _⟩ := h
  exact ec_congr bl (fun j hj => not_congr (ev_Re g1 g2 g3 (by omega) (by omega)))
theorem er_fnE {fl bl cl : Nat} {V W : Nat → Nat} {D : Nat → Prop} {x y : Nat → Int32} {m : Nat} (h : er_P fl bl cl V W D x y m) : ef_n cl V D = ef_n cl W D := by
  obtain ⟨g1, g2, g3, _⟩ := h
  unfold ef_n
  rw [ev_Ru g1 g2 g3, ev_Rr g1 g2 g3 D]
theorem er_FW {fl bl cl : Nat} {V W : Nat → Nat} {D : Nat → Prop} {x y : Nat → Int32} {m : Nat} (h : er_P fl bl cl V W D x y m) : ev_F cl W D 0 := by
  obtain ⟨g1, g2, g3, _, g5, _⟩ := h
  unfold ev_F at g5 ⊢
  rw [← ev_Ru g1 g2 g3, ← ev_Rr g1 g2 g3 D]
  omega
section
variable {fl bl cl : Nat} {V W : Nat → Nat} {dm : Int64} {pw : Int32} {x y dv jr : Nat → Int32} {m : Nat} {u : SX} {v : SY}
theorem er_free (T : er_T fl bl cl V W dm pw x y dv jr m u v) : (∀ post : Int32 → Prop, post (nI (ef_n cl V (eb dm))) → wpX_free post u) ∧ (∀ post : Int32 → Prop, post (nI (ef_n cl V (eb dm))) → wpY_free post v) := by
  obtain ⟨⟨b1, b2, b3, b4, b5, b6⟩, hP, IX, IY⟩ := T
  constructor
  · intro post h
    exact ex_el (P := fun u => wpX_free post u) (fun _ _ _ _ _ _ _ _ _ _ _ _ hO => ex_fe hO hP.1 b6 (ev_Fs hP.2.2.2.2.1 (Nat.zero_le _)) h) IX
  · intro post h
    rw [er_fnE hP] at h
    exact ey_el (P := fun v => wpY_free post v) (fun _ _ _ _ _ hO => ey_fe hO hP.2.1 b6 (er_FW hP) h) IY
theorem er_resv (T : er_T fl bl cl V W dm pw x y dv jr m u v) : ∃ r, (∀ post : Int32 → Prop, post r → wpX_reserved post u) ∧ (∀ post : Int32 → Prop, post r → wpY_reserved post v) := by
  obtain ⟨⟨b1, b2, b3, b4, b5, b6⟩, hP, IX, IY⟩ := T
  refine ⟨nI (ec_n 64 (fun p => eb dm p ∧ ¬ ev_own V p)), ?_, ?_⟩
  · intro post h
    exact ex_el (P := fun u => wpX_reserved post u) (fun _ _ _ _ _ _ _ _ _ _ _ _ hO => ex_rs hO h) IX
  · intro post h
    rw [ev_Rr hP.1 hP.2.1 hP.2.2.1 (eb dm)] at h
    exact ey_el (P := fun v => wpY_reserved post v) (fun _ _ _ _ _ hO => ey_rs hO hP.2.1 b6 h) IY
theorem er_pend (T : er_T fl bl cl V W dm pw x y dv jr m u v) {f : Nat} (hf : f < fl) : (∀ post : Int32 → Prop, post (nI (er_pn V bl f)) → wpX_pending post u (nI f)) ∧ (∀ post : Int32 → Prop, post (nI (er_pn V bl f)) → wpY_pending post v (nI f)) := by
  obtain ⟨⟨b1, b2, b3, b4, b5, b6⟩, hP, IX, IY⟩ := T
  constructor
  · intro post h
    exact ex_el (P := fun u => wpX_pending post u (nI f)) (fun _ _ _ _ _ _ _ _ _ _ _ _ hO => ex_pe hO b2 b4 hP.2.2.2.2.2 hf h) IX
  · intro post h
    rw [er_pnE hP b4 (by omega)] at h
    exact ey_el (P := fun v => wpY_pending post v (nI f)) (fun _ _ _ _ _ hO => ey_pe hO hP.2.1 b6 b2 b4 hf h) IY
theorem er_kind (T : er_T fl bl cl V W dm pw x y dv jr m u v) {f b : Nat} (hf : f < fl) (hb : b < bl) (p2 : Int32) : ∃ r, (∀ post : Int32 → Prop, post r → wpX_kind post u (nI f) (nI b) p2) ∧ (∀ post : Int32 → Prop, post r → wpY_kind post v (nI f) (nI b) p2) := by
  obtain ⟨⟨b1, b2, b3, b4, b5, b6⟩, hP, IX, IY⟩ := T
  obtain ⟨j, hj, ej⟩ := pk_andE p2 (m := 1) 1 (by decide)
  have ok : eg_ok fl bl (nI f) (nI b) := ⟨f, b, hf, hb, rfl, rfl⟩
  have e1 : nI f * 16 + nI b = nI (16 * f + b) := by rw [show (16 : Int32) = nI 16 from rfl, pk_mul, nI_add, Nat.mul_comm]
  have e2 : (16 : Int32) * nI f + nI b = nI (16 * f + b) := by rw [show (16 : Int32) = nI 16 from rfl, pk_mul, nI_add]
  have hp : 16 * f + b < 64 := by omega
  have ip : vp_in (nI (16 * f + b)) 64 := vp_in_nI hp (by omega)
  have hk := hP.2.2.1.1 (64 * j + (16 * f + b)) (by omega)
  have w := hP.1 (64 * j + (16 * f + b)) (by omega)
  have XX : ∀ post : Int32 → Prop, ((p2 &&& 1) = 0 → eb dm (16 * f + b) → post (nI (V (64 * j + (16 * f + b)) % 4) + 4)) → ((p2 &&& 1) = 0 → ¬ eb dm (16 * f + b) → post (nI (V (64 * j + (16 * f + b)) % 4))) → (¬ (p2 &&& 1) = 0 → post (nI (V (64 * j + (16 * f + b)) % 4))) → wpX_kind post u (nI f) (nI b) p2 := by
    intro post h1 h2 h3
    refine ex_el (P := fun u => wpX_kind post u (nI f) (nI b) p2) ?_ IX
    intro fc fd ow mp df us N S G K C nm hO
    have w' := el_Ev hO.1 (i := 64 * j + (16 * f + b)) (by omega)
    unfold wpX_kind
    refine ex_ex b2 b4 rfl rfl (fun _ => br_f (by decide) (nm_r e1 ?_)) (fun no => absurd ok no)
    rw [ej]
    refine ex_en hO.1 hj hp (nm_r (el_kind (by omega)) ?_)
    rw [← ej]
    exact br_c (fun z => ex_hb _ hp (fun t => br_f (by decide) (nm_e (h1 z t))) (fun t => br_t rfl (h2 z t))) (fun z => h3 z)
  have YY : ∀ post : Int32 → Prop, ((p2 &&& 1) = 0 → eb dm (16 * f + b) → post (nI (V (64 * j + (16 * f + b)) % 4) + 4)) → ((p2 &&& 1) = 0 → ¬ eb dm (16 * f + b) → post (nI (V (64 * j + (16 * f + b)) % 4))) → (¬ (p2 &&& 1) = 0 → post (nI (V (64 * j + (16 * f + b)) % 4))) → wpY_kind post v (nI f) (nI b) p2 := by
    intro post h1 h2 h3
    refine ey_el (P := fun v => wpY_kind post v (nI f) (nI b) p2) ?_ IY
    intro ck cc dk dc da hO
    have hda := ey_da hO hp
    obtain ⟨⟨a1, a2⟩, ⟨d1, d2⟩, _⟩ := hO _ hp
    unfold wpY_kind
    refine ey_ex b2 b4 rfl rfl (fun _ => br_f (by decide) (nm_r e2 ?_)) (fun no => absurd ok no)
    rw [nI_clamp (show 16 * f + b < 2 ^ 31 by omega), a1, d1]
    rcases (by omega : j = 0 ∨ j = 1) with j0 | j1
    · subst j0
      rw [show 64 * 0 + (16 * f + b) = 16 * f + b by omega] at hk h1 h2
      have z0 : (p2 &&& 1) = 0 := ej
      rw [← hk]
      refine br_f (by rw [z0]; decide) ⟨ip, br_c (fun z => ⟨ip, h2 z0 (hda.mp z)⟩) (fun z => ⟨ip, h1 z0 (Classical.not_not.mp (fun t => z (hda.mpr t)))⟩)⟩
    · subst j1
      rw [show 64 * 1 + (16 * f + b) = 64 + (16 * f + b) by omega] at hk h3
      have z1 : (p2 &&& 1) = 1 := ej
      rw [← hk]
      exact br_t z1 ⟨ip, h3 (by rw [z1]; decide)⟩
  by_cases z : (p2 &&& 1) = 0
  · by_cases t : eb dm (16 * f + b)
    · exact ⟨_, fun post h => XX post (fun _ _ => h) (fun _ s => absurd t s) (fun s => absurd z s), fun post h => YY post (fun _ _ => h) (fun _ s => absurd t s) (fun s => absurd z s)⟩
    · exact ⟨_, fun post h => XX post (fun _ s => absurd s t) (fun _ _ => h) (fun s => absurd z s), fun post h => YY post (fun _ s => absurd s t) (fun _ _ => h) (fun s => absurd z s)⟩
  · exact ⟨_, fun post h => XX post (fun s => absurd s z) (fun s => absurd s z) (fun _ => h), fun post h => YY post (fun s => absurd s z) (fun s => absurd s z) (fun _ => h)⟩
theorem er_read (T : er_T fl bl cl V W dm pw x y dv jr m u v) {f b : Nat} (hf : f < fl) (hb : b < bl) (p2 : Int32) : ∃ r, (∀ post : Int32 → Prop, post r → wpX_read post u (nI f) (nI b) p2) ∧ (∀ post : Int32 → Prop, post r → wpY_read post v (nI f) (nI b) p2) := by
  obtain ⟨⟨b1, b2, b3, b4, b5, b6⟩, hP, IX, IY⟩ := T
  obtain ⟨j, hj, ej⟩ := pk_andE p2 (m := 1) 1 (by decide)
  have ok : eg_ok fl bl (nI f) (nI b) := ⟨f, b, hf, hb, rfl, rfl⟩
  have e1 : nI f * 16 + nI b = nI (16 * f + b) := by rw [show (16 : Int32) = nI 16 from rfl, pk_mul, nI_add, Nat.mul_comm]
  have e2 : (16 : Int32) * nI f + nI b = nI (16 * f + b) := by rw [show (16 : Int32) = nI 16 from rfl, pk_mul, nI_add]
  have hp : 16 * f + b < 64 := by omega
  have ip : vp_in (nI (16 * f + b)) 64 := vp_in_nI hp (by omega)
  have hk := hP.2.2.1.1 (64 * j + (16 * f + b)) (by omega)
  have w := hP.1 (64 * j + (16 * f + b)) (by omega)
  have ww := hP.2.1 (64 * j + (16 * f + b)) (by omega)
  have hc := hP.2.2.2.1 (64 * j + (16 * f + b)) (by omega)
  have X46 : ∀ (post : Int32 → Prop) (fc fd : Int32) (ow mp df us : Int64) (N S G K C : Nat → Nat) (nm : Nat → Int64), ex_O V ow mp df us N S G K C nm → (V (64 * j + (16 * f + b)) % 4 = 2 → post (x (V (64 * j + (16 * f + b)) / 4))) → (¬ V (64 * j + (16 * f + b)) % 4 = 2 → post 0) → wX_read_46 post p2 (nI (16 * f + b)) fc fd (nI fl) (nI bl) (nI cl) dm ow mp df us pw (el_f N) (el_f S) (el_f G) (el_f K) (el_f C) nm x dv jr := by
    intro post fc fd ow mp df us N S G K C nm hO h1 h2
    have w' := el_Ev hO.1 (i := 64 * j + (16 * f + b)) (by omega)
    unfold wX_read_46
    rw [ej]
    refine ex_en hO.1 hj hp ?_
    rw [el_kind (by omega), el_cell (by omega), nI_clamp (by omega)]
    exact pk_eq (V (64 * j + (16 * f + b)) % 4) 2 (fun z => ⟨vp_in_nI (by omega) (by omega), h1 z⟩) (fun z => h2 z)
  have XX : ∀ post : Int32 → Prop, ((p2 &&& 1) = 0 → eb dm (16 * f + b) → post (dv (16 * f + b))) → (¬ ((p2 &&& 1) = 0 ∧ eb dm (16 * f + b)) → V (64 * j + (16 * f + b)) % 4 = 2 → post (x (V (64 * j + (16 * f + b)) / 4))) → (¬ ((p2 &&& 1) = 0 ∧ eb dm (16 * f + b)) → ¬ V (64 * j + (16 * f + b)) % 4 = 2 → post 0) → wpX_read post u (nI f) (nI b) p2 := by
    intro post h1 h2 h3
    refine ex_el (P := fun u => wpX_read post u (nI f) (nI b) p2) ?_ IX
    intro fc fd ow mp df us N S G K C nm hO
    unfold wpX_read
    refine ex_ex b2 b4 rfl rfl (fun _ => br_f (by decide) (nm_r e1 ?_)) (fun no => absurd ok no)
    rw [nI_clamp (show 16 * f + b < 2 ^ 31 by omega)]
    refine br_c (fun z => ex_hb _ hp (fun t => br_f (by decide) ⟨ip, h1 z t⟩) (fun t => br_t rfl (X46 post fc fd ow mp df us N S G K C nm hO (h2 (fun s => t s.2)) (h3 (fun s => t s.2))))) (fun z => X46 post fc fd ow mp df us N S G K C nm hO (h2 (fun s => z s.1)) (h3 (fun s => z s.1)))
  have YY : ∀ post : Int32 → Prop, ((p2 &&& 1) = 0 → eb dm (16 * f + b) → post (dv (16 * f + b))) → (¬ ((p2 &&& 1) = 0 ∧ eb dm (16 * f + b)) → V (64 * j + (16 * f + b)) % 4 = 2 → post (x (V (64 * j + (16 * f + b)) / 4))) → (¬ ((p2 &&& 1) = 0 ∧ eb dm (16 * f + b)) → ¬ V (64 * j + (16 * f + b)) % 4 = 2 → post 0) → wpY_read post v (nI f) (nI b) p2 := by
    intro post h1 h2 h3
    refine ey_el (P := fun v => wpY_read post v (nI f) (nI b) p2) ?_ IY
    intro ck cc dk dc da hO
    have hda := ey_da hO hp
    obtain ⟨⟨a1, a2⟩, ⟨d1, d2⟩, _⟩ := hO _ hp
    unfold wpY_read
    refine ey_ex b2 b4 rfl rfl (fun _ => br_f (by decide) (nm_r e2 ?_)) (fun no => absurd ok no)
    rw [nI_clamp (show 16 * f + b < 2 ^ 31 by omega), a1, d1]
    rcases (by omega : j = 0 ∨ j = 1) with j0 | j1
    · subst j0
      rw [show 64 * 0 + (16 * f + b) = 16 * f + b by omega] at hk h2 h3 w ww hc
      have z0 : (p2 &&& 1) = 0 := ej
      refine br_f (by rw [z0]; decide) ⟨ip, br_c (fun z => ⟨ip, ?_⟩) (fun z => ⟨ip, h1 z0 (Classical.not_not.mp (fun t => z (hda.mpr t)))⟩)⟩
      have nd : ¬ ((p2 &&& 1) = 0 ∧ eb dm (16 * f + b)) := fun s => hda.mp z s.2
      refine pk_eq (W (16 * f + b) % 4) 2 (fun t => ⟨ip, ?_⟩) (fun t => h3 nd (by omega))
      rw [a2 (by omega), nI_clamp (by omega), ← hc (by omega)]
      exact ⟨vp_in_nI (by omega) (by omega), h2 nd (by omega)⟩
    · subst j1
      rw [show 64 * 1 + (16 * f + b) = 64 + (16 * f + b) by omega] at hk h2 h3 w ww hc
      have z1 : (p2 &&& 1) = 1 := ej
      have nd : ¬ ((p2 &&& 1) = 0 ∧ eb dm (16 * f + b)) := fun s => absurd (z1.symm.trans s.1) (by decide)
      refine br_t z1 ⟨ip, pk_eq (W (64 + (16 * f + b)) % 4) 2 (fun t => ⟨ip, ?_⟩) (fun t => h3 nd (by omega))⟩
      rw [d2 (by omega), nI_clamp (by omega), ← hc (by omega)]
      exact ⟨vp_in_nI (by omega) (by omega), h2 nd (by omega)⟩
  by_cases z : (p2 &&& 1) = 0 ∧ eb dm (16 * f + b)
  · exact ⟨_, fun post h => XX post (fun _ _ => h) (fun s => absurd z s) (fun s => absurd z s), fun post h => YY post (fun _ _ => h) (fun s => absurd z s) (fun s => absurd z s)⟩
  · by_cases t : V (64 * j + (16 * f + b)) % 4 = 2
    · exact ⟨_, fun post h => XX post (fun a b => absurd ⟨a, b⟩ z) (fun _ _ => h) (fun _ s => absurd t s), fun post h => YY post (fun a b => absurd ⟨a, b⟩ z) (fun _ _ => h) (fun _ s => absurd t s)⟩
    · exact ⟨_, fun post h => XX post (fun a b => absurd ⟨a, b⟩ z) (fun _ s => absurd s t) (fun _ _ => h), fun post h => YY post (fun a b => absurd ⟨a, b⟩ z) (fun _ s => absurd s t) (fun _ _ => h)⟩
end
end
section
/-! the calls that only read: the owed statements -/
section
variable {gf gb gc pw : Int32} {ck cc dk dc da dv co : Nat → Int32} {W : Nat → Nat} {D : Nat → Prop} {cl : Nat}
theorem ey_hd155 {post : Int64 → Prop} {J : Int64 → Int32 → Prop} {c i T : Nat} {F kv cv : Int32} {z : Int64} (hk : kv = 0 ↔ T = 0) (hc : T ≠ 0 → cv = nI (T / 4)) (hT : T / 4 < 2 ^ 31) (hc2 : c < 2 ^ 31) (h1 : (T ≠ 0 ∧ T / 4 = c) → J (eb_st z i) (nI (i + 1))) (h0 : ¬ (T ≠ 0 ∧ T / 4 = c) → J z (nI (i + 1))) :
    wY_holders_155 post J (nI c) F z (nI i) kv cv gf gb gc pw ck cc dk dc da dv co := by
  unfold wY_holders_155
  refine br_c (fun e => nm_r (nI_1 i) (h0 (fun t => t.1 (hk.mp e)))) (fun e => ?_)
  have nz : T ≠ 0 := fun t => e (hk.mpr t)
  rw [hc nz]
  exact pk_eq (T / 4) c (fun t => nm_e (nm_r (nI_1 i) (h1 ⟨nz, t⟩))) (fun t => nm_r (nI_1 i) (h0 (fun s => t s.2)))
theorem ey_hdL (hO : ey_O W D ck cc dk dc da) (hv : ev_v cl W) (hcl : cl ≤ 32) {mm c : Nat} (hm : mm < 2) (hc : c < 64) {F : Int32} (hF : (mm = 0 ∧ F = 1) ∨ (mm = 1 ∧ F = 0)) {post : Int64 → Prop} (h : ∀ z : Int64, (∀ q, q < 64 → (eb z q ↔ en_Q W mm c q)) → post z) :
    ∀ d i (z : Int64), i + d = 64 → (∀ q, q < 64 → (eb z q ↔ q < i ∧ en_Q W mm c q)) → wY_holders_102 post (nI c) F gf gb gc pw ck cc dk dc da dv co (d + 1) z (nI i) := by
  intro d
  induction d with
  | zero =>
    intro i z hi hz
    have hi : i = 64 := by omega
    subst hi
    unfold wY_holders_102
    refine br_t (nI_le (a := 64) (b := 64) (by omega) (by omega)) (h z (fun q hq => ?_))
    rw [hz q hq]
    exact ⟨fun t => t.2, fun t => ⟨hq, t⟩⟩
  | succ d ih =>
    intro i z hi hz
    have ip : vp_in (nI i) 64 := vp_in_nI (by omega) (by omega)
    have hk := ey_ck hO hv (p := i) (by omega)
    obtain ⟨⟨a1, a2⟩, ⟨d1, d2⟩, _⟩ := hO i (by omega)
    have v0 := hv i (by omega)
    have v1 := hv (64 + i) (by omega)
    have k1 : en_Q W mm c i → wY_holders_102 post (nI c) F gf gb gc pw ck cc dk dc da dv co (d + 1) (eb_st z i) (nI (i + 1)) := fun t => ih (i + 1) _ (by omega) (fun q hq => by
      rw [eb_sti z (by omega) hq, hz q hq]
      by_cases e : q = i
      · subst e; exact ⟨fun _ => ⟨by omega, t⟩, fun _ => Or.inr rfl⟩
      · exact ⟨fun s => ⟨by have := s.resolve_right e; omega, (s.resolve_right e).2⟩, fun s => Or.inl ⟨by omega, s.2⟩⟩)
    have k0 : ¬ en_Q W mm c i → wY_holders_102 post (nI c) F gf gb gc pw ck cc dk dc da dv co (d + 1) z (nI (i + 1)) := fun t => ih (i + 1) _ (by omega) (fun q hq => by
      rw [hz q hq]
      by_cases e : q = i
      · subst e; exact ⟨fun s => absurd s.2 t, fun s => absurd s.2 t⟩
      · exact ⟨fun s => ⟨by omega, s.2⟩, fun s => ⟨by omega, s.2⟩⟩)
    unfold wY_holders_102 wY_holders_131
    rw [nI_clamp (show i < 2 ^ 31 by omega)]
    refine br_f (nI_ge (b := 64) (by omega) (by omega)) ?_
    rcases hF with ⟨m0, f0⟩ | ⟨m1, f1⟩
    · subst m0 f0
      exact br_f (by decide) ⟨ip, br_f (by decide) ⟨ip, ey_hd155 hk.1 a2 (by omega) (by omega) (fun t => k1 (en_Q0.mpr t)) (fun t => k0 (fun s => t (en_Q0.mp s)))⟩⟩
    · subst m1 f1
      exact br_t rfl ⟨ip, br_t rfl ⟨ip, ey_hd155 hk.2 d2 (by omega) (by omega) (fun t => k1 (en_Q1.mpr t)) (fun t => k0 (fun s => t (en_Q1.mp s)))⟩⟩
end
theorem en_and2 (n : Nat) : n &&& 2 = 2 * (n / 2 % 2) := by
  have a := Nat.and_div_two_pow (a := n) (b := 2) (n := 1)
  have b := Nat.and_mod_two_pow (a := n) (b := 2) (n := 1)
  rw [show (2 : Nat) / 2 ^ 1 = 2 ^ 1 - 1 from rfl, Nat.and_two_pow_sub_one_eq_mod] at a
  rw [show (2 : Nat) % 2 ^ 1 = 0 from rfl, Nat.and_zero] at b
  rw [show (2 : Nat) ^ 1 = 2 from rfl] at a b
  omega
section
variable {fl bl cl : Nat} {V W : Nat → Nat} {dm : Int64} {pw : Int32} {x y dv jr : Nat → Int32} {m : Nat} {u : SX} {v : SY}
theorem er_hold (T : er_T fl bl cl V W dm pw x y dv jr m u v) {f b : Nat} (hf : f < fl) (hb : b < bl) (p2 : Int32) : ∃ r, (∀ post : Int64 → Prop, post r → wpX_holders post u (nI f) (nI b) p2) ∧ (∀ post : Int64 → Prop, post r → wpY_holders post v (nI f) (nI b) p2) := by
  obtain ⟨⟨b1, b2, b3, b4, b5, b6⟩, hP, IX, IY⟩ := T
  obtain ⟨n, hn, rfl⟩ := wb_of32 p2
  have ok : eg_ok fl bl (nI f) (nI b) := ⟨f, b, hf, hb, rfl, rfl⟩
  have e1 : nI f * 16 + nI b = nI (16 * f + b) := by rw [show (16 : Int32) = nI 16 from rfl, pk_mul, nI_add, Nat.mul_comm]
  have e2 : (16 : Int32) * nI f + nI b = nI (16 * f + b) := by rw [show (16 : Int32) = nI 16 from rfl, pk_mul, nI_add]
  have ej : nI n &&& 1 = nI (n % 2) := pk_andN (m := 1) hn 1 (by decide)
  have em : ((nI n).toUInt32 >>> ((1 : Int32).toUInt32 &&& Int32.toUInt32 31)).toInt32 &&& 1 = nI (n / 2 % 2) := by
    rw [pk_ushrN hn _ 1 (by decide)]
    exact pk_andN (m := 1) (by omega) 1 (by decide)
  have e22 : nI n &&& 2 = nI (2 * (n / 2 % 2)) := by
    rw [show (2 : Int32) = nI 2 from rfl, nx_and, en_and2]
  have hp : 16 * f + b < 64 := by omega
  have ip : vp_in (nI (16 * f + b)) 64 := vp_in_nI hp (by omega)
  have hj : n % 2 < 2 := by omega
  have hm : n / 2 % 2 < 2 := by omega
  generalize n % 2 = j at *
  generalize n / 2 % 2 = mm at *
  have hi : 64 * j + (16 * f + b) < 128 := by omega
  have zz := ev_Rz hP.1 hP.2.1 hP.2.2.1 hi
  have w := hP.1 _ hi
  have ww := hP.2.1 _ hi
  -- the reference
  have YY : ∀ post : Int64 → Prop, (W (64 * j + (16 * f + b)) = 0 → post 0) → (W (64 * j + (16 * f + b)) ≠ 0 → ∀ z : Int64, (∀ q, q < 64 → (eb z q ↔ en_Q W mm (W (64 * j + (16 * f + b)) / 4) q)) → post z) → wpY_holders post v (nI f) (nI b) (nI n) := by
    intro post h0 h1
    refine ey_el (P := fun v => wpY_holders post v (nI f) (nI b) (nI n)) ?_ IY
    intro ck cc dk dc da hO
    have hk := ey_ck hO hP.2.1 hp
    obtain ⟨⟨a1, a2⟩, ⟨d1, d2⟩, _⟩ := hO _ hp
    have Y81 : ∀ c, c < 64 → (∀ z : Int64, (∀ q, q < 64 → (eb z q ↔ en_Q W mm c q)) → post z) → wY_holders_81 post (nI n) (nI c) (nI fl) (nI bl) (nI cl) pw ck cc dk dc da dv y := by
      intro c hc h
      unfold wY_holders_81
      rw [e22]
      rcases (by omega : mm = 0 ∨ mm = 1) with m0 | m1
      · subst m0
        exact br_t rfl ⟨65, ey_hdL hO hP.2.1 b6 hm hc (Or.inl ⟨rfl, rfl⟩) h 64 0 0 (by omega) (fun q hq => ⟨fun t => absurd t (eb_0 q), fun t => by omega⟩)⟩
      · subst m1
        exact br_f (by decide) ⟨65, ey_hdL hO hP.2.1 b6 hm hc (Or.inr ⟨rfl, rfl⟩) h 64 0 0 (by omega) (fun q hq => ⟨fun t => absurd t (eb_0 q), fun t => by omega⟩)⟩
    unfold wpY_holders
    refine ey_ex b2 b4 rfl rfl (fun _ => br_f (by decide) (nm_r e2 ?_)) (fun no => absurd ok no)
    rw [ej]
    rcases (by omega : j = 0 ∨ j = 1) with j0 | j1
    · subst j0
      rw [show 64 * 0 + (16 * f + b) = 16 * f + b by omega] at h0 h1 ww
      unfold wY_holders_30 wY_holders_54
      rw [nI_clamp (show 16 * f + b < 2 ^ 31 by omega)]
      refine br_t rfl (br_f (by decide) ⟨ip, br_c (fun t => h0 (hk.1.mp t)) (fun t => br_f (by decide) ⟨ip, ?_⟩)⟩)
      have nz : W (16 * f + b) ≠ 0 := fun s => t (hk.1.mpr s)
      rw [a2 nz]
      exact Y81 _ (by omega) (h1 nz)
    · subst j1
      rw [show 64 * 1 + (16 * f + b) = 64 + (16 * f + b) by omega] at h0 h1 ww
      unfold wY_holders_30 wY_holders_54
      rw [nI_clamp (show 16 * f + b < 2 ^ 31 by omega)]
      refine br_f (by decide) (br_t rfl ⟨ip, br_c (fun t => h0 (hk.2.mp t)) (fun t => br_t rfl ⟨ip, ?_⟩)⟩)
      have nz : W (64 + (16 * f + b)) ≠ 0 := fun s => t (hk.2.mpr s)
      rw [d2 nz]
      exact Y81 _ (by omega) (h1 nz)
  by_cases z : V (64 * j + (16 * f + b)) = 0
  · have z2 : W (64 * j + (16 * f + b)) = 0 := Classical.not_not.mp (fun t => zz.mpr t z)
    refine ⟨0, fun post h => ?_, fun post h => YY post (fun _ => h) (fun t => absurd z2 t)⟩
    refine ex_el (P := fun u => wpX_holders post u (nI f) (nI b) (nI n)) ?_ IX
    intro fc fd ow mp df us N S G K C nm hO
    unfold wpX_holders
    refine ex_ex b2 b4 rfl rfl (fun _ => br_f (by decide) ?_) (fun no => absurd ok no)
    rw [ej, e1]
    refine ex_en hO.1 hj hp ?_
    rw [z]
    exact br_t rfl h
  · have z2 := zz.mp z
    have XR : ∃ r : Int64, (∀ q, q < 64 → (eb r q ↔ en_Q V mm (V (64 * j + (16 * f + b)) / 4) q)) ∧ ∀ post : Int64 → Prop, post r → wpX_holders post u (nI f) (nI b) (nI n) := by
      refine ex_el (P := fun u => ∃ r : Int64, (∀ q, q < 64 → (eb r q ↔ en_Q V mm (V (64 * j + (16 * f + b)) / 4) q)) ∧ ∀ post : Int64 → Prop, post r → wpX_holders post u (nI f) (nI b) (nI n)) ?_ IX
      intro fc fd ow mp df us N S G K C nm hO
      refine ⟨nm (32 * mm + V (64 * j + (16 * f + b)) / 4), fun q hq => hO.2.1.1 mm _ q hm (by omega) hq, fun post h => ?_⟩
      have ea : nI mm * 32 + nI (V (64 * j + (16 * f + b)) / 4) = nI (32 * mm + V (64 * j + (16 * f + b)) / 4) := by rw [show (32 : Int32) = nI 32 from rfl, pk_mul, nI_add, Nat.mul_comm]
      unfold wpX_holders
      refine ex_ex b2 b4 rfl rfl (fun _ => br_f (by decide) ?_) (fun no => absurd ok no)
      rw [ej, e1]
      refine ex_en hO.1 hj hp (br_f (nI_ne0 (by omega) (by omega)) (nm_r em ?_))
      rw [el_cell (by omega), ea, nI_clamp (by omega)]
      exact ⟨vp_in_nI (by omega) (by omega), h⟩
    obtain ⟨r, hr, hX⟩ := XR
    refine ⟨r, hX, fun post h => YY post (fun t => absurd t z2) (fun _ s hs => ?_)⟩
    have e : s = r := eb_ext (fun q hq => by
      rw [hs q hq, hr q hq]
      exact (ev_Rc hP.1 hP.2.1 hP.2.2.1 hi (show 64 * mm + q < 128 by omega) z).symm)
    rw [e]; exact h
theorem er_reL (T : er_T fl bl cl V W dm pw x y dv jr m u v) {f : Nat} (hf : f < fl) (p2 fst : Int32) : ∀ d e, e + d = bl →
    ∃ r, (∀ post : Int32 → Prop, post r → wX_runEnd_25 post (nI f) p2 fst u.1 u.2.1 u.2.2.1 u.2.2.2.1 u.2.2.2.2.1 u.2.2.2.2.2.1 u.2.2.2.2.2.2.1 u.2.2.2.2.2.2.2.1 u.2.2.2.2.2.2.2.2.1 u.2.2.2.2.2.2.2.2.2.1 u.2.2.2.2.2.2.2.2.2.2.1 u.2.2.2.2.2.2.2.2.2.2.2.1 u.2.2.2.2.2.2.2.2.2.2.2.2.1 u.2.2.2.2.2.2.2.2.2.2.2.2.2.1 u.2.2.2.2.2.2.2.2.2.2.2.2.2.2.1 u.2.2.2.2.2.2.2.2.2.2.2.2.2.2.2.1 u.2.2.2.2.2.2.2.2.2.2.2.2.2.2.2.2.1 u.2.2.2.2.2.2.2.2.2.2.2.2.2.2.2.2.2.1 u.2.2.2.2.2.2.2.2.2.2.2.2.2.2.2.2.2.2.1 u.2.2.2.2.2.2.2.2.2.2.2.2.2.2.2.2.2.2.2 (d + 1) (nI e)) ∧ (∀ post : Int32 → Prop, post r → wY_runEnd_25 post (nI f) p2 fst v.1 v.2.1 v.2.2.1 v.2.2.2.1 v.2.2.2.2.1 v.2.2.2.2.2.1 v.2.2.2.2.2.2.1 v.2.2.2.2.2.2.2.1 v.2.2.2.2.2.2.2.2.1 v.2.2.2.2.2.2.2.2.2.1 v.2.2.2.2.2.2.2.2.2.2 (d + 1) (nI e)) := by
  have hx := (ex_Rf T.2.2.1).2
  have hy := (ey_Rf T.2.2.2).2
  have hB := T.1
  unfold er_B at hB
  intro d
  induction d with
  | zero =>
    intro e he
    have he : e = bl := by omega
    subst he
    refine ⟨nI e, fun post h => ?_, fun post h => ?_⟩
    · unfold wX_runEnd_25
      exact br_t (by rw [hx]; exact nI_le (by omega) (by omega)) (by rw [hx]; exact h)
    · unfold wY_runEnd_25
      exact br_t (by rw [hy]; exact nI_le (by omega) (by omega)) (by rw [hy]; exact h)
  | succ d ih =>
    intro e he
    obtain ⟨kd, kX, kY⟩ := er_kind T hf (b := e) (by omega) p2
    by_cases z : kd = fst
    · obtain ⟨r, hX, hY⟩ := ih (e + 1) (by omega)
      refine ⟨r, fun post h => ?_, fun post h => ?_⟩
      · unfold wX_runEnd_25
        exact br_f (by rw [hx]; exact nI_ge (by omega) (by omega)) (kX _ (br_t z (nm_r (nI_1 e) (hX post h))))
      · unfold wY_runEnd_25
        exact br_f (by rw [hy]; exact nI_ge (by omega) (by omega)) (kY _ (br_t z (nm_r (nI_1 e) (hY post h))))
    · refine ⟨nI e, fun post h => ?_, fun post h => ?_⟩
      · unfold wX_runEnd_25
        exact br_f (by rw [hx]; exact nI_ge (by omega) (by omega)) (kX _ (br_f z h))
      · unfold wY_runEnd_25
        exact br_f (by rw [hy]; exact nI_ge (by omega) (by omega)) (kY _ (br_f z h))
theorem er_run (T : er_T fl bl cl V W dm pw x y dv jr m u v) {f b : Nat} (hf : f < fl) (hb : b < bl) (p2 : Int32) : ∃ r, (∀ post : Int32 → Prop, post r → wpX_runEnd post u (nI f) (nI b) p2) ∧ (∀ post : Int32 → Prop, post r → wpY_runEnd post v (nI f) (nI b) p2) := by
  obtain ⟨kd, kX, kY⟩ := er_kind T hf hb p2
  obtain ⟨r, hX, hY⟩ := er_reL T hf p2 kd (bl - (b + 1)) (b + 1) (by omega)
  have hB := T.1
  unfold er_B at hB
  have ok : eg_ok fl bl (nI f) (nI b) := ⟨f, b, hf, hb, rfl, rfl⟩
  refine ⟨r, fun post h => ?_, fun post h => ?_⟩
  · have h2 := hX post h
    have fX := ex_Rf T.2.2.1
    clear hX T
    obtain ⟨u1, u2, u3, u4, u5, u6, u7, u8, u9, u10, u11, u12, u13, u14, u15, u16, u17, u18, u19, u20⟩ := u
    unfold wpX_runEnd
    exact ex_ex hB.2.1 hB.2.2.2.1 fX.1 fX.2 (fun _ => br_f (by decide) (kX _ (nm_r (nI_1 b) ⟨_, h2⟩))) (fun no => absurd ok no)
  · have h2 := hY post h
    have fY := ey_Rf T.2.2.2
    clear hY T
    obtain ⟨v1, v2, v3, v4, v5, v6, v7, v8, v9, v10, v11⟩ := v
    unfold wpY_runEnd
    exact ey_ex hB.2.1 hB.2.2.2.1 fY.1 fY.2 (fun _ => br_f (by decide) (kY _ (nm_r (nI_1 b) ⟨_, h2⟩))) (fun no => absurd ok no)
/-- a place that there is not -/
theorem er_bad (T : er_T fl bl cl V W dm pw x y dv jr m u v) {p0 p1 : Int32} (no : ¬ eg_ok fl bl p0 p1) (p2 : Int32) :
    ((∀ post : Int32 → Prop, post 0 → wpX_read post u p0 p1 p2) ∧ (∀ post : Int32 → Prop, post 0 → wpY_read post v p0 p1 p2)) ∧
    ((∀ post : Int32 → Prop, post (-1) → wpX_kind post u p0 p1 p2) ∧ (∀ post : Int32 → Prop, post (-1) → wpY_kind post v p0 p1 p2)) ∧
    ((∀ post : Int64 → Prop, post 0 → wpX_holders post u p0 p1 p2) ∧ (∀ post : Int64 → Prop, post 0 → wpY_holders post v p0 p1 p2)) ∧
    ((∀ post : Int32 → Prop, post (-1) → wpX_runEnd post u p0 p1 p2) ∧ (∀ post : Int32 → Prop, post (-1) → wpY_runEnd post v p0 p1 p2)) := by
  have hB := T.1
  unfold er_B at hB
  have fX := ex_Rf T.2.2.1
  have fY := ey_Rf T.2.2.2
  clear T
  obtain ⟨u1, u2, u3, u4, u5, u6, u7, u8, u9, u10, u11, u12, u13, u14, u15, u16, u17, u18, u19, u20⟩ := u
  obtain ⟨v1, v2, v3, v4, v5, v6, v7, v8, v9, v10, v11⟩ := v
  refine ⟨⟨fun post h => ?_, fun post h => ?_⟩, ⟨fun post h => ?_, fun post h => ?_⟩, ⟨fun post h => ?_, fun post h => ?_⟩, ⟨fun post h => ?_, fun post h => ?_⟩⟩
  · unfold wpX_read; exact ex_ex hB.2.1 hB.2.2.2.1 fX.1 fX.2 (fun t => absurd t no) (fun _ => br_t rfl h)
  · unfold wpY_read; exact ey_ex hB.2.1 hB.2.2.2.1 fY.1 fY.2 (fun t => absurd t no) (fun _ => br_t rfl h)
  · unfold wpX_kind; exact ex_ex hB.2.1 hB.2.2.2.1 fX.1 fX.2 (fun t => absurd t no) (fun _ => br_t rfl h)
  · unfold wpY_kind; exact ey_ex hB.2.1 hB.2.2.2.1 fY.1 fY.2 (fun t => absurd t no) (fun _ => br_t rfl h)
  · unfold wpX_holders; exact ex_ex hB.2.1 hB.2.2.2.1 fX.1 fX.2 (fun t => absurd t no) (fun _ => br_t rfl h)
  · unfold wpY_holders; exact ey_ex hB.2.1 hB.2.2.2.1 fY.1 fY.2 (fun t => absurd t no) (fun _ => br_t rfl h)
  · unfold wpX_runEnd; exact ex_ex hB.2.1 hB.2.2.2.1 fX.1 fX.2 (fun t => absurd t no) (fun _ => br_t rfl h)
  · unfold wpY_runEnd; exact ey_ex hB.2.1 hB.2.2.2.1 fY.1 fY.2 (fun t => absurd t no) (fun _ => br_t rfl h)
theorem er_pbad (T : er_T fl bl cl V W dm pw x y dv jr m u v) {p0 : Int32} (no : ¬ ∃ f, f < fl ∧ p0 = nI f) : (∀ post : Int32 → Prop, post (-1) → wpX_pending post u p0) ∧ (∀ post : Int32 → Prop, post (-1) → wpY_pending post v p0) := by
  have hB := T.1
  unfold er_B at hB
  have fX := (ex_Rf T.2.2.1).1
  have fY := (ey_Rf T.2.2.2).1
  clear T
  have key : ¬ p0 < 0 → ¬ p0 < nI fl := by
    intro z t
    obtain ⟨j, hj, rfl⟩ := nI_of z
    rw [nI_ltI hj (by omega)] at t
    exact no ⟨j, t, rfl⟩
  obtain ⟨u1, u2, u3, u4, u5, u6, u7, u8, u9, u10, u11, u12, u13, u14, u15, u16, u17, u18, u19, u20⟩ := u
  obtain ⟨v1, v2, v3, v4, v5, v6, v7, v8, v9, v10, v11⟩ := v
  dsimp only at fX fY
  subst fX fY
  constructor
  · intro post h
    unfold wpX_pending
    exact br_c (fun _ => h) (fun z => br_f (key z) h)
  · intro post h
    unfold wpY_pending
    exact br_c (fun _ => h) (fun z => br_f (key z) h)
end
theorem i_vc_read {k : Nat} {u : SX} {v : SY} (I : i_Rel k u v) (hk : k + 5 ≤ 2563) (v1 : Int32) (v2 : Int32) (v3 : Int32) : wpX_read (fun r => wpY_read (fun r' => r' = r ∧ i_Rel (k + 5) u v) v v1 v2 v3) u v1 v2 v3 := by
  have I' : i_Rel (k + 5) u v := I
  obtain ⟨fl, bl, cl, V, W, dm, pw, x, y, dv, jr, T⟩ := I
  by_cases ok : eg_ok fl bl v1 v2
  · obtain ⟨f, b, hf, hb, rfl, rfl⟩ := ok
    obtain ⟨r, hX, hY⟩ := er_read T hf hb v3
    exact hX _ (hY _ ⟨rfl, I'⟩)
  · have B := (er_bad T ok v3).1
    exact B.1 _ (B.2 _ ⟨rfl, I'⟩)
theorem i_vc_kind {k : Nat} {u : SX} {v : SY} (I : i_Rel k u v) (hk : k + 5 ≤ 2563) (v1 : Int32) (v2 : Int32) (v3 : Int32) : wpX_kind (fun r => wpY_kind (fun r' => r' = r ∧ i_Rel (k + 5) u v) v v1 v2 v3) u v1 v2 v3 := by
  have I' : i_Rel (k + 5) u v := I
  obtain ⟨fl, bl, cl, V, W, dm, pw, x, y, dv, jr, T⟩ := I
  by_cases ok : eg_ok fl bl v1 v2
  · obtain ⟨f, b, hf, hb, rfl, rfl⟩ := ok
    obtain ⟨r, hX, hY⟩ := er_kind T hf hb v3
    exact hX _ (hY _ ⟨rfl, I'⟩)
  · have B := (er_bad T ok v3).2.1
    exact B.1 _ (B.2 _ ⟨rfl, I'⟩)
theorem i_vc_holders {k : Nat} {u : SX} {v : SY} (I : i_Rel k u v) (hk : k + 5 ≤ 2563) (v1 : Int32) (v2 : Int32) (v3 : Int32) : wpX_holders (fun r => wpY_holders (fun r' => r' = r ∧ i_Rel (k + 5) u v) v v1 v2 v3) u v1 v2 v3 := by
  have I' : i_Rel (k + 5) u v := I
  obtain ⟨fl, bl, cl, V, W, dm, pw, x, y, dv, jr, T⟩ := I
  by_cases ok : eg_ok fl bl v1 v2
  · obtain ⟨f, b, hf, hb, rfl, rfl⟩ := ok
    obtain ⟨r, hX, hY⟩ := er_hold T hf hb v3
    exact hX _ (hY _ ⟨rfl, I'⟩)
  · have B := (er_bad T ok v3).2.2.1
    exact B.1 _ (B.2 _ ⟨rfl, I'⟩)
theorem i_vc_runEnd {k : Nat} {u : SX} {v : SY} (I : i_Rel k u v) (hk : k + 5 ≤ 2563) (v1 : Int32) (v2 : Int32) (v3 : Int32) : wpX_runEnd (fun r => wpY_runEnd (fun r' => r' = r ∧ i_Rel (k + 5) u v) v v1 v2 v3) u v1 v2 v3 := by
  have I' : i_Rel (k + 5) u v := I
  obtain ⟨fl, bl, cl, V, W, dm, pw, x, y, dv, jr, T⟩ := I
  by_cases ok : eg_ok fl bl v1 v2
  · obtain ⟨f, b, hf, hb, rfl, rfl⟩ := ok
    obtain ⟨r, hX, hY⟩ := er_run T hf hb v3
    exact hX _ (hY _ ⟨rfl, I'⟩)
  · have B := (er_bad T ok v3).2.2.2
    exact B.1 _ (B.2 _ ⟨rfl, I'⟩)
theorem i_vc_free {k : Nat} {u : SX} {v : SY} (I : i_Rel k u v) (hk : k + 5 ≤ 2563) : wpX_free (fun r => wpY_free (fun r' => r' = r ∧ i_Rel (k + 5) u v) v) u := by
  have I' : i_Rel (k + 5) u v := I
  obtain ⟨fl, bl, cl, V, W, dm, pw, x, y, dv, jr, T⟩ := I
  have B := er_free T
  exact B.1 _ (B.2 _ ⟨rfl, I'⟩)
theorem i_vc_reserved {k : Nat} {u : SX} {v : SY} (I : i_Rel k u v) (hk : k + 5 ≤ 2563) : wpX_reserved (fun r => wpY_reserved (fun r' => r' = r ∧ i_Rel (k + 5) u v) v) u := by
  have I' : i_Rel (k + 5) u v := I
  obtain ⟨fl, bl, cl, V, W, dm, pw, x, y, dv, jr, T⟩ := I
  obtain ⟨r, hX, hY⟩ := er_resv T
  exact hX _ (hY _ ⟨rfl, I'⟩)
theorem i_vc_pending {k : Nat} {u : SX} {v : SY} (I : i_Rel k u v) (hk : k + 5 ≤ 2563) (v1 : Int32) : wpX_pending (fun r => wpY_pending (fun r' => r' = r ∧ i_Rel (k + 5) u v) v v1) u v1 := by
  have I' : i_Rel (k + 5) u v := I
  obtain ⟨fl, bl, cl, V, W, dm, pw, x, y, dv, jr, T⟩ := I
  by_cases ok : ∃ f, f < fl ∧ v1 = nI f
  · obtain ⟨f, hf, rfl⟩ := ok
    have B := er_pend T hf
    exact B.1 _ (B.2 _ ⟨rfl, I'⟩)
  · have B := er_pbad T ok
    exact B.1 _ (B.2 _ ⟨rfl, I'⟩)
theorem i_vc_power {k : Nat} {u : SX} {v : SY} (I : i_Rel k u v) (hk : k + 5 ≤ 2563) (v1 : Int32) : wpX_power (fun r u' => wpY_power (fun r' v' => r' = r ∧ i_Rel (k + 5) u' v') v v1) u v1 := by
  obtain ⟨fl, bl, cl, V, W, dm, pw, x, y, dv, jr, hB, hP, IX, IY⟩ := I
  refine ex_el (P := fun u => wpX_power (fun r u' => wpY_power (fun r' v' => r' = r ∧ i_Rel (k + 5) u' v') v v1) u v1) ?_ IX
  intro fc fd ow mp df us N S G K C nm hO
  have key : ∀ z : Int32, wpY_power (fun r' v' => r' = pw ∧ i_Rel (k + 5) (fc, fd, (nI fl), (nI bl), (nI cl), dm, ow, mp, df, us, (if 0 ≤ v1 then v1 else -1), (el_f N), (el_f S), (el_f G), (el_f K), (el_f C), nm, x, dv, jr) v') v v1 := by
    intro _
    refine ey_el (P := fun v => wpY_power (fun r' v' => r' = pw ∧ i_Rel (k + 5) (fc, fd, (nI fl), (nI bl), (nI cl), dm, ow, mp, df, us, (if 0 ≤ v1 then v1 else -1), (el_f N), (el_f S), (el_f G), (el_f K), (el_f C), nm, x, dv, jr) v') v v1) ?_ IY
    intro ck cc dk dc da hOy
    unfold wpY_power
    by_cases z : 0 ≤ v1
    · rw [if_pos z]
      exact br_t z ⟨rfl, fl, bl, cl, V, W, dm, v1, x, y, dv, jr, hB, hP, ex_Ri hO, ey_Ri hOy⟩
    · rw [if_neg z]
      exact br_f z ⟨rfl, fl, bl, cl, V, W, dm, -1, x, y, dv, jr, hB, hP, ex_Ri hO, ey_Ri hOy⟩
  have key := key 0
  unfold wpX_power
  by_cases z : 0 ≤ v1
  · rw [if_pos z] at key
    exact br_t z key
  · rw [if_neg z] at key
    exact br_f z key
theorem i_vc_crash {k : Nat} {u : SX} {v : SY} (I : i_Rel k u v) (hk : k + 5 ≤ 2563) : wpX_crash (fun u' => wpY_crash (fun v' => i_Rel (k + 5) u' v') v) u := by
  obtain ⟨fl, bl, cl, V, W, dm, pw, x, y, dv, jr, hB, hP, IX, IY⟩ := I
  obtain ⟨u', IX', wX⟩ := ex_Rcr IX
  obtain ⟨v', IY', wY⟩ := ey_Rcr IY
  refine wX _ (wY _ ⟨fl, bl, cl, _, _, 0, -1, x, y, dv, jr, hB, ?_, IX', ey_Rc IY' (fun _ _ => rfl) (fun p _ => ⟨fun t => absurd t (eb_0 p), fun t => t.elim⟩)⟩)
  exact er_crash hP (fun _ _ => rfl) (fun _ _ => rfl) (fun q _ => eb_0 q)
end
section
/-! write and punch -/
def ew_v (dv : Nat → Int32) (p i : Nat) (z : Int32) : Nat → Int32 := fun y => if p ≤ y ∧ y < p + i then z + nI (y - p) else dv y
theorem ew_0 (dv : Nat → Int32) (p : Nat) (z : Int32) : ew_v dv p 0 z = dv := by
  funext y
  exact if_neg (by omega)
theorem ew_s (dv : Nat → Int32) (p i : Nat) (z : Int32) : upd (ew_v dv p i z) (p + i) (z + nI i) = ew_v dv p (i + 1) z := by
  funext y
  by_cases e : y = p + i
  · subst e
    rw [pk_us]
    unfold ew_v
    rw [if_pos (by omega), show p + i - p = i by omega]
  · rw [pk_un e]
    unfold ew_v
    by_cases f : p ≤ y ∧ y < p + i
    · rw [if_pos f, if_pos (by omega)]
    · rw [if_neg f, if_neg (by omega)]
section
variable {fc fd gf gb gc : Int32} {dm ow mp df us : Int64} {pw : Int32} {N S G K C : Nat → Nat} {nm : Nat → Int64} {co dv jr : Nat → Int32}
theorem ex_wrL {post : Int32 → SX → Prop} {p l : Nat} {z : Int32} {rg : Int64} (hl : p + l ≤ 64) (h : post 0 (fc, fd, gf, gb, gc, (dm ||| rg), ow, mp, df, us, pw, (el_f N), (el_f S), (el_f G), (el_f K), (el_f C), nm, co, (ew_v dv p l z), jr)) : ∀ d i, i + d = l → wX_write_62 post (nI l) z (nI p) rg fc fd gf gb gc dm ow mp df us pw (d + 1) (nI i) (el_f N) (el_f S) (el_f G) (el_f K) (el_f C) nm co (ew_v dv p i z) jr := by
  intro d
  induction d with
  | zero =>
    intro i hi
    have hi : i = l := by omega
    subst hi
    unfold wX_write_62
    exact br_t (nI_le (by omega) (by omega)) (nm_e h)
  | succ d ih =>
    intro i hi
    unfold wX_write_62
    rw [nI_add, nI_clamp (by omega), ew_s]
    exact br_f (nI_ge (by omega) (by omega)) ⟨vp_in_nI (by omega) (by omega), nm_e (nm_r (nI_1 i) (ih (i + 1) (by omega)))⟩
end
section
variable {gf gb gc pw : Int32} {ck cc dk dc da dv co : Nat → Int32} {fl bl cl : Nat} {W : Nat → Nat} {D : Nat → Prop}
theorem ey_wn {post : Int32 → SY → Prop} {p l : Nat} {z : Int32} (hO : ey_O W D ck cc dk dc da) (hv : ev_v cl W) (hcl : cl ≤ 32) (hl : p + l ≤ 64)
    (h : wpY_free (fun r_16 => (((nI (ec_n l (fun j => ¬ D (p + j) ∧ ¬ ev_own W (p + j))) ≤ r_16 → (∃ n81 : Nat, wY_write_81 post (nI l) z (nI p) gf gb gc pw n81 0 ck cc dk dc da dv co)) ∧ (¬ nI (ec_n l (fun j => ¬ D (p + j) ∧ ¬ ev_own W (p + j))) ≤ r_16 → (post (-2) (gf, gb, gc, pw, ck, cc, dk, dc, da, dv, co)))))) (gf, gb, gc, pw, ck, cc, dk, dc, da, dv, co)) :
    ∀ d i, i + d = l → wY_write_26 post (nI l) z (nI p) gf gb gc pw ck cc dk dc da dv co (d + 1) (nI (ec_n i (fun j => ¬ D (p + j) ∧ ¬ ev_own W (p + j)))) (nI i) := by
  intro d
  induction d with
  | zero =>
    intro i hi
    have hi : i = l := by omega
    subst hi
    unfold wY_write_26
    exact br_t (nI_le (by omega) (by omega)) h
  | succ d ih =>
    intro i hi
    have k := ih (i + 1) (by omega)
    have hda := ey_da hO (p := p + i) (by omega)
    unfold wY_write_26
    rw [nI_add, nI_clamp (by omega)]
    refine br_f (nI_ge (by omega) (by omega)) ⟨vp_in_nI (by omega) (by omega), br_c (fun t => ?_) (fun t => ?_)⟩
    · refine ey_ow hO hv hcl (by omega) (fun o => br_f (by decide) ?_) (fun o => br_t rfl ?_)
      · rw [ec_sf (P := fun j => ¬ D (p + j) ∧ ¬ ev_own W (p + j)) (fun s => s.2 o)] at k
        exact nm_r (nI_1 i) k
      · rw [ec_st (P := fun j => ¬ D (p + j) ∧ ¬ ev_own W (p + j)) ⟨hda.mp t, o⟩] at k
        exact nm_r (nI_1 _) (nm_r (nI_1 i) k)
    · rw [ec_sf (P := fun j => ¬ D (p + j) ∧ ¬ ev_own W (p + j)) (fun s => t (hda.mpr s.1))] at k
      exact nm_r (nI_1 i) k
theorem ey_w81 {post : Int32 → SY → Prop} {p l : Nat} {z : Int32} (hl : p + l ≤ 64) (h : ∀ da', ey_O W (fun q => D q ∨ (p ≤ q ∧ q < p + l)) ck cc dk dc da' → post 0 (gf, gb, gc, pw, ck, cc, dk, dc, da', (ew_v dv p l z), co)) :
    ∀ d i da, i + d = l → ey_O W (fun q => D q ∨ (p ≤ q ∧ q < p + i)) ck cc dk dc da → wY_write_81 post (nI l) z (nI p) gf gb gc pw (d + 1) (nI i) ck cc dk dc da (ew_v dv p i z) co := by
  intro d
  induction d with
  | zero =>
    intro i da hi hO
    have hi : i = l := by omega
    subst hi
    unfold wY_write_81
    exact br_t (nI_le (by omega) (by omega)) (h da hO)
  | succ d ih =>
    intro i da hi hO
    have k := ih (i + 1) (upd da (p + i) 1) (by omega) (by
      intro q hq
      have a := hO q hq
      refine ⟨a.1, a.2.1, ?_⟩
      by_cases e : q = p + i
      · subst e; rw [pk_us]; exact Or.inl ⟨Or.inr (by omega), rfl⟩
      · rw [pk_un e]
        rcases a.2.2 with ⟨t, s⟩ | ⟨t, s⟩
        · refine Or.inl ⟨?_, s⟩
          rcases t with t | t
          · exact Or.inl t
          · exact Or.inr (by omega)
        · refine Or.inr ⟨fun w => t ?_, s⟩
          rcases w with w | w
          · exact Or.inl w
          · exact Or.inr (by omega))
    unfold wY_write_81
    rw [nI_add, nI_clamp (by omega), ew_s, ey_nar1]
    exact br_f (nI_ge (by omega) (by omega)) ⟨vp_in_nI (by omega) (by omega), nm_e ⟨vp_in_nI (by omega) (by omega), nm_e (nm_r (nI_1 i) k)⟩⟩
end
theorem i_vc_write {k : Nat} {u : SX} {v : SY} (I : i_Rel k u v) (hk : k + 5 ≤ 2563) (v1 : Int32) (v2 : Int32) (v3 : Int32) (v4 : Int32) : wpX_write (fun r u' => wpY_write (fun r' v' => r' = r ∧ i_Rel (k + 5) u' v') v v1 v2 v3 v4) u v1 v2 v3 v4 := by
  obtain ⟨fl, bl, cl, V, W, dm, pw, x, y, dv, jr, hB, hP, IX, IY⟩ := I
  obtain ⟨b1, b2, b3, b4, b5, b6⟩ := hB
  refine ex_el (P := fun u => wpX_write (fun r u' => wpY_write (fun r' v' => r' = r ∧ i_Rel (k + 5) u' v') v v1 v2 v3 v4) u v1 v2 v3 v4) ?_ IX
  intro fc fd ow mp df us N S G K C nm hO
  refine ey_el (P := fun v => wpX_write (fun r u' => wpY_write (fun r' v' => r' = r ∧ i_Rel (k + 5) u' v') v v1 v2 v3 v4) (fc, fd, (nI fl), (nI bl), (nI cl), dm, ow, mp, df, us, pw, (el_f N), (el_f S), (el_f G), (el_f K), (el_f C), nm, x, dv, jr) v1 v2 v3 v4) ?_ IY
  intro ck cc dk dc da hOy
  have same : i_Rel (k + 5) (fc, fd, (nI fl), (nI bl), (nI cl), dm, ow, mp, df, us, pw, (el_f N), (el_f S), (el_f G), (el_f K), (el_f C), nm, x, dv, jr) ((nI fl), (nI bl), (nI cl), pw, ck, cc, dk, dc, da, dv, y) := ⟨fl, bl, cl, V, W, dm, pw, x, y, dv, jr, ⟨b1, b2, b3, b4, b5, b6⟩, hP, ex_Ri hO, ey_Ri hOy⟩
  unfold wpX_write
  refine ex_gd b2 b4 rfl rfl (fun gd => br_f (by decide) ?_) (fun no => br_t rfl ?_)
  · obtain ⟨f, b, l, hf, hb, hl1, hl2, rfl, rfl, rfl⟩ := gd
    have e1 : nI f * 16 + nI b = nI (16 * f + b) := by rw [show (16 : Int32) = nI 16 from rfl, pk_mul, nI_add, Nat.mul_comm]
    have e2 : (16 : Int32) * nI f + nI b = nI (16 * f + b) := by rw [show (16 : Int32) = nI 16 from rfl, pk_mul, nI_add]
    have hp : 16 * f + b + l ≤ 64 := by omega
    have gd : eg_gd fl bl (nI f) (nI b) (nI l) := ⟨f, b, l, hf, hb, hl1, hl2, rfl, rfl, rfl⟩
    generalize 16 * f + b = p at *
    refine nm_r e1 (ex_rm _ ?_)
    have n1 : ec_n 64 (eb (eb_rg p l &&& ((dm ||| ow) ^^^ (-1)))) = ec_n 64 (fun q => (p ≤ q ∧ q < p + l) ∧ ¬ eb dm q ∧ ¬ ev_own V q) :=
      ec_congr 64 (fun q hq => by
        rw [eb_and, eb_rgi (by omega) (by omega) hq, eb_not _ hq, eb_or, ex_own hO hq, not_or])
    have n2 : ec_n 64 (fun q => (p ≤ q ∧ q < p + l) ∧ ¬ eb dm q ∧ ¬ ev_own V q) = ec_n l (fun j => ¬ eb dm (p + j) ∧ ¬ ev_own V (p + j)) := by
      rw [ec_win (a := p) (m := l) (by omega) (fun i hi z => z.1)]
      exact ec_congr l (fun j hj => ⟨fun t => t.2, fun t => ⟨by omega, t⟩⟩)
    have n3 : ec_n l (fun j => ¬ eb dm (p + j) ∧ ¬ ev_own W (p + j)) = ec_n l (fun j => ¬ eb dm (p + j) ∧ ¬ ev_own V (p + j)) :=
      ec_congr l (fun j hj => by rw [ev_Ro hP.1 hP.2.1 hP.2.2.1 (by omega)])
    have nle := ec_le (fun j => ¬ eb dm (p + j) ∧ ¬ ev_own V (p + j)) l
    have fle : ef_n cl V (eb dm) ≤ 32 := by unfold ef_n; omega
    refine ex_bc _ ?_
    rw [n1, n2]
    refine ex_fe hO hP.1 b6 hP.2.2.2.2.1 ?_
    -- the reference from here on
    have YW : ∀ post : Int32 → SY → Prop, (ec_n l (fun j => ¬ eb dm (p + j) ∧ ¬ ev_own V (p + j)) ≤ ef_n cl V (eb dm) → ∀ da', ey_O W (fun q => eb dm q ∨ (p ≤ q ∧ q < p + l)) ck cc dk dc da' → post 0 ((nI fl), (nI bl), (nI cl), pw, ck, cc, dk, dc, da', (ew_v dv p l v4), y)) →
        (¬ ec_n l (fun j => ¬ eb dm (p + j) ∧ ¬ ev_own V (p + j)) ≤ ef_n cl V (eb dm) → post (-2) ((nI fl), (nI bl), (nI cl), pw, ck, cc, dk, dc, da, dv, y)) → wpY_write post ((nI fl), (nI bl), (nI cl), pw, ck, cc, dk, dc, da, dv, y) (nI f) (nI b) (nI l) v4 := by
      intro post h1 h0
      unfold wpY_write
      refine ey_gd b2 b4 rfl rfl (fun _ => br_f (by decide) (nm_r e2 ⟨l + 1, ?_⟩)) (fun no => absurd gd no)
      refine ey_wn (W := W) (D := eb dm) hOy hP.2.1 b6 hp ?_ l 0 (by omega)
      refine ey_fe hOy hP.2.1 b6 (er_FW hP) ?_
      rw [n3, ← er_fnE hP]
      refine pk_le (ec_n l (fun j => ¬ eb dm (p + j) ∧ ¬ ev_own V (p + j))) (ef_n cl V (eb dm)) (fun t => ⟨l + 1, ?_⟩) (fun t => h0 (by omega))
      have w := ey_w81 (gf := nI fl) (gb := nI bl) (gc := nI cl) (pw := pw) (dv := dv) (co := y) (z := v4) hp (h1 t) l 0 da (by omega) (ey_Oc hOy (fun _ _ => rfl) (fun q _ => ⟨fun s => s.resolve_right (by omega), Or.inl⟩))
      rw [ew_0] at w
      exact w
    refine pk_le (ec_n l (fun j => ¬ eb dm (p + j) ∧ ¬ ev_own V (p + j))) (ef_n cl V (eb dm)) (fun t => ⟨l + 1, ?_⟩) (fun t => YW _ (fun s => by omega) (fun _ => ⟨rfl, same⟩))
    have fin : wpY_write (fun r' v' => r' = 0 ∧ i_Rel (k + 5) (fc, fd, (nI fl), (nI bl), (nI cl), (dm ||| eb_rg p l), ow, mp, df, us, pw, (el_f N), (el_f S), (el_f G), (el_f K), (el_f C), nm, x, (ew_v dv p l v4), jr) v') ((nI fl), (nI bl), (nI cl), pw, ck, cc, dk, dc, da, dv, y) (nI f) (nI b) (nI l) v4 := by
      refine YW _ (fun _ da' hO' => ⟨rfl, ?_⟩) (fun s => absurd t s)
      refine ⟨fl, bl, cl, V, W, dm ||| eb_rg p l, pw, x, y, ew_v dv p l v4, jr, ⟨b1, b2, b3, b4, b5, b6⟩, ?_, ex_Ri hO, ey_Ri (ey_Oc hO' (fun _ _ => rfl) (fun q hq => by rw [eb_or, eb_rgi (by omega) (by omega) hq]))⟩
      obtain ⟨g1, g2, g3, g4, g5, g6⟩ := hP
      refine ⟨g1, g2, g3, g4, ?_, g6⟩
      refine ev_Fw (E := fun q => (p ≤ q ∧ q < p + l) ∧ ¬ eb dm q ∧ ¬ ev_own V q) (ef_F g5 (by rw [n2]; exact t)) (fun q hq d no => ?_)
      rw [eb_or, eb_rgi (by omega) (by omega) hq] at d
      by_cases s : eb dm q
      · exact Or.inl ⟨s, no⟩
      · exact Or.inr ⟨d.resolve_left s, s, no⟩
    have w := ex_wrL (post := fun r u' => wpY_write (fun r' v' => r' = r ∧ i_Rel (k + 5) u' v') ((nI fl), (nI bl), (nI cl), pw, ck, cc, dk, dc, da, dv, y) (nI f) (nI b) (nI l) v4) (z := v4) hp fin l 0 (by omega)
    rw [ew_0] at w
    exact w
  · unfold wpY_write
    exact ey_gd b2 b4 rfl rfl (fun gd => absurd gd no) (fun _ => br_t rfl ⟨rfl, same⟩)
section
variable {fl bl cl : Nat} {dm : Int64} {pw : Int32} {co dv jr : Nat → Int32}
theorem ex_puL {V : Nat → Nat} {p l : Nat} (hl : p + l ≤ 64) : ∀ d i, i + d = l → ∀ u, ex_R fl bl cl (fun y => if p ≤ y ∧ y < p + i then 0 else V y) dm pw co dv jr u →
    ∃ u', ex_R fl bl cl (fun y => if p ≤ y ∧ y < p + l then 0 else V y) dm pw co dv jr u' ∧ ∀ post : Int32 → SX → Prop, post 0 u' → wX_punch_43 post (nI l) (nI p) (d + 1) (nI i) u.1 u.2.1 u.2.2.1 u.2.2.2.1 u.2.2.2.2.1 u.2.2.2.2.2.1 u.2.2.2.2.2.2.1 u.2.2.2.2.2.2.2.1 u.2.2.2.2.2.2.2.2.1 u.2.2.2.2.2.2.2.2.2.1 u.2.2.2.2.2.2.2.2.2.2.1 u.2.2.2.2.2.2.2.2.2.2.2.1 u.2.2.2.2.2.2.2.2.2.2.2.2.1 u.2.2.2.2.2.2.2.2.2.2.2.2.2.1 u.2.2.2.2.2.2.2.2.2.2.2.2.2.2.1 u.2.2.2.2.2.2.2.2.2.2.2.2.2.2.2.1 u.2.2.2.2.2.2.2.2.2.2.2.2.2.2.2.2.1 u.2.2.2.2.2.2.2.2.2.2.2.2.2.2.2.2.2.1 u.2.2.2.2.2.2.2.2.2.2.2.2.2.2.2.2.2.2.1 u.2.2.2.2.2.2.2.2.2.2.2.2.2.2.2.2.2.2.2 := by
  intro d
  induction d with
  | zero =>
    intro i hi u I
    have hi : i = l := by omega
    subst hi
    refine ⟨u, I, fun post h => ?_⟩
    unfold wX_punch_43
    exact br_t (nI_le (by omega) (by omega)) h
  | succ d ih =>
    intro i hi u I
    obtain ⟨u1, I1, w1⟩ := ex_Ras I (m := 0) (p := p + i) (e := 0) (by omega) (by omega) (Or.inl rfl)
    obtain ⟨u', I', w⟩ := ih (i + 1) (by omega) u1 (ex_Rc I1 (fun y _ => by
      try dsimp only
      rw [show 64 * 0 + (p + i) = p + i by omega]
      by_cases e : y = p + i
      · subst e; rw [if_pos (by omega), eu_s]
      · rw [eu_n e]
        by_cases f : p ≤ y ∧ y < p + i
        · rw [if_pos f, if_pos (by omega)]
        · rw [if_neg f, if_neg (by omega)]))
    refine ⟨u', I', fun post h => ?_⟩
    unfold wX_punch_43
    rw [nI_add]
    exact br_f (nI_ge (by omega) (by omega)) (w1 _ (nm_r (nI_1 i) (w post h)))
end
section
variable {gf gb gc pw : Int32} {ck cc dk dc da dv co : Nat → Int32} {W : Nat → Nat} {D : Nat → Prop}
theorem ey_puL {post : Int32 → SY → Prop} {f b l : Nat} (hl : 16 * f + b + l ≤ 64) (h : ∀ ck' da', ey_O (fun y => if 16 * f + b ≤ y ∧ y < 16 * f + b + l then 0 else W y) (fun q => D q ∧ ¬ (16 * f + b ≤ q ∧ q < 16 * f + b + l)) ck' cc dk dc da' → post 0 (gf, gb, gc, pw, ck', cc, dk, dc, da', dv, co)) :
    ∀ d i ck da, i + d = l → ey_O (fun y => if 16 * f + b ≤ y ∧ y < 16 * f + b + i then 0 else W y) (fun q => D q ∧ ¬ (16 * f + b ≤ q ∧ q < 16 * f + b + i)) ck cc dk dc da → wY_punch_15 post (nI f) (nI b) (nI l) gf gb gc pw (d + 1) (nI i) ck cc dk dc da dv co := by
  have e2 : (16 : Int32) * nI f + nI b = nI (16 * f + b) := by rw [show (16 : Int32) = nI 16 from rfl, pk_mul, nI_add]
  intro d
  induction d with
  | zero =>
    intro i ck da hi hO
    have hi : i = l := by omega
    subst hi
    unfold wY_punch_15
    exact br_t (nI_le (by omega) (by omega)) (h ck da hO)
  | succ d ih =>
    intro i ck da hi hO
    have k := ih (i + 1) (upd ck (16 * f + b + i) 0) (upd da (16 * f + b + i) 0) (by omega) (by
      intro q hq
      have a := hO q hq
      try dsimp only at a ⊢
      rw [if_neg (show ¬ (16 * f + b ≤ 64 + q ∧ 64 + q < 16 * f + b + i) by omega)] at a
      rw [if_neg (show ¬ (16 * f + b ≤ 64 + q ∧ 64 + q < 16 * f + b + (i + 1)) by omega)]
      by_cases e : q = 16 * f + b + i
      · subst e
        rw [pk_us, pk_us, if_pos (by omega)]
        exact ⟨⟨rfl, fun t => absurd rfl t⟩, a.2.1, Or.inr ⟨fun t => t.2 (by omega), rfl⟩⟩
      · rw [pk_un e, pk_un e]
        refine ⟨?_, a.2.1, ?_⟩
        · by_cases g : 16 * f + b ≤ q ∧ q < 16 * f + b + i
          · rw [if_pos (by omega)]
            rw [if_pos g] at a
            exact a.1
          · rw [if_neg (by omega)]
            rw [if_neg g] at a
            exact a.1
        · rcases a.2.2 with ⟨t, s⟩ | ⟨t, s⟩
          · exact Or.inl ⟨⟨t.1, fun w => t.2 (by omega)⟩, s⟩
          · exact Or.inr ⟨fun w => t ⟨w.1, fun r => w.2 (by omega)⟩, s⟩)
    unfold wY_punch_15
    rw [e2, nI_add, nI_clamp (by omega), ey_nar0]
    exact br_f (nI_ge (by omega) (by omega)) ⟨vp_in_nI (by omega) (by omega), nm_e ⟨vp_in_nI (by omega) (by omega), nm_e (nm_r (nI_1 i) k)⟩⟩
end
theorem i_vc_punch {k : Nat} {u : SX} {v : SY} (I : i_Rel k u v) (hk : k + 5 ≤ 2563) (v1 : Int32) (v2 : Int32) (v3 : Int32) : wpX_punch (fun r u' => wpY_punch (fun r' v' => r' = r ∧ i_Rel (k + 5) u' v') v v1 v2 v3) u v1 v2 v3 := by
  obtain ⟨fl, bl, cl, V, W, dm, pw, x, y, dv, jr, hB, hP, IX, IY⟩ := I
  obtain ⟨b1, b2, b3, b4, b5, b6⟩ := hB
  refine ex_el (P := fun u => wpX_punch (fun r u' => wpY_punch (fun r' v' => r' = r ∧ i_Rel (k + 5) u' v') v v1 v2 v3) u v1 v2 v3) ?_ IX
  intro fc fd ow mp df us N S G K C nm hO
  refine ey_el (P := fun v => wpX_punch (fun r u' => wpY_punch (fun r' v' => r' = r ∧ i_Rel (k + 5) u' v') v v1 v2 v3) (fc, fd, (nI fl), (nI bl), (nI cl), dm, ow, mp, df, us, pw, (el_f N), (el_f S), (el_f G), (el_f K), (el_f C), nm, x, dv, jr) v1 v2 v3) ?_ IY
  intro ck cc dk dc da hOy
  unfold wpX_punch
  refine ex_gd b2 b4 rfl rfl (fun gd => br_f (by decide) ?_) (fun no => br_t rfl ?_)
  · have gd' := gd
    obtain ⟨f, b, l, hf, hb, hl1, hl2, rfl, rfl, rfl⟩ := gd
    have e1 : nI f * 16 + nI b = nI (16 * f + b) := by rw [show (16 : Int32) = nI 16 from rfl, pk_mul, nI_add, Nat.mul_comm]
    have hp : 16 * f + b + l ≤ 64 := by omega
    refine nm_r e1 (ex_rm _ ?_)
    obtain ⟨u', IX', wX⟩ := ex_puL (fl := fl) (bl := bl) (cl := cl) (dm := dm &&& (eb_rg (16 * f + b) l ^^^ (-1))) (pw := pw) (co := x) (dv := dv) (jr := jr) (V := V) hp l 0 (by omega) (fc, fd, (nI fl), (nI bl), (nI cl), (dm &&& (eb_rg (16 * f + b) l ^^^ (-1))), ow, mp, df, us, pw, (el_f N), (el_f S), (el_f G), (el_f K), (el_f C), nm, x, dv, jr) (ex_Rc (ex_Ri hO) (fun y _ => if_neg (by omega)))
    refine nm_e ⟨l + 1, wX _ ?_⟩
    unfold wpY_punch
    refine ey_gd b2 b4 rfl rfl (fun _ => br_f (by decide) ⟨l + 1, ?_⟩) (fun no => absurd gd' no)
    refine ey_puL (W := W) (D := eb dm) hp (fun ck' da' hO' => ⟨rfl, ?_⟩) l 0 ck da (by omega) (ey_Oc hOy (fun y _ => if_neg (by omega)) (fun q _ => ⟨fun s => s.1, fun s => ⟨s, by omega⟩⟩))
    have hD : ∀ q, q < 64 → (eb (dm &&& (eb_rg (16 * f + b) l ^^^ (-1))) q ↔ eb dm q ∧ ¬ (16 * f + b ≤ q ∧ q < 16 * f + b + l)) := fun q hq => by
      rw [eb_and, eb_not _ hq, eb_rgi (by omega) (by omega) hq]
    refine ⟨fl, bl, cl, _, _, dm &&& (eb_rg (16 * f + b) l ^^^ (-1)), pw, x, y, dv, jr, ⟨b1, b2, b3, b4, b5, b6⟩, ?_, IX', ey_Ri (ey_Oc hO' (fun _ _ => rfl) hD)⟩
    exact er_punch hP hp (fun _ _ => rfl) (fun _ _ => rfl) (fun q hq t => (hD q hq).mp t)
  · unfold wpY_punch
    exact ey_gd b2 b4 rfl rfl (fun gd => absurd gd no) (fun _ => br_t rfl ⟨rfl, fl, bl, cl, V, W, dm, pw, x, y, dv, jr, ⟨b1, b2, b3, b4, b5, b6⟩, hP, ex_Ri hO, ey_Ri hOy⟩)
end
section
/-! reflink -/
def es_T (D : Nat → Prop) (s d i : Nat) (T T' : Nat → Nat) : Prop :=
  (∀ y, y < 128 → ¬ (d ≤ y ∧ y < d + i) → T' y = T y) ∧ (∀ j, j < i → D (s + j) → T' (d + j) = T (d + j)) ∧
  (∀ j, j < i → ¬ D (s + j) → (T (s + j) % 4 = 2 ∧ T' (d + j) = T (s + j)) ∨ (¬ T (s + j) % 4 = 2 ∧ T' (d + j) = 0))
def es_D (D : Nat → Prop) (s d i : Nat) (D' : Nat → Prop) : Prop := (∀ q, q < 64 → ¬ (d ≤ q ∧ q < d + i) → (D' q ↔ D q)) ∧ (∀ j, j < i → (D' (d + j) ↔ D (s + j)))
def es_v (D : Nat → Prop) (s d i : Nat) (dv dv' : Nat → Int32) : Prop :=
  (∀ y, ¬ (d ≤ y ∧ y < d + i) → dv' y = dv y) ∧ (∀ j, j < i → D (s + j) → dv' (d + j) = dv (s + j)) ∧ (∀ j, j < i → ¬ D (s + j) → dv' (d + j) = dv (d + j))
def es_e (e : Nat) : Nat := if e % 4 = 2 then e else 0
section
variable {D : Nat → Prop} {s d i l : Nat} (hs : s + l ≤ 64) (hd : d + l ≤ 64) (hj : d + l ≤ s ∨ s + l ≤ d) (hi : i < l)
theorem es_T1 {T T' : Nat → Nat} (hd : d + l ≤ 64) (hi : i < l) (h : es_T D s d i T T') (hD : D (s + i)) : es_T D s d (i + 1) T T' := by
  obtain ⟨h1, h2, h3⟩ := h
  refine ⟨fun y hy hn => h1 y hy (by omega), fun j hj' a => ?_, fun j hj' a => ?_⟩
  · by_cases e : j = i
    · subst e; exact h1 _ (by omega) (by omega)
    · exact h2 j (by omega) a
  · by_cases e : j = i
    · subst e; exact absurd hD a
    · exact h3 j (by omega) a
theorem es_T0 {T T' : Nat → Nat} (hs : s + l ≤ 64) (hd : d + l ≤ 64) (hj : d + l ≤ s ∨ s + l ≤ d) (hi : i < l) (h : es_T D s d i T T') (hD : ¬ D (s + i)) : es_T D s d (i + 1) T (eu T' (d + i) (es_e (T' (s + i)))) := by
  obtain ⟨h1, h2, h3⟩ := h
  have e0 : T' (s + i) = T (s + i) := h1 _ (by omega) (by omega)
  refine ⟨fun y hy hn => ?_, fun j hj' a => ?_, fun j hj' a => ?_⟩
  · rw [eu_n (by omega)]; exact h1 y hy (by omega)
  · by_cases e : j = i
    · subst e; exact absurd a hD
    · rw [eu_n (by omega)]; exact h2 j (by omega) a
  · by_cases e : j = i
    · subst e
      rw [eu_s, e0]
      unfold es_e
      by_cases f : T (s + j) % 4 = 2
      · rw [if_pos f]; exact Or.inl ⟨f, rfl⟩
      · rw [if_neg f]; exact Or.inr ⟨f, rfl⟩
    · rw [eu_n (by omega)]; exact h3 j (by omega) a
theorem es_D1 {D' D'' : Nat → Prop} (hd : d + l ≤ 64) (hi : i < l) (h : es_D D s d i D') (hD : D (s + i)) (e : ∀ q, q < 64 → (D'' q ↔ D' q ∨ q = d + i)) : es_D D s d (i + 1) D'' := by
  obtain ⟨h1, h2⟩ := h
  refine ⟨fun q hq hn => ?_, fun j hj' => ?_⟩
  · rw [e q hq, h1 q hq (by omega)]
    exact ⟨fun t => t.resolve_right (by omega), Or.inl⟩
  · rw [e (d + j) (by omega)]
    by_cases f : j = i
    · subst f; exact ⟨fun _ => hD, fun _ => Or.inr rfl⟩
    · rw [h2 j (by omega)]
      exact ⟨fun t => t.resolve_right (by omega), Or.inl⟩
theorem es_D0 {D' D'' : Nat → Prop} (hd : d + l ≤ 64) (hi : i < l) (h : es_D D s d i D') (hD : ¬ D (s + i)) (e : ∀ q, q < 64 → (D'' q ↔ D' q ∧ q ≠ d + i)) : es_D D s d (i + 1) D'' := by
  obtain ⟨h1, h2⟩ := h
  refine ⟨fun q hq hn => ?_, fun j hj' => ?_⟩
  · rw [e q hq, h1 q hq (by omega)]
    exact ⟨fun t => t.1, fun t => ⟨t, by omega⟩⟩
  · rw [e (d + j) (by omega)]
    by_cases f : j = i
    · subst f; exact ⟨fun t => absurd rfl t.2, fun t => absurd t hD⟩
    · rw [h2 j (by omega)]
      exact ⟨fun t => t.1, fun t => ⟨t, by omega⟩⟩
theorem es_Ds {D' : Nat → Prop} (hs : s + l ≤ 64) (hj : d + l ≤ s ∨ s + l ≤ d) (hi : i < l) (h : es_D D s d i D') : D' (s + i) ↔ D (s + i) := h.1 _ (by omega) (by omega)
theorem es_v1 {dv dv' : Nat → Int32} (hj : d + l ≤ s ∨ s + l ≤ d) (hi : i < l) (h : es_v D s d i dv dv') (hD : D (s + i)) : es_v D s d (i + 1) dv (upd dv' (d + i) (dv' (s + i))) := by
  obtain ⟨h1, h2, h3⟩ := h
  have e0 : dv' (s + i) = dv (s + i) := h1 _ (by omega)
  refine ⟨fun y hn => ?_, fun j hj' a => ?_, fun j hj' a => ?_⟩
  · rw [pk_un (by omega)]; exact h1 y (by omega)
  · by_cases e : j = i
    · subst e; rw [pk_us, e0]
    · rw [pk_un (by omega)]; exact h2 j (by omega) a
  · by_cases e : j = i
    · subst e; exact absurd hD a
    · rw [pk_un (by omega)]; exact h3 j (by omega) a
theorem es_v0 {dv dv' : Nat → Int32} (hi : i < l) (h : es_v D s d i dv dv') (hD : ¬ D (s + i)) : es_v D s d (i + 1) dv dv' := by
  obtain ⟨h1, h2, h3⟩ := h
  refine ⟨fun y hn => h1 y (by omega), fun j hj' a => ?_, fun j hj' a => ?_⟩
  · by_cases e : j = i
    · subst e; exact absurd a hD
    · exact h2 j (by omega) a
  · by_cases e : j = i
    · subst e; exact h1 _ (by omega)
    · exact h3 j (by omega) a
theorem es_vu {dv a b : Nat → Int32} (ha : es_v D s d l dv a) (hb : es_v D s d l dv b) : a = b := by
  funext y
  by_cases z : d ≤ y ∧ y < d + l
  · obtain ⟨j, rfl⟩ : ∃ j, y = d + j := ⟨y - d, by omega⟩
    by_cases f : D (s + j)
    · rw [ha.2.1 j (by omega) f, hb.2.1 j (by omega) f]
    · rw [ha.2.2 j (by omega) f, hb.2.2 j (by omega) f]
  · rw [ha.1 y z, hb.1 y z]
theorem es_Du {A B : Nat → Prop} (ha : es_D D s d l A) (hb : es_D D s d l B) {q : Nat} (hq : q < 64) : A q ↔ B q := by
  by_cases z : d ≤ q ∧ q < d + l
  · obtain ⟨j, rfl⟩ : ∃ j, q = d + j := ⟨q - d, by omega⟩
    rw [ha.2 j (by omega), hb.2 j (by omega)]
  · rw [ha.1 q hq z, hb.1 q hq z]
end
section
variable {fl bl cl : Nat} {V : Nat → Nat} {dm : Int64} {pw : Int32} {co dv jr : Nat → Int32} {u : SX}
theorem ex_Rcl1 (I : ex_R fl bl cl V dm pw co dv jr u) {s d : Nat} (hs : s < 64) (hd : d < 64) (h : eb dm s) : ∃ u', ex_R fl bl cl V (eb_st dm d) pw co (upd dv d (dv s)) jr u' ∧ ∀ post : SX → Prop, post u' → wpX_clonePlace post u (nI s) (nI d) := by
  refine ex_el (P := fun u => ∃ u', ex_R fl bl cl V (eb_st dm d) pw co (upd dv d (dv s)) jr u' ∧ ∀ post : SX → Prop, post u' → wpX_clonePlace post u (nI s) (nI d)) ?_ I
  intro fc fd ow mp df us N S G K C nm hO
  refine ⟨_, ex_Ri (fc := fc) (fd := fd) hO, fun post h' => ?_⟩
  unfold wpX_clonePlace
  refine ex_hb _ hs (fun _ => br_f (by decide) ⟨vp_in_nI hs (by omega), vp_in_nI hd (by omega), ?_⟩) (fun t => absurd h t)
  rw [nI_clamp (show s < 2 ^ 31 by omega), nI_clamp (show d < 2 ^ 31 by omega)]
  exact nm_e (ex_w1 _ h')
theorem ex_Rcl0 (I : ex_R fl bl cl V dm pw co dv jr u) {s d : Nat} (hs : s < 64) (hd : d < 64) (h : ¬ eb dm s) : ∃ u', ex_R fl bl cl (eu V d (es_e (V s))) (eb_cl dm d) pw co dv jr u' ∧ ∀ post : SX → Prop, post u' → wpX_clonePlace post u (nI s) (nI d) := by
  refine ex_el (P := fun u => ∃ u', ex_R fl bl cl (eu V d (es_e (V s))) (eb_cl dm d) pw co dv jr u' ∧ ∀ post : SX → Prop, post u' → wpX_clonePlace post u (nI s) (nI d)) ?_ I
  intro fc fd ow mp df us N S G K C nm hO
  have vv := el_Ev hO.1 (i := s) (by omega)
  have he : es_e (V s) = 0 ∨ ((es_e (V s) % 4 = 1 ∨ es_e (V s) % 4 = 2) ∧ es_e (V s) / 4 < 32) := by
    unfold es_e
    by_cases z : V s % 4 = 2
    · rw [if_pos z]; exact vv
    · rw [if_neg z]; exact Or.inl rfl
  obtain ⟨ow', mp', df', us', N', S', G', K', C', nm', O1, w⟩ := ex_as (fc := fc) (fd := fd) (gf := nI fl) (gb := nI bl) (gc := nI cl) (dm := eb_cl dm d) (pw := pw) (co := co) (dv := dv) (jr := jr) hO (m := 0) (p := d) (e := es_e (V s)) (by omega) hd he
  rw [show 64 * 0 + d = d by omega] at O1
  refine ⟨_, ex_Ri (fc := fc) (fd := fd) O1, fun post h' => ?_⟩
  have w2 := w post h'
  unfold wpX_clonePlace
  refine ex_hb _ hs (fun t => absurd t h) (fun _ => br_t rfl (ex_w0 _ (ex_en (m := 0) hO.1 (by omega) hs ?_)))
  rw [show 64 * 0 + s = s by omega, el_kind (by omega)]
  unfold wX_clonePlace_69
  refine pk_eq (V s % 4) 2 (fun z => ?_) (fun z => ?_)
  · rw [show es_e (V s) = V s from if_pos z] at w2; exact w2
  · rw [show es_e (V s) = 0 from if_neg z] at w2; exact w2
end
theorem ex_rfL {fl bl cl : Nat} {V : Nat → Nat} {dm : Int64} {pw : Int32} {co dv jr : Nat → Int32} {s d l : Nat} (hs : s + l ≤ 64) (hd : d + l ≤ 64) (hj : d + l ≤ s ∨ s + l ≤ d) :
    ∀ n i, i + n = l → ∀ (u : SX) (V' : Nat → Nat) (dm' : Int64) (dv' : Nat → Int32), es_T (eb dm) s d i V V' → es_D (eb dm) s d i (eb dm') → es_v (eb dm) s d i dv dv' → ex_R fl bl cl V' dm' pw co dv' jr u →
      ∃ (u' : SX) (V'' : Nat → Nat) (dm'' : Int64) (dv'' : Nat → Int32), es_T (eb dm) s d l V V'' ∧ es_D (eb dm) s d l (eb dm'') ∧ es_v (eb dm) s d l dv dv'' ∧ ex_R fl bl cl V'' dm'' pw co dv'' jr u' ∧ ∀ post : Int32 → SX → Prop, post 0 u' → wX_reflink_118 post (nI s) (nI d) (nI l) (n + 1) (nI i) u.1 u.2.1 u.2.2.1 u.2.2.2.1 u.2.2.2.2.1 u.2.2.2.2.2.1 u.2.2.2.2.2.2.1 u.2.2.2.2.2.2.2.1 u.2.2.2.2.2.2.2.2.1 u.2.2.2.2.2.2.2.2.2.1 u.2.2.2.2.2.2.2.2.2.2.1 u.2.2.2.2.2.2.2.2.2.2.2.1 u.2.2.2.2.2.2.2.2.2.2.2.2.1 u.2.2.2.2.2.2.2.2.2.2.2.2.2.1 u.2.2.2.2.2.2.2.2.2.2.2.2.2.2.1 u.2.2.2.2.2.2.2.2.2.2.2.2.2.2.2.1 u.2.2.2.2.2.2.2.2.2.2.2.2.2.2.2.2.1 u.2.2.2.2.2.2.2.2.2.2.2.2.2.2.2.2.2.1 u.2.2.2.2.2.2.2.2.2.2.2.2.2.2.2.2.2.2.1 u.2.2.2.2.2.2.2.2.2.2.2.2.2.2.2.2.2.2.2 := by
  intro n
  induction n with
  | zero =>
    intro i hi u V' dm' dv' hT hD hV I
    have hi : i = l := by omega
    subst hi
    refine ⟨u, V', dm', dv', hT, hD, hV, I, fun post h => ?_⟩
    unfold wX_reflink_118
    exact br_t (nI_le (by omega) (by omega)) h
  | succ n ih =>
    intro i hi u V' dm' dv' hT hD hV I
    have sD := es_Ds hs hj (show i < l by omega) hD
    by_cases z : eb dm (s + i)
    · obtain ⟨u1, I1, w1⟩ := ex_Rcl1 I (s := s + i) (d := d + i) (by omega) (by omega) (sD.mpr z)
      obtain ⟨u', V'', dm'', dv'', a1, a2, a3, I', w⟩ := ih (i + 1) (by omega) u1 _ _ _ (es_T1 hd (by omega) hT z) (es_D1 hd (by omega) hD z (fun q hq => eb_sti dm' (by omega) hq)) (es_v1 hj (by omega) hV z) I1
      refine ⟨u', V'', dm'', dv'', a1, a2, a3, I', fun post h => ?_⟩
      unfold wX_reflink_118
      rw [nI_add, nI_add]
      exact br_f (nI_ge (by omega) (by omega)) (w1 _ (nm_r (nI_1 i) (w post h)))
    · obtain ⟨u1, I1, w1⟩ := ex_Rcl0 I (s := s + i) (d := d + i) (by omega) (by omega) (fun t => z (sD.mp t))
      obtain ⟨u', V'', dm'', dv'', a1, a2, a3, I', w⟩ := ih (i + 1) (by omega) u1 _ _ _ (es_T0 hs hd hj (by omega) hT z) (es_D0 hd (by omega) hD z (fun q hq => eb_cli dm' (by omega) hq)) (es_v0 (l := l) (by omega) hV z) I1
      refine ⟨u', V'', dm'', dv'', a1, a2, a3, I', fun post h => ?_⟩
      unfold wX_reflink_118
      rw [nI_add, nI_add]
      exact br_f (nI_ge (by omega) (by omega)) (w1 _ (nm_r (nI_1 i) (w post h)))
section
variable {gf gb gc pw : Int32} {dk dc co : Nat → Int32} {W : Nat → Nat} {D : Nat → Prop}
theorem ey_rfL {cl : Nat} (hcl : cl ≤ 32) {dv : Nat → Int32} {s d l : Nat} (hs : s + l ≤ 64) (hd : d + l ≤ 64) (hj : d + l ≤ s ∨ s + l ≤ d) {post : Int32 → SY → Prop}
    (h : ∀ (ck cc da dv'' : Nat → Int32) (W'' : Nat → Nat) (D'' : Nat → Prop), es_T D s d l W W'' → es_D D s d l D'' → es_v D s d l dv dv'' → ey_O W'' D'' ck cc dk dc da → post 0 (gf, gb, gc, pw, ck, cc, dk, dc, da, dv'', co)) :
    ∀ n i, i + n = l → ∀ (ck cc da dv' : Nat → Int32) (W' : Nat → Nat) (D' : Nat → Prop), es_T D s d i W W' → es_D D s d i D' → es_v D s d i dv dv' → ev_v cl W' → ey_O W' D' ck cc dk dc da → wY_reflink_131 post (nI s) (nI d) (nI l) gf gb gc pw (n + 1) (nI i) ck cc dk dc da dv' co := by
  intro n
  induction n with
  | zero =>
    intro i hi ck cc da dv' W' D' hT hD hV hv hO
    have hi : i = l := by omega
    subst hi
    unfold wY_reflink_131
    exact br_t (nI_le (by omega) (by omega)) (h ck cc da dv' W' D' hT hD hV hO)
  | succ n ih =>
    intro i hi ck cc da dv' W' D' hT hD hV hv hO
    have sD := es_Ds hs hj (show i < l by omega) hD
    have is : vp_in (nI (s + i)) 64 := vp_in_nI (by omega) (by omega)
    have id' : vp_in (nI (d + i)) 64 := vp_in_nI (by omega) (by omega)
    have ne : s + i ≠ d + i := by omega
    have hs' := hO (s + i) (by omega)
    have hda := ey_da hO (p := s + i) (by omega)
    unfold wY_reflink_131
    rw [nI_add, nI_add, nI_clamp (show s + i < 2 ^ 31 by omega), nI_clamp (show d + i < 2 ^ 31 by omega)]
    refine br_f (nI_ge (by omega) (by omega)) ⟨is, id', ?_⟩
    by_cases z : D (s + i)
    · have da1 : da (s + i) = 1 := by
        rcases hs'.2.2 with t | t
        · exact t.2
        · exact absurd (sD.mpr z) t.1
      rw [da1, ey_nar1]
      refine nm_e ⟨is, ?_⟩
      rw [pk_un ne, da1]
      refine br_f (by decide) ⟨is, id', nm_e (nm_r (nI_1 i) ?_)⟩
      refine ih (i + 1) (by omega) ck cc (upd da (d + i) 1) _ W' (fun q => D' q ∨ q = d + i) (es_T1 hd (by omega) hT z) (es_D1 hd (by omega) hD z (fun q _ => Iff.rfl)) (es_v1 hj (by omega) hV z) hv (fun q hq => ?_)
      have a := hO q hq
      refine ⟨a.1, a.2.1, ?_⟩
      by_cases e : q = d + i
      · subst e; rw [pk_us]; exact Or.inl ⟨Or.inr rfl, rfl⟩
      · rw [pk_un e]
        rcases a.2.2 with t | t
        · exact Or.inl ⟨Or.inl t.1, t.2⟩
        · exact Or.inr ⟨fun w => w.elim t.1 e, t.2⟩
    · have da0 : da (s + i) = 0 := hda.mpr (fun t => z (sD.mp t))
      rw [da0, ey_nar0]
      refine nm_e ⟨is, ?_⟩
      rw [pk_un ne, da0]
      refine br_t rfl ⟨is, ?_⟩
      have key : ∀ kk : Int32, kk = nI (es_e (W' (s + i)) % 4) → wY_reflink_214 post (wY_reflink_131 post (nI s) (nI d) (nI l) gf gb gc pw (n + 1)) (nI s) (nI d) (nI l) (nI i) kk (nI (d + i)) gf gb gc pw ck cc dk dc (upd da (d + i) 0) dv' co := by
        intro kk hkk
        unfold wY_reflink_214
        rw [nI_add, nI_add, nI_clamp (show s + i < 2 ^ 31 by omega), nI_clamp (show d + i < 2 ^ 31 by omega)]
        refine ⟨id', nm_e ⟨is, id', nm_e (nm_r (nI_1 i) ?_)⟩⟩
        have v0 := hv (s + i) (by omega)
        refine ih (i + 1) (by omega) (upd ck (d + i) kk) (upd cc (d + i) (cc (s + i))) (upd da (d + i) 0) dv' (eu W' (d + i) (es_e (W' (s + i)))) (fun q => D' q ∧ q ≠ d + i) (es_T0 hs hd hj (by omega) hT z) (es_D0 hd (by omega) hD z (fun q _ => Iff.rfl)) (es_v0 (l := l) (by omega) hV z) ?_ (fun q hq => ?_)
        · refine ev_vup hv ?_
          unfold es_e
          by_cases y : W' (s + i) % 4 = 2
          · rw [if_pos y]; exact v0
          · rw [if_neg y]; exact Or.inl rfl
        · have a := hO q hq
          rw [eu_n (show 64 + q ≠ d + i by omega)]
          by_cases e : q = d + i
          · subst e
            rw [pk_us, pk_us, pk_us, eu_s]
            refine ⟨⟨hkk, fun t => ?_⟩, a.2.1, Or.inr ⟨fun t => t.2 rfl, rfl⟩⟩
            unfold es_e at t ⊢
            by_cases y : W' (s + i) % 4 = 2
            · rw [if_pos y]; exact hs'.1.2 (by omega)
            · rw [if_neg y] at t; exact absurd rfl t
          · rw [pk_un e, pk_un e, pk_un e, eu_n e]
            refine ⟨a.1, a.2.1, ?_⟩
            rcases a.2.2 with t | t
            · exact Or.inl ⟨⟨t.1, e⟩, t.2⟩
            · exact Or.inr ⟨fun w => t.1 w.1, t.2⟩
      rw [hs'.1.1]
      refine pk_eq (W' (s + i) % 4) 2 (fun y => key 2 ?_) (fun y => key 0 ?_)
      · rw [show es_e (W' (s + i)) = W' (s + i) from if_pos y, y]; rfl
      · rw [show es_e (W' (s + i)) = 0 from if_neg y]; rfl
end
section
variable {gf gb gc pw : Int32} {ck cc dk dc da dv co : Nat → Int32} {cl : Nat} {W : Nat → Nat} {D : Nat → Prop}
theorem ey_rn {post : Int32 → SY → Prop} {s d l : Nat} (hO : ey_O W D ck cc dk dc da) (hv : ev_v cl W) (hcl : cl ≤ 32) (hs : s + l ≤ 64) (hd : d + l ≤ 64)
    (h : wpY_free (fun r_35 => (((nI (ec_n l (fun j => D (s + j) ∧ ¬ D (d + j) ∧ ¬ ev_own W (d + j))) ≤ r_35 → (∃ n131 : Nat, wY_reflink_131 post (nI s) (nI d) (nI l) gf gb gc pw n131 0 ck cc dk dc da dv co)) ∧ (¬ nI (ec_n l (fun j => D (s + j) ∧ ¬ D (d + j) ∧ ¬ ev_own W (d + j))) ≤ r_35 → (post (-2) (gf, gb, gc, pw, ck, cc, dk, dc, da, dv, co)))))) (gf, gb, gc, pw, ck, cc, dk, dc, da, dv, co)) :
    ∀ n i, i + n = l → wY_reflink_66 post (nI s) (nI d) (nI l) gf gb gc pw ck cc dk dc da dv co (n + 1) (nI (ec_n i (fun j => D (s + j) ∧ ¬ D (d + j) ∧ ¬ ev_own W (d + j)))) (nI i) := by
  intro n
  induction n with
  | zero =>
    intro i hi
    have hi : i = l := by omega
    subst hi
    unfold wY_reflink_66
    exact br_t (nI_le (by omega) (by omega)) h
  | succ n ih =>
    intro i hi
    have k := ih (i + 1) (by omega)
    have ha := ey_da hO (p := s + i) (by omega)
    have hb := ey_da hO (p := d + i) (by omega)
    unfold wY_reflink_66
    rw [nI_add, nI_add, nI_clamp (show s + i < 2 ^ 31 by omega), nI_clamp (show d + i < 2 ^ 31 by omega)]
    refine br_f (nI_ge (by omega) (by omega)) ⟨vp_in_nI (by omega) (by omega), br_c (fun t => ?_) (fun t => ⟨vp_in_nI (by omega) (by omega), br_c (fun w => ?_) (fun w => ?_)⟩)⟩
    · rw [ec_sf (P := fun j => D (s + j) ∧ ¬ D (d + j) ∧ ¬ ev_own W (d + j)) (fun q => ha.mp t q.1)] at k
      exact nm_r (nI_1 i) k
    · refine ey_ow hO hv hcl (by omega) (fun o => br_f (by decide) ?_) (fun o => br_t rfl ?_)
      · rw [ec_sf (P := fun j => D (s + j) ∧ ¬ D (d + j) ∧ ¬ ev_own W (d + j)) (fun q => q.2.2 o)] at k
        exact nm_r (nI_1 i) k
      · rw [ec_st (P := fun j => D (s + j) ∧ ¬ D (d + j) ∧ ¬ ev_own W (d + j)) ⟨Classical.not_not.mp (fun q => t (ha.mpr q)), hb.mp w, o⟩] at k
        exact nm_r (nI_1 _) (nm_r (nI_1 i) k)
    · rw [ec_sf (P := fun j => D (s + j) ∧ ¬ D (d + j) ∧ ¬ ev_own W (d + j)) (fun q => w (hb.mpr q.2.1))] at k
      exact nm_r (nI_1 i) k
end
/-- the bits that become dirty -/
theorem es_bits {dm : Int64} {s d l q : Nat} (hs : s + l ≤ 64) (hd : d < 64) (hs64 : s < 64) (hl : l < 64) (hq : q < 64) : eb ((((eb_rg s l &&& dm).toUInt64 >>> ((nI s).toInt64.toUInt64 &&& Int64.toUInt64 63)).toInt64) <<< ((nI d).toInt64 &&& 63)) q ↔ d ≤ q ∧ q < d + l ∧ eb dm (s + (q - d)) := by
  rw [eb_shl _ hd hq, eb_shr _ hs64, eb_and]
  rcases Nat.lt_or_ge (s + (q - d)) 64 with z | z
  · rw [eb_rgi hs64 hl z]
    constructor
    · rintro ⟨a, b, c⟩; exact ⟨a, by omega, c⟩
    · rintro ⟨a, b, c⟩; exact ⟨a, by omega, c⟩
  · constructor
    · rintro ⟨a, b, c⟩; exact absurd c (eb_big z)
    · rintro ⟨a, b, c⟩; exact absurd c (eb_big z)
def es_ok (fl bl s d : Nat) (z : Int32) : Prop := eg_gd fl bl (nI (s / 16)) (nI (s % 16)) z ∧ eg_gd fl bl (nI (d / 16)) (nI (d % 16)) z ∧ ∀ l, l < 2 ^ 31 → z = nI l → (d + l ≤ s ∨ s + l ≤ d)
theorem es_get {fl bl s d : Nat} {z : Int32} (hf : fl ≤ 4) (hb : bl ≤ 16) (hs : s < 2 ^ 31) (hd : d < 2 ^ 31) (h1 : eg_gd fl bl (nI (s / 16)) (nI (s % 16)) z) (h2 : eg_gd fl bl (nI (d / 16)) (nI (d % 16)) z) :
    ∃ l, z = nI l ∧ 1 ≤ l ∧ l ≤ 16 ∧ s / 16 < fl ∧ d / 16 < fl ∧ s % 16 + l ≤ bl ∧ d % 16 + l ≤ bl := by
  obtain ⟨f, b, l, a1, a2, a3, a4, a5, a6, a7⟩ := h1
  obtain ⟨f', b', l', c1, c2, c3, c4, c5, c6, c7⟩ := h2
  rw [nI_eq (by omega) (by omega)] at a5 a6 c5 c6
  rw [a7, nI_eq (by omega) (by omega)] at c7
  exact ⟨l, a7, a3, by omega, by omega, by omega, by omega, by omega⟩
theorem i_vc_reflink {k : Nat} {u : SX} {v : SY} (I : i_Rel k u v) (hk : k + 5 ≤ 2563) (v1 : Int32) (v2 : Int32) (v3 : Int32) : wpX_reflink (fun r u' => wpY_reflink (fun r' v' => r' = r ∧ i_Rel (k + 5) u' v') v v1 v2 v3) u v1 v2 v3 := by
  obtain ⟨fl, bl, cl, V, W, dm, pw, x, y, dv, jr, hB, hP, IX, IY⟩ := I
  obtain ⟨b1, b2, b3, b4, b5, b6⟩ := hB
  refine ex_el (P := fun u => wpX_reflink (fun r u' => wpY_reflink (fun r' v' => r' = r ∧ i_Rel (k + 5) u' v') v v1 v2 v3) u v1 v2 v3) ?_ IX
  intro fc fd ow mp df us N S G K C nm hO
  refine ey_el (P := fun v => wpX_reflink (fun r u' => wpY_reflink (fun r' v' => r' = r ∧ i_Rel (k + 5) u' v') v v1 v2 v3) (fc, fd, (nI fl), (nI bl), (nI cl), dm, ow, mp, df, us, pw, (el_f N), (el_f S), (el_f G), (el_f K), (el_f C), nm, x, dv, jr) v1 v2 v3) ?_ IY
  intro ck cc dk dc da hOy
  have same : i_Rel (k + 5) (fc, fd, (nI fl), (nI bl), (nI cl), dm, ow, mp, df, us, pw, (el_f N), (el_f S), (el_f G), (el_f K), (el_f C), nm, x, dv, jr) ((nI fl), (nI bl), (nI cl), pw, ck, cc, dk, dc, da, dv, y) := ⟨fl, bl, cl, V, W, dm, pw, x, y, dv, jr, ⟨b1, b2, b3, b4, b5, b6⟩, hP, ex_Ri hO, ey_Ri hOy⟩
  by_cases z1 : v1 < 0
  · unfold wpX_reflink
    refine br_t z1 ?_
    unfold wpY_reflink
    exact br_t z1 ⟨rfl, same⟩
  by_cases z2 : 0 ≤ v2
  rotate_left
  · unfold wpX_reflink
    refine br_f z1 (br_f z2 ?_)
    unfold wpY_reflink
    exact br_f z1 (br_f z2 ⟨rfl, same⟩)
  obtain ⟨s, hs, rfl⟩ := nI_of z1
  obtain ⟨d, hd, rfl⟩ := nI_of (Int32.not_lt.mpr z2)
  have n16 : ¬ (16 : Int32) = 0 := by decide
  have q1 : nI s / 16 = nI (s / 16) := pk_div (d := 16) hs (by omega) (by omega)
  have q2 : nI s - nI (s / 16) * 16 = nI (s % 16) := by rw [← q1]; exact pk_rem (d := 16) hs (by omega) (by omega)
  have q3 : nI d / 16 = nI (d / 16) := pk_div (d := 16) hd (by omega) (by omega)
  have q4 : nI d - nI (d / 16) * 16 = nI (d % 16) := by rw [← q3]; exact pk_rem (d := 16) hd (by omega) (by omega)
  -- the reference
  have YB : ∀ post : Int32 → SY → Prop, ¬ es_ok fl bl s d v3 → post (-1) ((nI fl), (nI bl), (nI cl), pw, ck, cc, dk, dc, da, dv, y) → wpY_reflink post ((nI fl), (nI bl), (nI cl), pw, ck, cc, dk, dc, da, dv, y) (nI s) (nI d) v3 := by
    intro post no h
    unfold wpY_reflink
    dsimp only
    rw [q1, q2, q3, q4]
    refine br_f z1 (br_t z2 ⟨n16, n16, ey_gd b2 b4 rfl rfl (fun g1 => br_f (by decide) ⟨n16, n16, ey_gd b2 b4 rfl rfl (fun g2 => br_f (by decide) ?_) (fun _ => br_t rfl h)⟩) (fun _ => br_t rfl h)⟩)
    obtain ⟨l, rfl, l1, l2, l3, l4, l5, l6⟩ := es_get b2 b4 hs hd g1 g2
    rw [nI_add, nI_add]
    refine pk_le (d + l) s (fun t => absurd ⟨g1, g2, fun l' hl' e => ?_⟩ no) (fun t => pk_le (s + l) d (fun t => absurd ⟨g1, g2, fun l' hl' e => ?_⟩ no) (fun _ => h))
    · rw [nI_eq (by omega) hl'] at e; subst e; exact Or.inl t
    · rw [nI_eq (by omega) hl'] at e; subst e; exact Or.inr t
  have XB : ∀ post : Int32 → SX → Prop, ¬ es_ok fl bl s d v3 → post (-1) (fc, fd, (nI fl), (nI bl), (nI cl), dm, ow, mp, df, us, pw, (el_f N), (el_f S), (el_f G), (el_f K), (el_f C), nm, x, dv, jr) → wpX_reflink post (fc, fd, (nI fl), (nI bl), (nI cl), dm, ow, mp, df, us, pw, (el_f N), (el_f S), (el_f G), (el_f K), (el_f C), nm, x, dv, jr) (nI s) (nI d) v3 := by
    intro post no h
    unfold wpX_reflink
    dsimp only
    rw [q1, q2, q3, q4]
    refine br_f z1 (br_t z2 ⟨n16, n16, ex_gd b2 b4 rfl rfl (fun g1 => br_f (by decide) ⟨n16, n16, ex_gd b2 b4 rfl rfl (fun g2 => br_f (by decide) ?_) (fun _ => br_t rfl h)⟩) (fun _ => br_t rfl h)⟩)
    obtain ⟨l, rfl, l1, l2, l3, l4, l5, l6⟩ := es_get b2 b4 hs hd g1 g2
    refine ex_rm _ (ex_rm _ (br_f (fun t => no ⟨g1, g2, fun l' hl' e => ?_⟩) h))
    rw [nI_eq (by omega) hl'] at e
    subst e
    rw [eb_z] at t
    rcases Nat.lt_or_ge s d with w | w
    · rcases Nat.lt_or_ge d (s + l) with w2 | w2
      · refine absurd ?_ (t d (by omega))
        rw [eb_and, eb_rgi (by omega) (by omega) (by omega), eb_rgi (by omega) (by omega) (by omega)]
        omega
      · exact Or.inr w2
    · rcases Nat.lt_or_ge s (d + l) with w2 | w2
      · refine absurd ?_ (t s (by omega))
        rw [eb_and, eb_rgi (by omega) (by omega) (by omega), eb_rgi (by omega) (by omega) (by omega)]
        omega
      · exact Or.inl w2
  by_cases ok : es_ok fl bl s d v3
  rotate_left
  · exact XB _ ok (YB _ ok ⟨rfl, same⟩)
  obtain ⟨g1, g2, dj⟩ := ok
  obtain ⟨l, rfl, l1, l2, l3, l4, l5, l6⟩ := es_get b2 b4 hs hd g1 g2
  have dj := dj l (by omega) rfl
  have hsl : s + l ≤ 64 := by omega
  have hdl : d + l ≤ 64 := by omega
  have n1 : ec_n 64 (eb (((((eb_rg s l &&& dm).toUInt64 >>> ((nI s).toInt64.toUInt64 &&& Int64.toUInt64 63)).toInt64) <<< ((nI d).toInt64 &&& 63)) &&& ((dm ||| ow) ^^^ (-1)))) = ec_n 64 (fun p => (d ≤ p ∧ p < d + l ∧ eb dm (s + (p - d))) ∧ ¬ (eb dm p ∨ ev_own V p)) :=
    ec_congr 64 (fun q hq => by rw [eb_and, es_bits hsl (by omega) (by omega) (by omega) hq, eb_not _ hq, eb_or, ex_own hO hq])
  have n2 : ec_n 64 (fun p => (d ≤ p ∧ p < d + l ∧ eb dm (s + (p - d))) ∧ ¬ (eb dm p ∨ ev_own V p)) = ec_n l (fun j => eb dm (s + j) ∧ ¬ eb dm (d + j) ∧ ¬ ev_own V (d + j)) := by
    rw [ec_win (a := d) (m := l) (by omega) (fun i hi z => ⟨z.1.1, z.1.2.1⟩)]
    refine ec_congr l (fun j hj => ?_)
    rw [Nat.add_sub_cancel_left, not_or]
    exact ⟨fun t => ⟨t.1.2.2, t.2⟩, fun t => ⟨⟨by omega, by omega, t.1⟩, t.2⟩⟩
  have n3 : ec_n l (fun j => eb dm (s + j) ∧ ¬ eb dm (d + j) ∧ ¬ ev_own W (d + j)) = ec_n l (fun j => eb dm (s + j) ∧ ¬ eb dm (d + j) ∧ ¬ ev_own V (d + j)) :=
    ec_congr l (fun j hj => by rw [ev_Ro hP.1 hP.2.1 hP.2.2.1 (by omega)])
  have nle := ec_le (fun j => eb dm (s + j) ∧ ¬ eb dm (d + j) ∧ ¬ ev_own V (d + j)) l
  have fle : ef_n cl V (eb dm) ≤ 32 := by unfold ef_n; omega
  have YG : ∀ post : Int32 → SY → Prop, (ec_n l (fun j => eb dm (s + j) ∧ ¬ eb dm (d + j) ∧ ¬ ev_own V (d + j)) ≤ ef_n cl V (eb dm) → ∀ (ck cc da dv'' : Nat → Int32) (W'' : Nat → Nat) (D'' : Nat → Prop), es_T (eb dm) s d l W W'' → es_D (eb dm) s d l D'' → es_v (eb dm) s d l dv dv'' → ey_O W'' D'' ck cc dk dc da → post 0 ((nI fl), (nI bl), (nI cl), pw, ck, cc, dk, dc, da, dv'', y)) →
      (¬ ec_n l (fun j => eb dm (s + j) ∧ ¬ eb dm (d + j) ∧ ¬ ev_own V (d + j)) ≤ ef_n cl V (eb dm) → post (-2) ((nI fl), (nI bl), (nI cl), pw, ck, cc, dk, dc, da, dv, y)) → wpY_reflink post ((nI fl), (nI bl), (nI cl), pw, ck, cc, dk, dc, da, dv, y) (nI s) (nI d) (nI l) := by
    intro post h1 h0
    have L : ∃ n66 : Nat, wY_reflink_66 post (nI s) (nI d) (nI l) (nI fl) (nI bl) (nI cl) pw ck cc dk dc da dv y n66 0 0 := by
      refine ⟨l + 1, ey_rn hOy hP.2.1 b6 hsl hdl ?_ l 0 (by omega)⟩
      refine ey_fe hOy hP.2.1 b6 (er_FW hP) ?_
      rw [n3, ← er_fnE hP]
      refine pk_le (ec_n l (fun j => eb dm (s + j) ∧ ¬ eb dm (d + j) ∧ ¬ ev_own V (d + j))) (ef_n cl V (eb dm)) (fun t => ⟨l + 1, ?_⟩) (fun t => h0 (by omega))
      exact ey_rfL (W := W) (D := eb dm) b6 hsl hdl dj (h1 t) l 0 (by omega) ck cc da dv W (eb dm) ⟨fun _ _ _ => rfl, fun j hj => by omega, fun j hj => by omega⟩ ⟨fun _ _ _ => Iff.rfl, fun j hj => by omega⟩ ⟨fun _ _ => rfl, fun j hj => by omega, fun j hj => by omega⟩ hP.2.1 hOy
    unfold wpY_reflink
    dsimp only
    rw [q1, q2, q3, q4, nI_add, nI_add]
    exact br_f z1 (br_t z2 ⟨n16, n16, ey_gd b2 b4 rfl rfl (fun _ => br_f (by decide) ⟨n16, n16, ey_gd b2 b4 rfl rfl (fun _ => br_f (by decide) (pk_le (d + l) s (fun _ => L) (fun t => pk_le (s + l) d (fun _ => L) (fun t2 => by omega)))) (fun t => absurd g2 t)⟩) (fun t => absurd g1 t)⟩)
  unfold wpX_reflink
  dsimp only
  rw [q1, q2, q3, q4]
  refine br_f z1 (br_t z2 ⟨n16, n16, ex_gd b2 b4 rfl rfl (fun _ => br_f (by decide) ⟨n16, n16, ex_gd b2 b4 rfl rfl (fun _ => br_f (by decide) (ex_rm _ (ex_rm _ (br_t ?_ (nm_e (ex_bc _ ?_)))))) (fun t => absurd g2 t)⟩) (fun t => absurd g1 t)⟩)
  · rw [eb_z]
    intro q hq t
    rw [eb_and, eb_rgi (by omega) (by omega) hq, eb_rgi (by omega) (by omega) hq] at t
    omega
  · rw [n1, n2]
    refine ex_fe hO hP.1 b6 hP.2.2.2.2.1 ?_
    refine pk_le (ec_n l (fun j => eb dm (s + j) ∧ ¬ eb dm (d + j) ∧ ¬ ev_own V (d + j))) (ef_n cl V (eb dm)) (fun t => ⟨l + 1, ?_⟩) (fun t => YG _ (fun q => by omega) (fun _ => ⟨rfl, same⟩))
    obtain ⟨u', V'', dm'', dv'', T1, D1, v1', IX', wX⟩ := ex_rfL (fl := fl) (bl := bl) (cl := cl) (V := V) (dm := dm) (pw := pw) (co := x) (dv := dv) (jr := jr) hsl hdl dj l 0 (by omega) (fc, fd, (nI fl), (nI bl), (nI cl), dm, ow, mp, df, us, pw, (el_f N), (el_f S), (el_f G), (el_f K), (el_f C), nm, x, dv, jr) V dm dv ⟨fun _ _ _ => rfl, fun j hj => by omega, fun j hj => by omega⟩ ⟨fun _ _ _ => Iff.rfl, fun j hj => by omega⟩ ⟨fun _ _ => rfl, fun j hj => by omega, fun j hj => by omega⟩ (ex_Ri hO)
    refine wX _ (YG _ (fun _ ck' cc' da' dvy W'' D'' T2 D2 v2' hO' => ⟨rfl, ?_⟩) (fun q => absurd t q))
    have ev : dvy = dv'' := es_vu v2' v1'
    subst ev
    refine ⟨fl, bl, cl, V'', W'', dm'', pw, x, y, dvy, jr, ⟨b1, b2, b3, b4, b5, b6⟩, ?_, IX', ey_Ri (ey_Oc hO' (fun _ _ => rfl) (fun q hq => es_Du D1 D2 hq))⟩
    have hP2 : er_P fl bl cl V W (eb dm) x y (ec_n 64 (fun p => (d ≤ p ∧ p < d + l ∧ eb dm (s + (p - d))) ∧ ¬ (eb dm p ∨ ev_own V p))) := by
      obtain ⟨g1, g2, g3, g4, g5, g6⟩ := hP
      exact ⟨g1, g2, g3, g4, ef_F g5 (by rw [n2]; exact t), g6⟩
    have kk := hP.2.2.1.1
    refine er_refl hP2 hsl hdl dj (fun j hj => by omega) (fun i hi hn => ⟨T1.1 i hi hn, T2.1 i hi hn⟩) (fun j hj hD => ⟨T1.2.1 j hj hD, T2.2.1 j hj hD⟩) (fun j hj hD => ?_) (fun q hq hn hD => (D1.1 q hq hn).mp hD) (fun j hj hD => (D1.2 j hj).mp hD)
    have e := kk (s + j) (by omega)
    rcases T1.2.2 j hj hD with a | a
    · rcases T2.2.2 j hj hD with c | c
      · exact Or.inl ⟨a.1, a.2, c.2⟩
      · omega
    · rcases T2.2.2 j hj hD with c | c
      · omega
      · exact Or.inr ⟨a.1, a.2, c.2⟩
end
section
/-! allocate -/
theorem ey_Oset {W : Nat → Nat} {D : Nat → Prop} {ck cc dk dc da : Nat → Int32} (hO : ey_O W D ck cc dk dc da) {q d k : Nat} (hq : q < 64) (hk : k < 4) : ey_O (eu W q (4 * d + k)) D (upd ck q (nI k)) (upd cc q (nI d)) dk dc da := by
  intro p hp
  have a := hO p hp
  rw [eu_n (show 64 + p ≠ q by omega)]
  by_cases e : p = q
  · subst e
    rw [eu_s, pk_us, pk_us, show (4 * d + k) % 4 = k by omega, show (4 * d + k) / 4 = d by omega]
    exact ⟨⟨rfl, fun _ => rfl⟩, a.2⟩
  · rw [eu_n e, pk_un e, pk_un e]; exact a
theorem ey_Ocl {W : Nat → Nat} {D : Nat → Prop} {ck cc dk dc da : Nat → Int32} (hO : ey_O W D ck cc dk dc da) (q : Nat) : ey_O W (fun p => D p ∧ p ≠ q) ck cc dk dc (upd da q 0) := by
  intro p hp
  have a := hO p hp
  refine ⟨a.1, a.2.1, ?_⟩
  by_cases e : p = q
  · subst e; rw [pk_us]; exact Or.inr ⟨fun t => t.2 rfl, rfl⟩
  · rw [pk_un e]
    rcases a.2.2 with t | t
    · exact Or.inl ⟨⟨t.1, e⟩, t.2⟩
    · exact Or.inr ⟨fun w => t.1 w.1, t.2⟩
theorem ex_Rfc {fl bl cl : Nat} {V : Nat → Nat} {dm : Int64} {pw : Int32} {co dv jr : Nat → Int32} {u : SX} (I : ex_R fl bl cl V dm pw co dv jr u) (hc : cl ≤ 32) {p : Nat} (hp : p < 64) (hx : ∃ c, c < cl ∧ ¬ ev_us V c) :
    ∃ c, c < cl ∧ ¬ ev_us V c ∧ ∀ post : Int32 → Prop, post (nI c) → wpX_freshCell post u (nI p) :=
  ex_el (P := fun u => ∃ c, c < cl ∧ ¬ ev_us V c ∧ ∀ post : Int32 → Prop, post (nI c) → wpX_freshCell post u (nI p)) (fun _ _ _ _ _ _ _ _ _ _ _ _ hO => ex_fc hO hc hp hx) I
/-- what is still to count from i on -/
noncomputable def ea_r (P : Nat → Prop) (l i : Nat) : Nat := ec_n (l - i) (fun j => P (i + j))
theorem ea_r0 (P : Nat → Prop) (l : Nat) : ea_r P l 0 = ec_n l P := by
  unfold ea_r
  rw [Nat.sub_zero]
  exact ec_congr l (fun j _ => by rw [Nat.zero_add])
theorem ea_rs (P : Nat → Prop) {l i : Nat} (h : i < l) : ea_r P l i = ec_b (P i) + ea_r P l (i + 1) := by
  unfold ea_r
  rw [show l - i = 1 + (l - (i + 1)) by omega, ec_split, ec_s, ec_0, Nat.zero_add, Nat.add_zero]
  congr 1
  exact ec_congr _ (fun j _ => by rw [show i + (1 + j) = i + 1 + j by omega])
theorem er_alL {fl bl cl : Nat} {dm : Int64} {pw : Int32} {x y dv jr : Nat → Int32} {hm : Int64} {V0 : Nat → Nat} {p l : Nat} (hp : p + l ≤ 64) (hb : ∀ j, j < l → (p + j) / 16 < fl ∧ (p + j) % 16 < bl) (hh : ∀ j, j < l → (eb hm (p + j) ↔ V0 (p + j) = 0)) :
    ∀ n i, i + n = l → ∀ (V W : Nat → Nat) (u : SX) (v : SY), (∀ j, i ≤ j → j < l → V (p + j) = V0 (p + j)) → er_T fl bl cl V W dm pw x y dv jr (ea_r (fun j => V0 (p + j) = 0 ∧ ¬ eb dm (p + j)) l i) u v →
      ∃ (u' : SX) (v' : SY), er_S u' v' ∧ (∀ post : Int32 → SX → Prop, post (nI (ec_n 64 (eb hm))) u' → wX_allocate_66 post (nI l) (nI p) hm (n + 1) (nI i) u.1 u.2.1 u.2.2.1 u.2.2.2.1 u.2.2.2.2.1 u.2.2.2.2.2.1 u.2.2.2.2.2.2.1 u.2.2.2.2.2.2.2.1 u.2.2.2.2.2.2.2.2.1 u.2.2.2.2.2.2.2.2.2.1 u.2.2.2.2.2.2.2.2.2.2.1 u.2.2.2.2.2.2.2.2.2.2.2.1 u.2.2.2.2.2.2.2.2.2.2.2.2.1 u.2.2.2.2.2.2.2.2.2.2.2.2.2.1 u.2.2.2.2.2.2.2.2.2.2.2.2.2.2.1 u.2.2.2.2.2.2.2.2.2.2.2.2.2.2.2.1 u.2.2.2.2.2.2.2.2.2.2.2.2.2.2.2.2.1 u.2.2.2.2.2.2.2.2.2.2.2.2.2.2.2.2.2.1 u.2.2.2.2.2.2.2.2.2.2.2.2.2.2.2.2.2.2.1 u.2.2.2.2.2.2.2.2.2.2.2.2.2.2.2.2.2.2.2) ∧
        (∀ post : Int32 → SY → Prop, post (nI (ec_n l (fun j => V0 (p + j) = 0))) v' → wY_allocate_85 post (nI l) (nI p) v.1 v.2.1 v.2.2.1 v.2.2.2.1 (n + 1) (nI (ec_n i (fun j => V0 (p + j) = 0))) (nI i) v.2.2.2.2.1 v.2.2.2.2.2.1 v.2.2.2.2.2.2.1 v.2.2.2.2.2.2.2.1 v.2.2.2.2.2.2.2.2.1 v.2.2.2.2.2.2.2.2.2.1 v.2.2.2.2.2.2.2.2.2.2) := by
  intro n
  induction n with
  | zero =>
    intro i hi V W u v hV T
    have hi : i = l := by omega
    subst hi
    obtain ⟨hB, hP, IX, IY⟩ := T
    refine ⟨u, v, ⟨fl, bl, cl, V, W, dm, pw, x, y, dv, jr, hB, ?_, IX, IY⟩, fun post h => ?_, fun post h => ?_⟩
    · obtain ⟨g1, g2, g3, g4, g5, g6⟩ := hP
      exact ⟨g1, g2, g3, g4, ev_Fs g5 (Nat.zero_le _), g6⟩
    · unfold wX_allocate_66
      exact br_t (nI_le (by omega) (by omega)) (ex_bc _ h)
    · unfold wY_allocate_85
      exact br_t (nI_le (by omega) (by omega)) h
  | succ n ih =>
    intro i hi V W u v hV T
    have hB := T.1
    obtain ⟨b1, b2, b3, b4, b5, b6⟩ := hB
    obtain ⟨hB, hP, IX, IY⟩ := T
    have il : ¬ nI l ≤ nI i := nI_ge (by omega) (by omega)
    have ip : vp_in (nI (p + i)) 64 := vp_in_nI (by omega) (by omega)
    have e0 := hV i (Nat.le_refl _) (by omega)
    have hbi := hb i (by omega)
    have hhi := hh i (by omega)
    have rs := ea_rs (fun j => V0 (p + j) = 0 ∧ ¬ eb dm (p + j)) (show i < l by omega)
    have zz := ev_Rz hP.1 hP.2.1 hP.2.2.1 (show p + i < 128 by omega)
    by_cases z : V0 (p + i) = 0
    · have no : ¬ ev_own V (p + i) := fun t => t.1 (e0.trans z)
      have hm' : (eb dm (p + i) ∧ ea_r (fun j => V0 (p + j) = 0 ∧ ¬ eb dm (p + j)) l (i + 1) ≤ ea_r (fun j => V0 (p + j) = 0 ∧ ¬ eb dm (p + j)) l i) ∨ (¬ eb dm (p + i) ∧ ea_r (fun j => V0 (p + j) = 0 ∧ ¬ eb dm (p + j)) l (i + 1) + 1 ≤ ea_r (fun j => V0 (p + j) = 0 ∧ ¬ eb dm (p + j)) l i) := by
        by_cases t : eb dm (p + i)
        · exact Or.inl ⟨t, by omega⟩
        · rw [ec_b1 ⟨z, t⟩] at rs
          exact Or.inr ⟨t, by omega⟩
      have fr := er_fr hP (p := p + i) (by omega) (by
        rcases hm' with t | t
        · exact Or.inl ⟨t.1, no⟩
        · exact Or.inr (by omega))
      obtain ⟨c, hc, nc, wc⟩ := ex_Rfc IX b6 (p := p + i) (by omega) fr.1
      obtain ⟨u1, I1, w1⟩ := ex_Ras IX (m := 0) (p := p + i) (e := 4 * c + 1) (by omega) (by omega) (Or.inr ⟨by omega, by omega⟩)
      rw [show 64 * 0 + (p + i) = p + i by omega] at I1
      have YY : ∃ d v1, d < cl ∧ ¬ ev_us W d ∧ ey_R fl bl cl (eu W (p + i) (4 * d + 1)) (eb dm) pw y dv v1 ∧ ∀ post : Int32 → SY → Prop, (∀ k : Nat, wY_allocate_85 post (nI l) (nI p) v1.1 v1.2.1 v1.2.2.1 v1.2.2.2.1 (n + 1) (nI (k + 1)) (nI (i + 1)) v1.2.2.2.2.1 v1.2.2.2.2.2.1 v1.2.2.2.2.2.2.1 v1.2.2.2.2.2.2.2.1 v1.2.2.2.2.2.2.2.2.1 v1.2.2.2.2.2.2.2.2.2.1 v1.2.2.2.2.2.2.2.2.2.2 →
          wY_allocate_85 post (nI l) (nI p) v.1 v.2.1 v.2.2.1 v.2.2.2.1 (n + 1 + 1) (nI k) (nI i) v.2.2.2.2.1 v.2.2.2.2.2.1 v.2.2.2.2.2.2.1 v.2.2.2.2.2.2.2.1 v.2.2.2.2.2.2.2.2.1 v.2.2.2.2.2.2.2.2.2.1 v.2.2.2.2.2.2.2.2.2.2) := by
        refine ey_el (P := fun v => ∃ d v1, d < cl ∧ ¬ ev_us W d ∧ ey_R fl bl cl (eu W (p + i) (4 * d + 1)) (eb dm) pw y dv v1 ∧ ∀ post : Int32 → SY → Prop, (∀ k : Nat, wY_allocate_85 post (nI l) (nI p) v1.1 v1.2.1 v1.2.2.1 v1.2.2.2.1 (n + 1) (nI (k + 1)) (nI (i + 1)) v1.2.2.2.2.1 v1.2.2.2.2.2.1 v1.2.2.2.2.2.2.1 v1.2.2.2.2.2.2.2.1 v1.2.2.2.2.2.2.2.2.1 v1.2.2.2.2.2.2.2.2.2.1 v1.2.2.2.2.2.2.2.2.2.2 →
          wY_allocate_85 post (nI l) (nI p) v.1 v.2.1 v.2.2.1 v.2.2.2.1 (n + 1 + 1) (nI k) (nI i) v.2.2.2.2.1 v.2.2.2.2.2.1 v.2.2.2.2.2.2.1 v.2.2.2.2.2.2.2.1 v.2.2.2.2.2.2.2.2.1 v.2.2.2.2.2.2.2.2.2.1 v.2.2.2.2.2.2.2.2.2.2)) ?_ IY
        intro ck cc dk dc da hO
        obtain ⟨d, hd, nd, wd⟩ := ey_fc (gf := nI fl) (gb := nI bl) (pw := pw) (dv := dv) (co := y) hO hP.2.1 b6 fr.2
        have hk := ey_ck hO hP.2.1 (p := p + i) (by omega)
        refine ⟨d, _, hd, nd, ey_Ri (ey_Oset hO (q := p + i) (d := d) (k := 1) (by omega) (by omega)), fun post k h => ?_⟩
        unfold wY_allocate_85
        rw [nI_add, nI_clamp (show p + i < 2 ^ 31 by omega)]
        refine br_f il ⟨ip, br_t (hk.1.mpr (Classical.not_not.mp (fun t => zz.mpr t (e0.trans z)))) (wd _ ⟨ip, nm_e ⟨ip, nm_e (nm_r (nI_1 k) (nm_r (nI_1 i) h))⟩⟩)⟩
      obtain ⟨d, v1, hd, nd, J1, wY⟩ := YY
      have up := (er_up (x' := x) (y' := y) (D' := eb dm) (k := 1) hP (fun _ _ => rfl) (fun _ _ => rfl) (fun t => absurd t (by omega)) (show p + i < 64 by omega) hbi.1 hbi.2 hc hd nc nd (Or.inl rfl) no (fun _ _ t => t) hm').1
      obtain ⟨u', v', S', hX, hY⟩ := ih (i + 1) (by omega) _ _ u1 v1 (fun j hj hj2 => by rw [eu_n (by omega)]; exact hV j (by omega) hj2) ⟨hB, up, I1, J1⟩
      refine ⟨u', v', S', fun post h => ?_, fun post h => ?_⟩
      · unfold wX_allocate_66
        rw [nI_add]
        refine br_f il (ex_hb _ (by omega) (fun _ => br_f (by decide) (wc _ ?_)) (fun t => absurd (hhi.mpr z) t))
        have e : nI c <<< ((2 : Int32) &&& 31) ||| 1 = nI (4 * c + 1) := el_pack c (by omega) 1 (by omega)
        rw [e]
        exact w1 _ (nm_r (nI_1 i) (hX post h))
      · have h2 := hY post h
        rw [ec_st (P := fun j => V0 (p + j) = 0) z] at h2
        exact wY post _ h2
    · have rs2 : ea_r (fun j => V0 (p + j) = 0 ∧ ¬ eb dm (p + j)) l i = ea_r (fun j => V0 (p + j) = 0 ∧ ¬ eb dm (p + j)) l (i + 1) := by
        rw [ec_b0 (fun t => z t.1)] at rs; omega
      rw [rs2] at hP
      obtain ⟨u', v', S', hX, hY⟩ := ih (i + 1) (by omega) V W u v (fun j hj hj2 => hV j (by omega) hj2) ⟨hB, hP, IX, IY⟩
      refine ⟨u', v', S', fun post h => ?_, fun post h => ?_⟩
      · unfold wX_allocate_66
        rw [nI_add]
        exact br_f il (ex_hb _ (by omega) (fun t => absurd (hhi.mp t) z) (fun _ => br_t rfl (nm_r (nI_1 i) (hX post h))))
      · have h2 := hY post h
        rw [ec_sf (P := fun j => V0 (p + j) = 0) z] at h2
        revert h2
        refine ey_el (P := fun v => wY_allocate_85 post (nI l) (nI p) v.1 v.2.1 v.2.2.1 v.2.2.2.1 (n + 1) (nI (ec_n i (fun j => V0 (p + j) = 0))) (nI (i + 1)) v.2.2.2.2.1 v.2.2.2.2.2.1 v.2.2.2.2.2.2.1 v.2.2.2.2.2.2.2.1 v.2.2.2.2.2.2.2.2.1 v.2.2.2.2.2.2.2.2.2.1 v.2.2.2.2.2.2.2.2.2.2 → wY_allocate_85 post (nI l) (nI p) v.1 v.2.1 v.2.2.1 v.2.2.2.1 (n + 1 + 1) (nI (ec_n i (fun j => V0 (p + j) = 0))) (nI i) v.2.2.2.2.1 v.2.2.2.2.2.1 v.2.2.2.2.2.2.1 v.2.2.2.2.2.2.2.1 v.2.2.2.2.2.2.2.2.1 v.2.2.2.2.2.2.2.2.2.1 v.2.2.2.2.2.2.2.2.2.2) ?_ IY
        intro ck cc dk dc da hO h2
        have hk := ey_ck hO hP.2.1 (p := p + i) (by omega)
        unfold wY_allocate_85
        rw [nI_add, nI_clamp (show p + i < 2 ^ 31 by omega)]
        exact br_f il ⟨ip, br_f (fun t => z (e0.symm.trans (Classical.not_not.mp (fun s => (zz.mp s) (hk.1.mp t))))) (nm_r (nI_1 i) h2)⟩
section
variable {gf gb gc pw : Int32} {ck cc dk dc da dv co : Nat → Int32} {cl : Nat} {W : Nat → Nat} {D : Nat → Prop}
theorem ey_an {post : Int32 → SY → Prop} {p l : Nat} (hO : ey_O W D ck cc dk dc da) (hv : ev_v cl W) (hl : p + l ≤ 64)
    (h : wpY_free (fun r_16 => (((nI (ec_n l (fun j => W (p + j) = 0 ∧ ¬ D (p + j))) ≤ r_16 → (∃ n85 : Nat, wY_allocate_85 post (nI l) (nI p) gf gb gc pw n85 0 0 ck cc dk dc da dv co)) ∧ (¬ nI (ec_n l (fun j => W (p + j) = 0 ∧ ¬ D (p + j))) ≤ r_16 → (post (-2) (gf, gb, gc, pw, ck, cc, dk, dc, da, dv, co)))))) (gf, gb, gc, pw, ck, cc, dk, dc, da, dv, co)) :
    ∀ n i, i + n = l → wY_allocate_26 post (nI l) (nI p) gf gb gc pw ck cc dk dc da dv co (n + 1) (nI (ec_n i (fun j => W (p + j) = 0 ∧ ¬ D (p + j)))) (nI i) := by
  intro n
  induction n with
  | zero =>
    intro i hi
    have hi : i = l := by omega
    subst hi
    unfold wY_allocate_26
    exact br_t (nI_le (by omega) (by omega)) h
  | succ n ih =>
    intro i hi
    have k := ih (i + 1) (by omega)
    have hda := ey_da hO (p := p + i) (by omega)
    have hk := ey_ck hO hv (p := p + i) (by omega)
    have ip : vp_in (nI (p + i)) 64 := vp_in_nI (by omega) (by omega)
    unfold wY_allocate_26
    rw [nI_add, nI_clamp (show p + i < 2 ^ 31 by omega)]
    refine br_f (nI_ge (by omega) (by omega)) ⟨ip, br_c (fun t => ⟨ip, br_c (fun w => ?_) (fun w => ?_)⟩) (fun t => ?_)⟩
    · rw [ec_st (P := fun j => W (p + j) = 0 ∧ ¬ D (p + j)) ⟨hk.1.mp w, hda.mp t⟩] at k
      exact nm_r (nI_1 _) (nm_r (nI_1 i) k)
    · rw [ec_sf (P := fun j => W (p + j) = 0 ∧ ¬ D (p + j)) (fun s => w (hk.1.mpr s.1))] at k
      exact nm_r (nI_1 i) k
    · rw [ec_sf (P := fun j => W (p + j) = 0 ∧ ¬ D (p + j)) (fun s => t (hda.mpr s.2))] at k
      exact nm_r (nI_1 i) k
end
theorem i_vc_allocate {k : Nat} {u : SX} {v : SY} (I : i_Rel k u v) (hk : k + 5 ≤ 2563) (v1 : Int32) (v2 : Int32) (v3 : Int32) : wpX_allocate (fun r u' => wpY_allocate (fun r' v' => r' = r ∧ i_Rel (k + 5) u' v') v v1 v2 v3) u v1 v2 v3 := by
  obtain ⟨fl, bl, cl, V, W, dm, pw, x, y, dv, jr, hB, hP, IX, IY⟩ := I
  obtain ⟨b1, b2, b3, b4, b5, b6⟩ := hB
  refine ex_el (P := fun u => wpX_allocate (fun r u' => wpY_allocate (fun r' v' => r' = r ∧ i_Rel (k + 5) u' v') v v1 v2 v3) u v1 v2 v3) ?_ IX
  intro fc fd ow mp df us N S G K C nm hO
  refine ey_el (P := fun v => wpX_allocate (fun r u' => wpY_allocate (fun r' v' => r' = r ∧ i_Rel (k + 5) u' v') v v1 v2 v3) (fc, fd, (nI fl), (nI bl), (nI cl), dm, ow, mp, df, us, pw, (el_f N), (el_f S), (el_f G), (el_f K), (el_f C), nm, x, dv, jr) v1 v2 v3) ?_ IY
  intro ck cc dk dc da hOy
  have same : i_Rel (k + 5) (fc, fd, (nI fl), (nI bl), (nI cl), dm, ow, mp, df, us, pw, (el_f N), (el_f S), (el_f G), (el_f K), (el_f C), nm, x, dv, jr) ((nI fl), (nI bl), (nI cl), pw, ck, cc, dk, dc, da, dv, y) := ⟨fl, bl, cl, V, W, dm, pw, x, y, dv, jr, ⟨b1, b2, b3, b4, b5, b6⟩, hP, ex_Ri hO, ey_Ri hOy⟩
  unfold wpX_allocate
  refine ex_gd b2 b4 rfl rfl (fun gd => br_f (by decide) ?_) (fun no => br_t rfl ?_)
  · have gd' := gd
    obtain ⟨f, b, l, hf, hb, hl1, hl2, rfl, rfl, rfl⟩ := gd
    have e1 : nI f * 16 + nI b = nI (16 * f + b) := by rw [show (16 : Int32) = nI 16 from rfl, pk_mul, nI_add, Nat.mul_comm]
    have e2 : (16 : Int32) * nI f + nI b = nI (16 * f + b) := by rw [show (16 : Int32) = nI 16 from rfl, pk_mul, nI_add]
    have hp : 16 * f + b + l ≤ 64 := by omega
    have hbl : ∀ j, j < l → (16 * f + b + j) / 16 < fl ∧ (16 * f + b + j) % 16 < bl := fun j hj => by omega
    generalize 16 * f + b = p at *
    refine nm_r e1 (ex_rm _ ?_)
    obtain ⟨hm, hhm⟩ : ∃ hm, hm = eb_rg p l &&& (mp ^^^ (-1)) := ⟨_, rfl⟩
    have hb1 : ∀ q, q < 64 → (eb hm q ↔ (p ≤ q ∧ q < p + l) ∧ V q = 0) := fun q hq => by
      rw [hhm, eb_and, eb_rgi (by omega) (by omega) hq, eb_not _ hq, hO.2.2.1 q hq]
      exact ⟨fun t => ⟨t.1, Classical.not_not.mp t.2⟩, fun t => ⟨t.1, fun s => s t.2⟩⟩
    have hh : ∀ j, j < l → (eb hm (p + j) ↔ V (p + j) = 0) := fun j hj => by
      rw [hb1 (p + j) (by omega)]
      exact ⟨fun t => t.2, fun t => ⟨by omega, t⟩⟩
    have n1 : ec_n 64 (eb (hm &&& (dm ^^^ (-1)))) = ec_n l (fun j => V (p + j) = 0 ∧ ¬ eb dm (p + j)) := by
      have a : ec_n 64 (eb (hm &&& (dm ^^^ (-1)))) = ec_n 64 (fun q => ((p ≤ q ∧ q < p + l) ∧ V q = 0) ∧ ¬ eb dm q) := ec_congr 64 (fun q hq => by rw [eb_and, eb_not _ hq, hb1 q hq])
      rw [a, ec_win (a := p) (m := l) (by omega) (fun i hi z => z.1.1)]
      exact ec_congr l (fun j hj => ⟨fun t => ⟨t.1.2, t.2⟩, fun t => ⟨⟨by omega, t.1⟩, t.2⟩⟩)
    have n2 : ec_n 64 (eb hm) = ec_n l (fun j => V (p + j) = 0) := by
      have a : ec_n 64 (eb hm) = ec_n 64 (fun q => (p ≤ q ∧ q < p + l) ∧ V q = 0) := ec_congr 64 hb1
      rw [a, ec_win (a := p) (m := l) (by omega) (fun i hi z => z.1)]
      exact ec_congr l (fun j hj => ⟨fun t => t.2, fun t => ⟨by omega, t⟩⟩)
    have n3 : ec_n l (fun j => W (p + j) = 0 ∧ ¬ eb dm (p + j)) = ec_n l (fun j => V (p + j) = 0 ∧ ¬ eb dm (p + j)) :=
      ec_congr l (fun j hj => by
        have zz := ev_Rz hP.1 hP.2.1 hP.2.2.1 (show p + j < 128 by omega)
        have : W (p + j) = 0 ↔ V (p + j) = 0 := by omega
        rw [this])
    have nle := ec_le (fun j => V (p + j) = 0 ∧ ¬ eb dm (p + j)) l
    have fle : ef_n cl V (eb dm) ≤ 32 := by unfold ef_n; omega
    have YG : ∀ post : Int32 → SY → Prop, (ec_n l (fun j => V (p + j) = 0 ∧ ¬ eb dm (p + j)) ≤ ef_n cl V (eb dm) → ∃ n85, wY_allocate_85 post (nI l) (nI p) (nI fl) (nI bl) (nI cl) pw n85 0 0 ck cc dk dc da dv y) →
        (¬ ec_n l (fun j => V (p + j) = 0 ∧ ¬ eb dm (p + j)) ≤ ef_n cl V (eb dm) → post (-2) ((nI fl), (nI bl), (nI cl), pw, ck, cc, dk, dc, da, dv, y)) → wpY_allocate post ((nI fl), (nI bl), (nI cl), pw, ck, cc, dk, dc, da, dv, y) (nI f) (nI b) (nI l) := by
      intro post h1 h0
      unfold wpY_allocate
      refine ey_gd b2 b4 rfl rfl (fun _ => br_f (by decide) (nm_r e2 ⟨l + 1, ?_⟩)) (fun no => absurd gd' no)
      refine ey_an hOy hP.2.1 hp ?_ l 0 (by omega)
      refine ey_fe hOy hP.2.1 b6 (er_FW hP) ?_
      rw [n3, ← er_fnE hP]
      exact pk_le (ec_n l (fun j => V (p + j) = 0 ∧ ¬ eb dm (p + j))) (ef_n cl V (eb dm)) (fun t => h1 t) (fun t => h0 (by omega))
    refine nm_r hhm.symm (ex_bc _ ?_)
    rw [n1]
    refine ex_fe hO hP.1 b6 hP.2.2.2.2.1 ?_
    refine pk_le (ec_n l (fun j => V (p + j) = 0 ∧ ¬ eb dm (p + j))) (ef_n cl V (eb dm)) (fun t => ⟨l + 1, ?_⟩) (fun t => YG _ (fun s => by omega) (fun _ => ⟨rfl, same⟩))
    have hP2 : er_P fl bl cl V W (eb dm) x y (ea_r (fun j => V (p + j) = 0 ∧ ¬ eb dm (p + j)) l 0) := by
      obtain ⟨g1, g2, g3, g4, g5, g6⟩ := hP
      exact ⟨g1, g2, g3, g4, ef_F g5 (by rw [ea_r0]; exact t), g6⟩
    obtain ⟨u', v', S', hX, hY⟩ := er_alL (hm := hm) (V0 := V) hp hbl hh l 0 (by omega) V W (fc, fd, (nI fl), (nI bl), (nI cl), dm, ow, mp, df, us, pw, (el_f N), (el_f S), (el_f G), (el_f K), (el_f C), nm, x, dv, jr) ((nI fl), (nI bl), (nI cl), pw, ck, cc, dk, dc, da, dv, y) (fun _ _ _ => rfl) ⟨⟨b1, b2, b3, b4, b5, b6⟩, hP2, ex_Ri hO, ey_Ri hOy⟩
    refine hX _ (YG _ (fun _ => ⟨l + 1, hY _ ⟨?_, S'⟩⟩) (fun s => absurd t s))
    rw [n2]
  · unfold wpY_allocate
    exact ey_gd b2 b4 rfl rfl (fun gd => absurd gd no) (fun _ => br_t rfl ⟨rfl, same⟩)
end
section
/-! flush, commit, sync: in lockstep -/
def er_U (fl bl cl : Nat) (u : SX) (v : SY) : Prop := ∃ (V W : Nat → Nat) (dm : Int64) (pw : Int32) (x y dv jr : Nat → Int32), er_T fl bl cl V W dm pw x y dv jr 0 u v
/-- the reference's flush behind its disk write -/
def ey_FE (post : Int32 → SY → Prop) (x1 x2 : Int32) (n : Nat) (x3 x4 : Int32) (p : Nat) (v : SY) : Prop := match v with
  | (gf, gb, gc, pw, ck, cc, dk, dc, da, dv, co) => wpY_own (fun r_23 => (((r_23 = 0 → (wpY_fresh (fun r_46 => (vp_in (nI p) 64 ∧ ∀ cc2 : Nat → Int32, cc2 = upd cc p r_46 → (wY_flush_86 post (wY_flush_23 post x1 x2 n) x1 x2 x3 x4 (nI p) gf gb gc pw ck cc2 dk dc da dv co))) (gf, gb, gc, pw, ck, cc, dk, dc, da, dv, co))) ∧ (¬ r_23 = 0 → (wY_flush_86 post (wY_flush_23 post x1 x2 n) x1 x2 x3 x4 (nI p) gf gb gc pw ck cc dk dc da dv co))))) (gf, gb, gc, pw, ck, cc, dk, dc, da, dv, co) (nI p)
section
variable {fl bl cl : Nat} {W : Nat → Nat} {D : Nat → Prop} {pw : Int32} {y dv : Nat → Int32} {v : SY}
theorem ey_f86 {ck cc dk dc da : Nat → Int32} (hO : ey_O W D ck cc dk dc da) {p d : Nat} (hp : p < 64) (hd : d < 32) (hcc : cc p = nI d) :
    ∃ v', ey_R fl bl cl (eu W p (4 * d + 2)) (fun q => D q ∧ q ≠ p) pw (upd y d (dv p)) dv v' ∧ ∀ (post : Int32 → SY → Prop) (x1 x2 : Int32) (n m b : Nat), wY_flush_23 post x1 x2 n (nI (m + 1)) (nI (b + 1)) v'.1 v'.2.1 v'.2.2.1 v'.2.2.2.1 v'.2.2.2.2.1 v'.2.2.2.2.2.1 v'.2.2.2.2.2.2.1 v'.2.2.2.2.2.2.2.1 v'.2.2.2.2.2.2.2.2.1 v'.2.2.2.2.2.2.2.2.2.1 v'.2.2.2.2.2.2.2.2.2.2 → wY_flush_86 post (wY_flush_23 post x1 x2 n) x1 x2 (nI m) (nI b) (nI p) (nI fl) (nI bl) (nI cl) pw ck cc dk dc da dv y := by
  have ec : upd cc p (nI d) = cc := by
    funext q
    by_cases e : q = p
    · subst e; rw [pk_us, hcc]
    · rw [pk_un e]
  have O1 := ey_Ocl (ey_Oset hO (q := p) (d := d) (k := 2) hp (by omega)) p
  rw [ec] at O1
  refine ⟨_, ey_Ri O1, fun post x1 x2 n m b h => ?_⟩
  have ip : vp_in (nI p) 64 := vp_in_nI hp (by omega)
  unfold wY_flush_86
  rw [nI_clamp (show p < 2 ^ 31 by omega), hcc, nI_clamp (show d < 2 ^ 31 by omega), ey_nar0]
  exact ⟨ip, nm_e ⟨ip, ip, vp_in_nI hd (by omega), nm_e ⟨ip, nm_e (nm_r (nI_1 m) (nm_r (nI_1 b) h))⟩⟩⟩
theorem ey_fs1 (I : ey_R fl bl cl W D pw y dv v) (hv : ev_v cl W) (hcl : cl ≤ 32) {p : Nat} (hp : p < 64) (ho : ev_own W p) :
    ∃ v', ey_R fl bl cl (eu W p (4 * (W p / 4) + 2)) (fun q => D q ∧ q ≠ p) pw (upd y (W p / 4) (dv p)) dv v' ∧ ∀ (post : Int32 → SY → Prop) (x1 x2 : Int32) (n m b : Nat), wY_flush_23 post x1 x2 n (nI (m + 1)) (nI (b + 1)) v'.1 v'.2.1 v'.2.2.1 v'.2.2.2.1 v'.2.2.2.2.1 v'.2.2.2.2.2.1 v'.2.2.2.2.2.2.1 v'.2.2.2.2.2.2.2.1 v'.2.2.2.2.2.2.2.2.1 v'.2.2.2.2.2.2.2.2.2.1 v'.2.2.2.2.2.2.2.2.2.2 → ey_FE post x1 x2 n (nI m) (nI b) p v := by
  refine ey_el (P := fun v => ∃ v', ey_R fl bl cl (eu W p (4 * (W p / 4) + 2)) (fun q => D q ∧ q ≠ p) pw (upd y (W p / 4) (dv p)) dv v' ∧ ∀ (post : Int32 → SY → Prop) (x1 x2 : Int32) (n m b : Nat), wY_flush_23 post x1 x2 n (nI (m + 1)) (nI (b + 1)) v'.1 v'.2.1 v'.2.2.1 v'.2.2.2.1 v'.2.2.2.2.1 v'.2.2.2.2.2.1 v'.2.2.2.2.2.2.1 v'.2.2.2.2.2.2.2.1 v'.2.2.2.2.2.2.2.2.1 v'.2.2.2.2.2.2.2.2.2.1 v'.2.2.2.2.2.2.2.2.2.2 → ey_FE post x1 x2 n (nI m) (nI b) p v) ?_ I
  intro ck cc dk dc da hO
  have vv := (hv p (by omega)).resolve_left ho.1
  obtain ⟨v', I', w⟩ := ey_f86 (fl := fl) (bl := bl) (cl := cl) (pw := pw) (y := y) (dv := dv) hO hp (show W p / 4 < 32 by omega) ((hO p hp).1.2 ho.1)
  refine ⟨v', I', fun post x1 x2 n m b h => ?_⟩
  unfold ey_FE
  exact ey_ow hO hv hcl hp (fun _ => br_f (by decide) (w post x1 x2 n m b h)) (fun t => absurd ho t)
theorem ey_fs0 (I : ey_R fl bl cl W D pw y dv v) (hv : ev_v cl W) (hcl : cl ≤ 32) {p : Nat} (hp : p < 64) (ho : ¬ ev_own W p) (hx : ∃ c, c < cl ∧ ¬ ev_us W c) :
    ∃ d v', d < cl ∧ ¬ ev_us W d ∧ ey_R fl bl cl (eu W p (4 * d + 2)) (fun q => D q ∧ q ≠ p) pw (upd y d (dv p)) dv v' ∧ ∀ (post : Int32 → SY → Prop) (x1 x2 : Int32) (n m b : Nat), wY_flush_23 post x1 x2 n (nI (m + 1)) (nI (b + 1)) v'.1 v'.2.1 v'.2.2.1 v'.2.2.2.1 v'.2.2.2.2.1 v'.2.2.2.2.2.1 v'.2.2.2.2.2.2.1 v'.2.2.2.2.2.2.2.1 v'.2.2.2.2.2.2.2.2.1 v'.2.2.2.2.2.2.2.2.2.1 v'.2.2.2.2.2.2.2.2.2.2 → ey_FE post x1 x2 n (nI m) (nI b) p v := by
  refine ey_el (P := fun v => ∃ d v', d < cl ∧ ¬ ev_us W d ∧ ey_R fl bl cl (eu W p (4 * d + 2)) (fun q => D q ∧ q ≠ p) pw (upd y d (dv p)) dv v' ∧ ∀ (post : Int32 → SY → Prop) (x1 x2 : Int32) (n m b : Nat), wY_flush_23 post x1 x2 n (nI (m + 1)) (nI (b + 1)) v'.1 v'.2.1 v'.2.2.1 v'.2.2.2.1 v'.2.2.2.2.1 v'.2.2.2.2.2.1 v'.2.2.2.2.2.2.1 v'.2.2.2.2.2.2.2.1 v'.2.2.2.2.2.2.2.2.1 v'.2.2.2.2.2.2.2.2.2.1 v'.2.2.2.2.2.2.2.2.2.2 → ey_FE post x1 x2 n (nI m) (nI b) p v) ?_ I
  intro ck cc dk dc da hO
  obtain ⟨d, hd, nd, wd⟩ := ey_fc (gf := nI fl) (gb := nI bl) (pw := pw) (dv := dv) (co := y) hO hv hcl hx
  have O1 := ey_Ocl (ey_Oset hO (q := p) (d := d) (k := 2) hp (by omega)) p
  refine ⟨d, _, hd, nd, ey_Ri O1, fun post x1 x2 n m b h => ?_⟩
  have ip : vp_in (nI p) 64 := vp_in_nI hp (by omega)
  unfold ey_FE
  refine ey_ow hO hv hcl hp (fun t => absurd t ho) (fun _ => br_t rfl (wd _ ⟨ip, nm_e ?_⟩))
  unfold wY_flush_86
  rw [nI_clamp (show p < 2 ^ 31 by omega), pk_us, nI_clamp (show d < 2 ^ 31 by omega), ey_nar0]
  exact ⟨ip, nm_e ⟨ip, ip, vp_in_nI (by omega) (by omega), nm_e ⟨ip, nm_e (nm_r (nI_1 m) (nm_r (nI_1 b) h))⟩⟩⟩
end
/-- one place is written out on both sides -/
theorem er_fstep {fl bl cl : Nat} {V W : Nat → Nat} {dm : Int64} {pw : Int32} {x y dv jr : Nat → Int32} {u : SX} {v : SY} (T : er_T fl bl cl V W dm pw x y dv jr 0 u v) {p : Nat} (hp : p < 64) (h1 : p / 16 < fl) (h2 : p % 16 < bl) (hd : eb dm p) :
    ∃ u' v', er_U fl bl cl u' v' ∧ (∀ post : SX → Prop, post u' → wpX_writeOut post u (nI p)) ∧ (∀ (post : Int32 → SY → Prop) (x1 x2 : Int32) (n m b : Nat), wY_flush_23 post x1 x2 n (nI (m + 1)) (nI (b + 1)) v'.1 v'.2.1 v'.2.2.1 v'.2.2.2.1 v'.2.2.2.2.1 v'.2.2.2.2.2.1 v'.2.2.2.2.2.2.1 v'.2.2.2.2.2.2.2.1 v'.2.2.2.2.2.2.2.2.1 v'.2.2.2.2.2.2.2.2.2.1 v'.2.2.2.2.2.2.2.2.2.2 → ey_FE post x1 x2 n (nI m) (nI b) p v) := by
  obtain ⟨hB, hP, IX, IY⟩ := T
  have hB' := hB
  obtain ⟨b1, b2, b3, b4, b5, b6⟩ := hB
  have hcl : ∀ q, q < 64 → (eb (eb_cl dm p) q ↔ eb dm q ∧ q ≠ p) := fun q hq => eb_cli dm hp hq
  by_cases ho : ev_own V p
  · have ho2 := (ev_Ro hP.1 hP.2.1 hP.2.2.1 hp).mp ho
    obtain ⟨u', IX', wX⟩ := ex_Rwo1 IX hp ho
    obtain ⟨v', IY', wY⟩ := ey_fs1 IY hP.2.1 b6 hp ho2
    refine ⟨u', v', ⟨_, _, eb_cl dm p, pw, _, _, dv, jr, hB', ?_, IX', ey_Rc IY' (fun _ _ => rfl) hcl⟩, wX, wY⟩
    exact er_own hP hp ho (fun q hq t => (hcl q hq).mp t)
  · have ho2 : ¬ ev_own W p := fun t => ho ((ev_Ro hP.1 hP.2.1 hP.2.2.1 hp).mpr t)
    have fr := er_fr hP hp (Or.inl ⟨hd, ho⟩)
    obtain ⟨c, u', hc, nc, IX', wX⟩ := ex_Rwo0 IX b6 hp ho fr.1
    obtain ⟨d, v', hdl, nd, IY', wY⟩ := ey_fs0 IY hP.2.1 b6 hp ho2 fr.2
    refine ⟨u', v', ⟨_, _, eb_cl dm p, pw, _, _, dv, jr, hB', ?_, IX', ey_Rc IY' (fun _ _ => rfl) hcl⟩, wX, wY⟩
    exact (er_up hP (fun i hi => pk_un hi) (fun i hi => pk_un hi) (fun _ => by rw [pk_us, pk_us]) hp h1 h2 hc hdl nc nd (Or.inr rfl) ho (fun q hq t => ((hcl q hq).mp t).1) (Or.inl ⟨hd, Nat.le_refl _⟩)).1
/-- a disk write on both sides: made, or the power fails -/
theorem er_dw {fl bl cl : Nat} {V W : Nat → Nat} {dm : Int64} {pw : Int32} {x y dv jr : Nat → Int32} {u : SX} {v : SY} (T : er_T fl bl cl V W dm pw x y dv jr 0 u v) :
    (∃ u' v', er_T fl bl cl V W dm (ed_pw pw) x y dv jr 0 u' v' ∧ (∀ post : Int32 → SX → Prop, post 1 u' → wpX_diskWrite post u) ∧ (∀ post : Int32 → SY → Prop, post 1 v' → wpY_diskWrite post v)) ∨
    (∃ u' v', er_U fl bl cl u' v' ∧ (∀ post : Int32 → SX → Prop, post 0 u' → wpX_diskWrite post u) ∧ (∀ post : Int32 → SY → Prop, post 0 v' → wpY_diskWrite post v)) := by
  obtain ⟨hB, hP, IX, IY⟩ := T
  by_cases z : pw = 0
  · subst z
    obtain ⟨u', IX', wX⟩ := ex_Rdw0 IX
    obtain ⟨v', IY', wY⟩ := ey_Rdw0 IY
    refine Or.inr ⟨u', v', ⟨_, _, 0, -1, x, y, dv, jr, hB, ?_, IX', ey_Rc IY' (fun _ _ => rfl) (fun p _ => ⟨fun t => absurd t (eb_0 p), fun t => t.elim⟩)⟩, wX, wY⟩
    exact er_crash hP (fun _ _ => rfl) (fun _ _ => rfl) (fun q _ => eb_0 q)
  · obtain ⟨u', IX', wX⟩ := ex_Rdw1 IX z
    obtain ⟨v', IY', wY⟩ := ey_Rdw1 IY z
    exact Or.inl ⟨u', v', ⟨hB, hP, IX', IY'⟩, wX, wY⟩
theorem er_flL {fl bl cl f : Nat} (hf : f < fl) (lim : Int32) : ∀ k b m u v, b + k = bl → m ≤ b → er_U fl bl cl u v →
    ∃ r u' v', er_U fl bl cl u' v' ∧ (∀ post : Int32 → SX → Prop, post r u' → wX_flush_37 post lim (nI (16 * f + bl)) (k + 1) (nI m) (nI (16 * f + b)) u.1 u.2.1 u.2.2.1 u.2.2.2.1 u.2.2.2.2.1 u.2.2.2.2.2.1 u.2.2.2.2.2.2.1 u.2.2.2.2.2.2.2.1 u.2.2.2.2.2.2.2.2.1 u.2.2.2.2.2.2.2.2.2.1 u.2.2.2.2.2.2.2.2.2.2.1 u.2.2.2.2.2.2.2.2.2.2.2.1 u.2.2.2.2.2.2.2.2.2.2.2.2.1 u.2.2.2.2.2.2.2.2.2.2.2.2.2.1 u.2.2.2.2.2.2.2.2.2.2.2.2.2.2.1 u.2.2.2.2.2.2.2.2.2.2.2.2.2.2.2.1 u.2.2.2.2.2.2.2.2.2.2.2.2.2.2.2.2.1 u.2.2.2.2.2.2.2.2.2.2.2.2.2.2.2.2.2.1 u.2.2.2.2.2.2.2.2.2.2.2.2.2.2.2.2.2.2.1 u.2.2.2.2.2.2.2.2.2.2.2.2.2.2.2.2.2.2.2) ∧ (∀ post : Int32 → SY → Prop, post r v' → wY_flush_23 post (nI f) lim (k + 1) (nI m) (nI b) v.1 v.2.1 v.2.2.1 v.2.2.2.1 v.2.2.2.2.1 v.2.2.2.2.2.1 v.2.2.2.2.2.2.1 v.2.2.2.2.2.2.2.1 v.2.2.2.2.2.2.2.2.1 v.2.2.2.2.2.2.2.2.2.1 v.2.2.2.2.2.2.2.2.2.2) := by
  intro k
  induction k with
  | zero =>
    intro b m u v hb hm U
    have hb : b = bl := by omega
    subst hb
    obtain ⟨V, W, dm, pw, x, y, dv, jr, T⟩ := U
    have hB := T.1
    unfold er_B at hB
    have hy := (ey_Rf T.2.2.2).2
    refine ⟨nI m, u, v, ⟨V, W, dm, pw, x, y, dv, jr, T⟩, fun post h => ?_, fun post h => ?_⟩
    · unfold wX_flush_37
      exact br_t (nI_le (by omega) (by omega)) h
    · unfold wY_flush_23
      exact br_t (by rw [hy]; exact nI_le (by omega) (by omega)) h
  | succ k ih =>
    intro b m u v hb hm U
    have U' := U
    obtain ⟨V, W, dm, pw, x, y, dv, jr, T⟩ := U
    have hB := T.1
    unfold er_B at hB
    have hy := (ey_Rf T.2.2.2).2
    have hp : 16 * f + b < 64 := by omega
    have ip : vp_in (nI (16 * f + b)) 64 := vp_in_nI hp (by omega)
    have x4 : ¬ nI (16 * f + bl) ≤ nI (16 * f + b) := nI_ge (by omega) (by omega)
    have y4 : ¬ v.2.1 ≤ nI b := by rw [hy]; exact nI_ge (by omega) (by omega)
    have e2 : (16 : Int32) * nI f + nI b = nI (16 * f + b) := by rw [show (16 : Int32) = nI 16 from rfl, pk_mul, nI_add]
    have n1 : nI (16 * f + b) + 1 = nI (16 * f + (b + 1)) := nI_1 _
    have XD : u.2.2.2.2.2.1 = dm := ex_el (P := fun u => u.2.2.2.2.2.1 = dm) (fun _ _ _ _ _ _ _ _ _ _ _ _ _ => rfl) T.2.2.1
    have YD : v.2.2.2.2.2.2.2.2.1 (16 * f + b) = 0 ↔ ¬ eb dm (16 * f + b) := ey_el (P := fun v => v.2.2.2.2.2.2.2.2.1 (16 * f + b) = 0 ↔ ¬ eb dm (16 * f + b)) (fun _ _ _ _ _ hO => ey_da hO hp) T.2.2.2
    by_cases z : lim ≤ nI m
    · refine ⟨nI m, u, v, U', fun post h => ?_, fun post h => ?_⟩
      · unfold wX_flush_37
        exact br_f x4 (br_t z h)
      · unfold wY_flush_23
        exact br_f y4 (br_t z h)
    · by_cases w : eb dm (16 * f + b)
      · have YE : ∀ post : Int32 → SY → Prop, wpY_diskWrite (fun r_10 v1 => ((r_10 = 0 → post (-3) v1) ∧ (¬ r_10 = 0 → ey_FE post (nI f) lim (k + 1) (nI m) (nI b) (16 * f + b) v1))) v → wY_flush_23 post (nI f) lim (k + 1 + 1) (nI m) (nI b) v.1 v.2.1 v.2.2.1 v.2.2.2.1 v.2.2.2.2.1 v.2.2.2.2.2.1 v.2.2.2.2.2.2.1 v.2.2.2.2.2.2.2.1 v.2.2.2.2.2.2.2.2.1 v.2.2.2.2.2.2.2.2.2.1 v.2.2.2.2.2.2.2.2.2.2 := by
          intro post h
          unfold wY_flush_23
          refine br_f y4 (br_f z (nm_r e2 ⟨ip, ?_⟩))
          rw [nI_clamp (show 16 * f + b < 2 ^ 31 by omega)]
          exact br_f (fun t => YD.mp t w) h
        rcases er_dw T with ⟨u1, v1, T1, dX, dY⟩ | ⟨u1, v1, U1, dX, dY⟩
        · obtain ⟨u2, v2, U2, oX, oY⟩ := er_fstep T1 hp (by omega) (by omega) w
          obtain ⟨r, u', v', U3, hX, hY⟩ := ih (b + 1) (m + 1) u2 v2 (by omega) (by omega) U2
          refine ⟨r, u', v', U3, fun post h => ?_, fun post h => YE post (dY _ (br_f (by decide) (oY post _ _ _ _ _ (hY post h))))⟩
          unfold wX_flush_37
          refine br_f x4 (br_f z (ex_hb _ hp (fun _ => br_f (by decide) (dX _ (br_f (by decide) (oX _ (nm_r (nI_1 m) (nm_r n1 (hX post h))))))) (fun t => absurd w (by rw [XD] at t; exact t))))
        · refine ⟨-3, u1, v1, U1, fun post h => ?_, fun post h => YE post (dY _ (br_t rfl h))⟩
          unfold wX_flush_37
          exact br_f x4 (br_f z (ex_hb _ hp (fun _ => br_f (by decide) (dX _ (br_t rfl h))) (fun t => absurd w (by rw [XD] at t; exact t))))
      · obtain ⟨r, u', v', U2, hX, hY⟩ := ih (b + 1) m u v (by omega) (by omega) U'
        refine ⟨r, u', v', U2, fun post h => ?_, fun post h => ?_⟩
        · unfold wX_flush_37
          exact br_f x4 (br_f z (ex_hb _ hp (fun t => absurd (by rw [XD] at t; exact t) w) (fun _ => br_t rfl (nm_r n1 (hX post h)))))
        · unfold wY_flush_23
          refine br_f y4 (br_f z (nm_r e2 ⟨ip, ?_⟩))
          rw [nI_clamp (show 16 * f + b < 2 ^ 31 by omega)]
          exact br_t (YD.mpr w) (nm_r (nI_1 b) (hY post h))
theorem er_flush {fl bl cl : Nat} {u : SX} {v : SY} (U : er_U fl bl cl u v) {f : Nat} (hf : f < fl) {lim : Int32} (hl : 0 ≤ lim) :
    ∃ r u' v', er_U fl bl cl u' v' ∧ (∀ post : Int32 → SX → Prop, post r u' → wpX_flush post u (nI f) lim) ∧ (∀ post : Int32 → SY → Prop, post r v' → wpY_flush post v (nI f) lim) := by
  obtain ⟨r, u', v', U', hX, hY⟩ := er_flL (fl := fl) (bl := bl) (cl := cl) hf lim bl 0 0 u v (by omega) (by omega) U
  obtain ⟨V, W, dm, pw, x, y, dv, jr, hB, hP, IX, IY⟩ := U
  unfold er_B at hB
  refine ⟨r, u', v', U', fun post h => ?_, fun post h => ?_⟩
  · have h2 := hX post h
    revert h2
    refine ex_el (P := fun u => wX_flush_37 post lim (nI (16 * f + bl)) (bl + 1) (nI 0) (nI (16 * f + 0)) u.1 u.2.1 u.2.2.1 u.2.2.2.1 u.2.2.2.2.1 u.2.2.2.2.2.1 u.2.2.2.2.2.2.1 u.2.2.2.2.2.2.2.1 u.2.2.2.2.2.2.2.2.1 u.2.2.2.2.2.2.2.2.2.1 u.2.2.2.2.2.2.2.2.2.2.1 u.2.2.2.2.2.2.2.2.2.2.2.1 u.2.2.2.2.2.2.2.2.2.2.2.2.1 u.2.2.2.2.2.2.2.2.2.2.2.2.2.1 u.2.2.2.2.2.2.2.2.2.2.2.2.2.2.1 u.2.2.2.2.2.2.2.2.2.2.2.2.2.2.2.1 u.2.2.2.2.2.2.2.2.2.2.2.2.2.2.2.2.1 u.2.2.2.2.2.2.2.2.2.2.2.2.2.2.2.2.2.1 u.2.2.2.2.2.2.2.2.2.2.2.2.2.2.2.2.2.2.1 u.2.2.2.2.2.2.2.2.2.2.2.2.2.2.2.2.2.2.2 → wpX_flush post u (nI f) lim) ?_ IX
    intro fc fd ow mp df us N S G K C nm hO h2
    have e : nI f * 16 = nI (16 * f) := by rw [show (16 : Int32) = nI 16 from rfl, pk_mul, Nat.mul_comm]
    unfold wpX_flush
    dsimp only
    rw [e, nI_add]
    exact br_f (nI_pos (by omega)) (br_f (nI_ge hf (by omega)) (br_t hl (nm_e (nm_e ⟨bl + 1, h2⟩))))
  · have h2 := hY post h
    revert h2
    refine ey_el (P := fun v => wY_flush_23 post (nI f) lim (bl + 1) (nI 0) (nI 0) v.1 v.2.1 v.2.2.1 v.2.2.2.1 v.2.2.2.2.1 v.2.2.2.2.2.1 v.2.2.2.2.2.2.1 v.2.2.2.2.2.2.2.1 v.2.2.2.2.2.2.2.2.1 v.2.2.2.2.2.2.2.2.2.1 v.2.2.2.2.2.2.2.2.2.2 → wpY_flush post v (nI f) lim) ?_ IY
    intro ck cc dk dc da hO h2
    unfold wpY_flush
    exact br_f (nI_pos (by omega)) (br_f (nI_ge hf (by omega)) (br_t hl ⟨bl + 1, h2⟩))
theorem i_vc_flush {k : Nat} {u : SX} {v : SY} (I : i_Rel k u v) (hk : k + 5 ≤ 2563) (v1 : Int32) (v2 : Int32) : wpX_flush (fun r u' => wpY_flush (fun r' v' => r' = r ∧ i_Rel (k + 5) u' v') v v1 v2) u v1 v2 := by
  have I' : i_Rel (k + 5) u v := I
  obtain ⟨fl, bl, cl, V, W, dm, pw, x, y, dv, jr, T⟩ := I
  have hB := T.1
  unfold er_B at hB
  by_cases ok : (∃ f, f < fl ∧ v1 = nI f) ∧ 0 ≤ v2
  · obtain ⟨⟨f, hf, rfl⟩, hl⟩ := ok
    obtain ⟨r, u', v', U', hX, hY⟩ := er_flush ⟨V, W, dm, pw, x, y, dv, jr, T⟩ hf hl
    obtain ⟨V', W', dm', pw', x', y', dv', jr', T'⟩ := U'
    exact hX _ (hY _ ⟨rfl, fl, bl, cl, V', W', dm', pw', x', y', dv', jr', T'⟩)
  · have fX := (ex_Rf T.2.2.1).1
    have fY := (ey_Rf T.2.2.2).1
    clear T
    have key : ¬ v1 < 0 → ¬ nI fl ≤ v1 → ¬ 0 ≤ v2 := by
      intro z t w
      obtain ⟨j, hj, rfl⟩ := nI_of z
      rw [nI_leI (by omega) hj] at t
      exact ok ⟨⟨j, by omega, rfl⟩, w⟩
    obtain ⟨u1, u2, u3, u4, u5, u6, u7, u8, u9, u10, u11, u12, u13, u14, u15, u16, u17, u18, u19, u20⟩ := u
    obtain ⟨v1, v2, v3, v4, v5, v6, v7, v8, v9, v10, v11⟩ := v
    dsimp only at fX fY
    subst fX fY
    unfold wpX_flush wpY_flush
    refine br_c (fun z => br_t z ⟨rfl, I'⟩) (fun z => br_c (fun z2 => br_f z (br_t z2 ⟨rfl, I'⟩)) (fun z2 => br_f (key z z2) (br_f z (br_f z2 (br_f (key z z2) ⟨rfl, I'⟩)))))
end
section
/-! commit and sync -/
/-- the reference makes its table durable -/
theorem ey_c62 {fl bl cl : Nat} {W : Nat → Nat} {D : Nat → Prop} {pw : Int32} {y dv : Nat → Int32} {v : SY} (I : ey_R fl bl cl W D pw y dv v) :
    ∃ v', ey_R fl bl cl (fun i => if i < 64 then W i else W (i - 64)) D pw y dv v' ∧ ∀ (post : Int32 → SY → Prop) (r : Int32), post r v' → ∃ n62, wY_commit_62 post r v.1 v.2.1 v.2.2.1 v.2.2.2.1 n62 0 v.2.2.2.2.1 v.2.2.2.2.2.1 v.2.2.2.2.2.2.1 v.2.2.2.2.2.2.2.1 v.2.2.2.2.2.2.2.2.1 v.2.2.2.2.2.2.2.2.2.1 v.2.2.2.2.2.2.2.2.2.2 := by
  refine ey_el (P := fun v => ∃ v', ey_R fl bl cl (fun i => if i < 64 then W i else W (i - 64)) D pw y dv v' ∧ ∀ (post : Int32 → SY → Prop) (r : Int32), post r v' → ∃ n62, wY_commit_62 post r v.1 v.2.1 v.2.2.1 v.2.2.2.1 n62 0 v.2.2.2.2.1 v.2.2.2.2.2.1 v.2.2.2.2.2.2.1 v.2.2.2.2.2.2.2.1 v.2.2.2.2.2.2.2.2.1 v.2.2.2.2.2.2.2.2.2.1 v.2.2.2.2.2.2.2.2.2.2) ?_ I
  intro ck cc dk dc da hO
  have L : ∀ d i, i + d = 64 → ∀ dk dc : Nat → Int32, ey_O (fun z => if 64 ≤ z ∧ z < 64 + i then W (z - 64) else W z) D ck cc dk dc da →
      ∃ v', ey_R fl bl cl (fun i => if i < 64 then W i else W (i - 64)) D pw y dv v' ∧ ∀ (post : Int32 → SY → Prop) (r : Int32), post r v' → wY_commit_62 post r (nI fl) (nI bl) (nI cl) pw (d + 1) (nI i) ck cc dk dc da dv y := by
    intro d
    induction d with
    | zero =>
      intro i hi dk dc hO
      have hi : i = 64 := by omega
      subst hi
      refine ⟨_, ey_Ri (ey_Oc hO (fun z hz => ?_) (fun _ _ => Iff.rfl)), fun post r h => ?_⟩
      · by_cases e : z < 64
        · rw [if_pos e, if_neg (by omega)]
        · rw [if_neg e, if_pos (by omega)]
      · unfold wY_commit_62
        exact br_t (nI_le (a := 64) (b := 64) (by omega) (by omega)) h
    | succ d ih =>
      intro i hi dk dc hO
      obtain ⟨v', I', w⟩ := ih (i + 1) (by omega) (upd dk i (ck i)) (upd dc i (cc i)) (by
        intro p hp
        have a := hO p hp
        have b := hO i (by omega)
        try dsimp only at a b ⊢
        rw [if_neg (show ¬ (64 ≤ p ∧ p < 64 + i) by omega)] at a
        rw [if_neg (show ¬ (64 ≤ i ∧ i < 64 + i) by omega)] at b
        rw [if_neg (show ¬ (64 ≤ p ∧ p < 64 + (i + 1)) by omega)]
        by_cases e : p = i
        · subst e
          rw [pk_us, pk_us, if_pos (by omega), show 64 + p - 64 = p by omega]
          exact ⟨a.1, b.1, a.2.2⟩
        · rw [pk_un e, pk_un e]
          by_cases f : 64 ≤ 64 + p ∧ 64 + p < 64 + i
          · rw [if_pos f] at a
            rw [if_pos (by omega)]
            exact a
          · rw [if_neg f] at a
            rw [if_neg (by omega)]
            exact a)
      refine ⟨v', I', fun post r h => ?_⟩
      have ip : vp_in (nI i) 64 := vp_in_nI (by omega) (by omega)
      unfold wY_commit_62
      rw [nI_clamp (show i < 2 ^ 31 by omega)]
      exact br_f (nI_ge (b := 64) (by omega) (by omega)) ⟨ip, ip, nm_e ⟨ip, ip, nm_e (nm_r (nI_1 i) (w post r h))⟩⟩
  obtain ⟨v', I', w⟩ := L 64 0 (by omega) dk dc (ey_Oc hO (fun z _ => if_neg (by omega)) (fun _ _ => Iff.rfl))
  exact ⟨v', I', fun post r h => ⟨65, w post r h⟩⟩
/-- all records applied: the table is durable -/
theorem ej_fin {fl bl k : Nat} {V W : Nat → Nat} {jr : Nat → Int32} (hO : ev_O fl bl V) (hA : ej_A V bl jr k W) (hk : k = ec_n fl (fun g => 0 < er_pn V bl g)) (hJ : ej_J (fun g => 0 < er_pn V bl g) fl jr) : ∀ i, i < 128 → W i = if i < 64 then V i else V (i - 64) := by
  obtain ⟨a1, a2, a3⟩ := hA
  intro i hi
  by_cases z : i < 64
  · rw [if_pos z]; exact a1 i z
  · rw [if_neg z]
    obtain ⟨p, rfl⟩ : ∃ p, i = 64 + p := ⟨i - 64, by omega⟩
    have hp : p < 64 := by omega
    rw [show 64 + p - 64 = p by omega]
    have same : V p = V (64 + p) → W (64 + p) = V p := by
      intro t
      rcases a2 p hp with s | s
      · exact s
      · rw [s, t]
    by_cases w : fl ≤ p / 16 ∨ bl ≤ p % 16
    · have t := hO p hp w
      exact same (t.1.trans t.2.symm)
    · by_cases q : 0 < er_pn V bl (p / 16)
      · obtain ⟨r, hr, er⟩ := hJ.2 (p / 16) (by omega) q
        exact a3 p hp (by omega) ⟨r, by omega, er⟩
      · have e0 : er_pn V bl (p / 16) = 0 := by omega
        have t := ec_zi (P := fun j => V (16 * (p / 16) + j) ≠ V (64 + (16 * (p / 16) + j))) e0 (i := p % 16) (by omega)
        rw [show 16 * (p / 16) + p % 16 = p by omega] at t
        exact same (Classical.not_not.mp t)
theorem er_cmL {fl bl cl : Nat} {V W : Nat → Nat} {dm : Int64} {x y dv jr : Nat → Int32} {k : Nat} (hk : k = ec_n fl (fun g => 0 < er_pn V bl g)) (hJ : ej_J (fun g => 0 < er_pn V bl g) fl jr) : ∀ d w, w + d = k + 1 → ∀ pw u v, er_T fl bl cl V W dm pw x y dv jr 0 u v →
    ∃ r u' v', er_U fl bl cl u' v' ∧ (∀ post : Int32 → SX → Prop, post r u' → wX_commit_13 post (nI k) (d + 1) (nI w) u.1 u.2.1 u.2.2.1 u.2.2.2.1 u.2.2.2.2.1 u.2.2.2.2.2.1 u.2.2.2.2.2.2.1 u.2.2.2.2.2.2.2.1 u.2.2.2.2.2.2.2.2.1 u.2.2.2.2.2.2.2.2.2.1 u.2.2.2.2.2.2.2.2.2.2.1 u.2.2.2.2.2.2.2.2.2.2.2.1 u.2.2.2.2.2.2.2.2.2.2.2.2.1 u.2.2.2.2.2.2.2.2.2.2.2.2.2.1 u.2.2.2.2.2.2.2.2.2.2.2.2.2.2.1 u.2.2.2.2.2.2.2.2.2.2.2.2.2.2.2.1 u.2.2.2.2.2.2.2.2.2.2.2.2.2.2.2.2.1 u.2.2.2.2.2.2.2.2.2.2.2.2.2.2.2.2.2.1 u.2.2.2.2.2.2.2.2.2.2.2.2.2.2.2.2.2.2.1 u.2.2.2.2.2.2.2.2.2.2.2.2.2.2.2.2.2.2.2) ∧ (∀ post : Int32 → SY → Prop, post r v' → wY_commit_37 post (nI k) (d + 1) (nI w) v.1 v.2.1 v.2.2.1 v.2.2.2.1 v.2.2.2.2.1 v.2.2.2.2.2.1 v.2.2.2.2.2.2.1 v.2.2.2.2.2.2.2.1 v.2.2.2.2.2.2.2.2.1 v.2.2.2.2.2.2.2.2.2.1 v.2.2.2.2.2.2.2.2.2.2) := by
  have kle : k ≤ fl := by rw [hk]; exact ec_le _ _
  intro d
  induction d with
  | zero =>
    intro w hw pw u v T
    have hw : w = k + 1 := by omega
    subst hw
    obtain ⟨hB, hP, IX, IY⟩ := T
    have hB' := hB
    unfold er_B at hB
    obtain ⟨u', V', hA, IX', wX⟩ := ex_ca (V := V) (bl := bl) (jr := jr) hB.2.2.2.1 (k := k) (by omega) (fun r hr => by
      obtain ⟨g, hg, eg⟩ := hJ.1 r (by omega)
      exact ⟨g, by omega, eg⟩) k 0 (by omega) u V ⟨fun _ _ => rfl, fun _ _ => Or.inr rfl, fun p hp hb ⟨q, hq, _⟩ => by omega⟩ IX
    obtain ⟨v', IY', wY⟩ := ey_c62 IY
    have fin := ej_fin hP.2.2.2.2.2 hA hk hJ
    refine ⟨nI k, u', v', ⟨V', _, dm, pw, x, y, dv, jr, hB', er_commit hP fin (fun _ _ => rfl), IX', IY'⟩, fun post h => ?_, fun post h => ?_⟩
    · unfold wX_commit_13
      exact br_t (nI_lt (by omega) (by omega)) ⟨k + 1, wX post h⟩
    · unfold wY_commit_37
      exact br_t (by rw [nI_1]; exact nI_le (by omega) (by omega)) (wY post _ h)
  | succ d ih =>
    intro w hw pw u v T
    have hB := T.1
    unfold er_B at hB
    have x1 : ¬ nI k < nI w := nI_nlt (by omega) (by omega)
    have y1 : ¬ nI k + 1 ≤ nI w := by rw [nI_1]; exact nI_ge (by omega) (by omega)
    rcases er_dw T with ⟨u1, v1, T1, dX, dY⟩ | ⟨u1, v1, U1, dX, dY⟩
    · obtain ⟨r, u', v', U', hX, hY⟩ := ih (w + 1) (by omega) _ u1 v1 T1
      refine ⟨r, u', v', U', fun post h => ?_, fun post h => ?_⟩
      · unfold wX_commit_13
        exact br_f x1 (dX _ (br_f (by decide) (nm_r (nI_1 w) (hX post h))))
      · unfold wY_commit_37
        exact br_f y1 (dY _ (br_f (by decide) (nm_r (nI_1 w) (hY post h))))
    · refine ⟨-3, u1, v1, U1, fun post h => ?_, fun post h => ?_⟩
      · unfold wX_commit_13
        exact br_f x1 (dX _ (br_t rfl h))
      · unfold wY_commit_37
        exact br_f y1 (dY _ (br_t rfl h))
theorem er_commit2 {fl bl cl : Nat} {u : SX} {v : SY} (U : er_U fl bl cl u v) :
    ∃ r u' v', er_U fl bl cl u' v' ∧ (∀ post : Int32 → SX → Prop, post r u' → wpX_commit post u) ∧ (∀ post : Int32 → SY → Prop, post r v' → wpY_commit post v) := by
  obtain ⟨V, W, dm, pw, x, y, dv, jr, T⟩ := U
  have hT := T
  obtain ⟨hB, hP, IX, IY⟩ := T
  have hB' := hB
  unfold er_B at hB
  obtain ⟨u1, jr', hJ, IX1, wX⟩ := ex_Rfj IX hB.2.1 hB.2.2.2.1 hP.2.2.2.2.2
  obtain ⟨k, hk⟩ : ∃ k, k = ec_n fl (fun g => 0 < er_pn V bl g) := ⟨_, rfl⟩
  rw [← hk] at wX
  have kle : k ≤ fl := by rw [hk]; exact ec_le _ _
  have fY := (ey_Rf IY).1
  -- the reference's count
  have YL : ∀ (post : Int32 → SY → Prop), ((nI k = 0 → post 0 v) ∧ (¬ nI k = 0 → ∃ n37, wY_commit_37 post (nI k) n37 0 v.1 v.2.1 v.2.2.1 v.2.2.2.1 v.2.2.2.2.1 v.2.2.2.2.2.1 v.2.2.2.2.2.2.1 v.2.2.2.2.2.2.2.1 v.2.2.2.2.2.2.2.2.1 v.2.2.2.2.2.2.2.2.2.1 v.2.2.2.2.2.2.2.2.2.2)) → ∀ n i, i + n = fl → wY_commit_4 post v.1 v.2.1 v.2.2.1 v.2.2.2.1 v.2.2.2.2.1 v.2.2.2.2.2.1 v.2.2.2.2.2.2.1 v.2.2.2.2.2.2.2.1 v.2.2.2.2.2.2.2.2.1 v.2.2.2.2.2.2.2.2.2.1 v.2.2.2.2.2.2.2.2.2.2 (n + 1) (nI (ec_n i (fun g => 0 < er_pn V bl g))) (nI i) := by
    intro post h n
    induction n with
    | zero =>
      intro i hi
      have hi : i = fl := by omega
      subst hi
      unfold wY_commit_4
      rw [← hk]
      exact br_t (by rw [fY]; exact nI_le (by omega) (by omega)) h
    | succ n ih =>
      intro i hi
      have kk := ih (i + 1) (by omega)
      have pe := (er_pend hT (f := i) (by omega)).2
      have pl : er_pn V bl i ≤ bl := ec_le _ bl
      have i1 : ¬ v.1 ≤ nI i := by rw [fY]; exact nI_ge (by omega) (by omega)
      unfold wY_commit_4
      by_cases z : 0 < er_pn V bl i
      · rw [ec_st (P := fun g => 0 < er_pn V bl g) z] at kk
        exact br_f i1 (pe _ (br_f (nI_nle z (by omega)) (nm_r (nI_1 _) (nm_r (nI_1 i) kk))))
      · rw [ec_sf (P := fun g => 0 < er_pn V bl g) z] at kk
        refine br_f i1 (pe _ (br_t ?_ (nm_r (nI_1 i) kk)))
        rw [show er_pn V bl i = 0 by omega]
        decide
  have YT : ∀ (post : Int32 → SY → Prop), ((nI k = 0 → post 0 v) ∧ (¬ nI k = 0 → ∃ n37, wY_commit_37 post (nI k) n37 0 v.1 v.2.1 v.2.2.1 v.2.2.2.1 v.2.2.2.2.1 v.2.2.2.2.2.1 v.2.2.2.2.2.2.1 v.2.2.2.2.2.2.2.1 v.2.2.2.2.2.2.2.2.1 v.2.2.2.2.2.2.2.2.2.1 v.2.2.2.2.2.2.2.2.2.2)) → wpY_commit post v := by
    intro post h
    have h2 := YL post h fl 0 (by omega)
    revert h2
    clear YL h wX hT IX IX1 IY fY
    obtain ⟨v1, v2, v3, v4, v5, v6, v7, v8, v9, v10, v11⟩ := v
    intro h2
    unfold wpY_commit
    exact ⟨fl + 1, h2⟩
  have XT : ∀ (post : Int32 → SX → Prop), ((nI k = 0 → post 0 u1) ∧ (¬ nI k = 0 → ∃ n13, wX_commit_13 post (nI k) n13 0 u1.1 u1.2.1 u1.2.2.1 u1.2.2.2.1 u1.2.2.2.2.1 u1.2.2.2.2.2.1 u1.2.2.2.2.2.2.1 u1.2.2.2.2.2.2.2.1 u1.2.2.2.2.2.2.2.2.1 u1.2.2.2.2.2.2.2.2.2.1 u1.2.2.2.2.2.2.2.2.2.2.1 u1.2.2.2.2.2.2.2.2.2.2.2.1 u1.2.2.2.2.2.2.2.2.2.2.2.2.1 u1.2.2.2.2.2.2.2.2.2.2.2.2.2.1 u1.2.2.2.2.2.2.2.2.2.2.2.2.2.2.1 u1.2.2.2.2.2.2.2.2.2.2.2.2.2.2.2.1 u1.2.2.2.2.2.2.2.2.2.2.2.2.2.2.2.2.1 u1.2.2.2.2.2.2.2.2.2.2.2.2.2.2.2.2.2.1 u1.2.2.2.2.2.2.2.2.2.2.2.2.2.2.2.2.2.2.1 u1.2.2.2.2.2.2.2.2.2.2.2.2.2.2.2.2.2.2.2)) → wpX_commit post u := by
    intro post h
    have h2 := wX (fun r u => ((r = 0 → post 0 u) ∧ (¬ r = 0 → ∃ n13, wX_commit_13 post r n13 0 u.1 u.2.1 u.2.2.1 u.2.2.2.1 u.2.2.2.2.1 u.2.2.2.2.2.1 u.2.2.2.2.2.2.1 u.2.2.2.2.2.2.2.1 u.2.2.2.2.2.2.2.2.1 u.2.2.2.2.2.2.2.2.2.1 u.2.2.2.2.2.2.2.2.2.2.1 u.2.2.2.2.2.2.2.2.2.2.2.1 u.2.2.2.2.2.2.2.2.2.2.2.2.1 u.2.2.2.2.2.2.2.2.2.2.2.2.2.1 u.2.2.2.2.2.2.2.2.2.2.2.2.2.2.1 u.2.2.2.2.2.2.2.2.2.2.2.2.2.2.2.1 u.2.2.2.2.2.2.2.2.2.2.2.2.2.2.2.2.1 u.2.2.2.2.2.2.2.2.2.2.2.2.2.2.2.2.2.1 u.2.2.2.2.2.2.2.2.2.2.2.2.2.2.2.2.2.2.1 u.2.2.2.2.2.2.2.2.2.2.2.2.2.2.2.2.2.2.2))) h
    revert h2
    clear wX hT IX
    obtain ⟨u1, u2, u3, u4, u5, u6, u7, u8, u9, u10, u11, u12, u13, u14, u15, u16, u17, u18, u19, u20⟩ := u
    intro h2
    unfold wpX_commit
    exact h2
  by_cases z : k = 0
  · refine ⟨0, u1, v, ⟨V, W, dm, pw, x, y, dv, jr', hB', hP, IX1, IY⟩, fun post h => XT post (br_t (by rw [z]; rfl) h), fun post h => YT post (br_t (by rw [z]; rfl) h)⟩
  · have nz : ¬ nI k = 0 := nI_ne0 (by omega) (by omega)
    obtain ⟨r, u', v', U', hX, hY⟩ := er_cmL (fl := fl) (bl := bl) (cl := cl) (V := V) (W := W) (dm := dm) (x := x) (y := y) (dv := dv) (jr := jr') hk hJ (k + 1) 0 (by omega) pw u1 v ⟨hB', hP, IX1, IY⟩
    exact ⟨r, u', v', U', fun post h => XT post (br_f nz ⟨_, hX post h⟩), fun post h => YT post (br_f nz ⟨_, hY post h⟩)⟩
theorem i_vc_commit {k : Nat} {u : SX} {v : SY} (I : i_Rel k u v) (hk : k + 5 ≤ 2563) : wpX_commit (fun r u' => wpY_commit (fun r' v' => r' = r ∧ i_Rel (k + 5) u' v') v) u := by
  obtain ⟨fl, bl, cl, V, W, dm, pw, x, y, dv, jr, T⟩ := I
  obtain ⟨r, u', v', U', hX, hY⟩ := er_commit2 ⟨V, W, dm, pw, x, y, dv, jr, T⟩
  obtain ⟨V', W', dm', pw', x', y', dv', jr', T'⟩ := U'
  exact hX _ (hY _ ⟨rfl, fl, bl, cl, V', W', dm', pw', x', y', dv', jr', T'⟩)
theorem er_syL {fl bl cl : Nat} : ∀ n f, f + n = fl → ∀ (s : Int32) u v, er_U fl bl cl u v →
    ∃ r u' v', er_U fl bl cl u' v' ∧ (∀ post : Int32 → SX → Prop, post r u' → wX_sync_4 post (n + 1) s (nI f) u.1 u.2.1 u.2.2.1 u.2.2.2.1 u.2.2.2.2.1 u.2.2.2.2.2.1 u.2.2.2.2.2.2.1 u.2.2.2.2.2.2.2.1 u.2.2.2.2.2.2.2.2.1 u.2.2.2.2.2.2.2.2.2.1 u.2.2.2.2.2.2.2.2.2.2.1 u.2.2.2.2.2.2.2.2.2.2.2.1 u.2.2.2.2.2.2.2.2.2.2.2.2.1 u.2.2.2.2.2.2.2.2.2.2.2.2.2.1 u.2.2.2.2.2.2.2.2.2.2.2.2.2.2.1 u.2.2.2.2.2.2.2.2.2.2.2.2.2.2.2.1 u.2.2.2.2.2.2.2.2.2.2.2.2.2.2.2.2.1 u.2.2.2.2.2.2.2.2.2.2.2.2.2.2.2.2.2.1 u.2.2.2.2.2.2.2.2.2.2.2.2.2.2.2.2.2.2.1 u.2.2.2.2.2.2.2.2.2.2.2.2.2.2.2.2.2.2.2) ∧ (∀ post : Int32 → SY → Prop, post r v' → wY_sync_4 post (n + 1) s (nI f) v.1 v.2.1 v.2.2.1 v.2.2.2.1 v.2.2.2.2.1 v.2.2.2.2.2.1 v.2.2.2.2.2.2.1 v.2.2.2.2.2.2.2.1 v.2.2.2.2.2.2.2.2.1 v.2.2.2.2.2.2.2.2.2.1 v.2.2.2.2.2.2.2.2.2.2) := by
  intro n
  induction n with
  | zero =>
    intro f hf s u v U
    have hf : f = fl := by omega
    subst hf
    obtain ⟨r, u', v', U', hX, hY⟩ := er_commit2 U
    obtain ⟨V, W, dm, pw, x, y, dv, jr, T⟩ := U
    have hB := T.1
    unfold er_B at hB
    have fX := (ex_Rf T.2.2.1).1
    have fY := (ey_Rf T.2.2.2).1
    by_cases z : r = -3
    · refine ⟨-3, u', v', U', fun post h => ?_, fun post h => ?_⟩
      · unfold wX_sync_4
        exact br_t (by rw [fX]; exact nI_le (by omega) (by omega)) (hX _ (br_t z h))
      · unfold wY_sync_4
        exact br_t (by rw [fY]; exact nI_le (by omega) (by omega)) (hY _ (br_t z h))
    · refine ⟨s, u', v', U', fun post h => ?_, fun post h => ?_⟩
      · unfold wX_sync_4
        exact br_t (by rw [fX]; exact nI_le (by omega) (by omega)) (hX _ (br_f z h))
      · unfold wY_sync_4
        exact br_t (by rw [fY]; exact nI_le (by omega) (by omega)) (hY _ (br_f z h))
  | succ n ih =>
    intro f hf s u v U
    have U0 := U
    obtain ⟨V, W, dm, pw, x, y, dv, jr, T⟩ := U
    have hB := T.1
    unfold er_B at hB
    have fX := ex_Rf T.2.2.1
    have fY := ey_Rf T.2.2.2
    obtain ⟨r, u1, v1, U1, hX, hY⟩ := er_flush U0 (f := f) (by omega) (lim := nI bl) (nI_pos' (by omega))
    rw [← fX.2] at hX
    rw [← fY.2] at hY
    by_cases z : r = -3
    · refine ⟨-3, u1, v1, U1, fun post h => ?_, fun post h => ?_⟩
      · unfold wX_sync_4
        exact br_f (by rw [fX.1]; exact nI_ge (by omega) (by omega)) (hX _ (br_t z h))
      · unfold wY_sync_4
        exact br_f (by rw [fY.1]; exact nI_ge (by omega) (by omega)) (hY _ (br_t z h))
    · obtain ⟨r', u', v', U', kX, kY⟩ := ih (f + 1) (by omega) (s + r) u1 v1 U1
      refine ⟨r', u', v', U', fun post h => ?_, fun post h => ?_⟩
      · unfold wX_sync_4
        exact br_f (by rw [fX.1]; exact nI_ge (by omega) (by omega)) (hX _ (br_f z (nm_e (nm_r (nI_1 f) (kX post h)))))
      · unfold wY_sync_4
        exact br_f (by rw [fY.1]; exact nI_ge (by omega) (by omega)) (hY _ (br_f z (nm_e (nm_r (nI_1 f) (kY post h)))))
theorem i_vc_sync {k : Nat} {u : SX} {v : SY} (I : i_Rel k u v) (hk : k + 5 ≤ 2563) : wpX_sync (fun r u' => wpY_sync (fun r' v' => r' = r ∧ i_Rel (k + 5) u' v') v) u := by
  obtain ⟨fl, bl, cl, V, W, dm, pw, x, y, dv, jr, T⟩ := I
  obtain ⟨r, u', v', U', hX, hY⟩ := er_syL (fl := fl) (bl := bl) (cl := cl) fl 0 (by omega) 0 u v ⟨V, W, dm, pw, x, y, dv, jr, T⟩
  obtain ⟨V', W', dm', pw', x', y', dv', jr', T'⟩ := U'
  clear T
  obtain ⟨u1, u2, u3, u4, u5, u6, u7, u8, u9, u10, u11, u12, u13, u14, u15, u16, u17, u18, u19, u20⟩ := u
  obtain ⟨v1, v2, v3, v4, v5, v6, v7, v8, v9, v10, v11⟩ := v
  unfold wpX_sync wpY_sync
  exact ⟨fl + 1, hX _ ⟨fl + 1, hY _ ⟨rfl, fl, bl, cl, V', W', dm', pw', x', y', dv', jr', T'⟩⟩⟩
end
