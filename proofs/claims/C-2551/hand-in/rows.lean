section
/-! pure rows to paste: stores, nI and lN arithmetic, masks, shifts, narrowing, branches by naturals (pk_le, pk_lt, pk_eq), loops (lp1 .. lp16: the measure of the state; rp1 ..: recursion), negatives. Take what you need -/
theorem pk_us {f : Nat → Int32} {k : Nat} {x : Int32} : upd f k x k = x := if_pos rfl
theorem pk_un {f : Nat → Int32} {k j : Nat} {x : Int32} (h : j ≠ k) : upd f k x j = f j := if_neg h
theorem pk_uLs {f : Nat → Int64} {k : Nat} {x : Int64} : vp_updL f k x k = x := if_pos rfl
theorem pk_uLn {f : Nat → Int64} {k j : Nat} {x : Int64} (h : j ≠ k) : vp_updL f k x j = f j := if_neg h
theorem pk_sub {a b : Nat} (h : b ≤ a) : nI a - nI b = nI (a - b) := by
  obtain ⟨c, rfl⟩ : ∃ c, a = c + b := ⟨a - b, by omega⟩
  rw [← nI_add, Int32.add_sub_cancel, Nat.add_sub_cancel]
theorem pk_m1 (n : Nat) : nI (n + 1) + (-1) = nI n := by
  rw [← nI_1, Int32.add_assoc, show (1 : Int32) + (-1) = 0 from rfl, Int32.add_zero]
theorem pk_mul (a b : Nat) : nI a * nI b = nI (a * b) := (Int32.ofNat_mul a b).symm
theorem pk_div {a d : Nat} (ha : a < 2 ^ 31) (h0 : 0 < d) (hd : d < 2 ^ 31) : nI a / nI d = nI (a / d) := by
  apply Int32.toInt_inj.mp
  rw [lg_idiv_nonneg (by rw [nI_toInt ha]; omega) (by rw [nI_toInt hd]; omega), nI_toInt ha, nI_toInt hd, nI_toInt (Nat.lt_of_le_of_lt (Nat.div_le_self a d) ha)]
  first | rfl | exact (Int.natCast_ediv _ _).symm
theorem pk_rem {a d : Nat} (ha : a < 2 ^ 31) (h0 : 0 < d) (hd : d < 2 ^ 31) : nI a - nI a / nI d * nI d = nI (a % d) := by
  rw [pk_div ha h0 hd, pk_mul, pk_sub (Nat.div_mul_le_self a d)]
  exact congrArg nI (by have := Nat.div_add_mod' a d; omega)
theorem pk_sub_toInt {a b : Nat} (ha : a < 2 ^ 30) (hb : b < 2 ^ 30) : (nI a - nI b).toInt = (a : Int) - b := by
  rw [Int32.toInt_sub, nI_toInt (by omega), nI_toInt (by omega)]
  exact Int.bmod_eq_of_le (by omega) (by omega)
theorem pk_sneg {a b : Nat} (hb : b < 2 ^ 30) (h : a < b) : nI a - nI b < 0 := by
  rw [Int32.lt_iff_toInt_lt, pk_sub_toInt (by omega) hb, show (0 : Int32).toInt = 0 from by decide]
  omega
theorem pk_ix (x : Int32) {n : Nat} (hn : n < 2 ^ 31) : x < 0 ∨ nI n ≤ x ∨ ∃ j : Nat, j < n ∧ x = nI j := by
  by_cases h : x < 0
  · exact Or.inl h
  · obtain ⟨j, hj, rfl⟩ := nI_of h
    by_cases h2 : j < n
    · exact Or.inr (Or.inr ⟨j, h2, rfl⟩)
    · exact Or.inr (Or.inl (nI_le (by omega) hj))
theorem pk_le {x y : Int32} {A B : Prop} (a b : Nat) (f : a ≤ b → A) (g : b < a → B) (hx : x = nI a := by rfl) (hy : y = nI b := by rfl) (ha : a < 2 ^ 31 := by omega) (hb : b < 2 ^ 31 := by omega) : (x ≤ y → A) ∧ (¬ x ≤ y → B) := by
  subst hx hy
  rw [nI_leI ha hb]
  exact ⟨f, fun z => g (by omega)⟩
theorem pk_lt {x y : Int32} {A B : Prop} (a b : Nat) (f : a < b → A) (g : b ≤ a → B) (hx : x = nI a := by rfl) (hy : y = nI b := by rfl) (ha : a < 2 ^ 31 := by omega) (hb : b < 2 ^ 31 := by omega) : (x < y → A) ∧ (¬ x < y → B) := by
  subst hx hy
  rw [nI_ltI ha hb]
  exact ⟨f, fun z => g (by omega)⟩
theorem pk_eq {x y : Int32} {A B : Prop} (a b : Nat) (f : a = b → A) (g : a ≠ b → B) (hx : x = nI a := by rfl) (hy : y = nI b := by rfl) (ha : a < 2 ^ 31 := by omega) (hb : b < 2 ^ 31 := by omega) : (x = y → A) ∧ (¬ x = y → B) := by
  subst hx hy
  rw [nI_eq ha hb]
  exact ⟨f, g⟩
theorem pk_in {x : Int32} (n N : Nat) (h : n < N) (hx : x = nI n := by rfl) (hN : N < 2 ^ 31 := by omega) : vp_in x N := by
  subst hx
  exact vp_in_nI h hN
theorem pk_cl {x : Int32} (n : Nat) (hx : x = nI n := by rfl) (h : n < 2 ^ 31 := by omega) : x.toNatClampNeg = n := by
  subst hx
  exact nI_clamp h
theorem pk_tn {n : Nat} (h : n < 2 ^ 32) : (nI n).toBitVec.toNat = n := Nat.mod_eq_of_lt h
theorem pk_and (x : Int32) {m : Int32} (k : Nat) (hm : m.toBitVec.toNat = 2 ^ k - 1) : x &&& m = nI (x.toBitVec.toNat % 2 ^ k) := by
  apply Int32.toBitVec_inj.mp
  apply BitVec.eq_of_toNat_eq
  rw [Int32.toBitVec_and, BitVec.toNat_and, hm, Nat.and_two_pow_sub_one_eq_mod]
  show _ = (BitVec.ofNat 32 _).toNat
  rw [BitVec.toNat_ofNat]
  exact (Nat.mod_eq_of_lt (Nat.lt_of_le_of_lt (Nat.mod_le _ _) x.toBitVec.isLt)).symm
theorem pk_andN {n : Nat} (h : n < 2 ^ 32) {m : Int32} (k : Nat) (hm : m.toBitVec.toNat = 2 ^ k - 1) : nI n &&& m = nI (n % 2 ^ k) := by
  rw [pk_and _ k hm, pk_tn h]
theorem pk_andE (x : Int32) {m : Int32} (k : Nat) (hm : m.toBitVec.toNat = 2 ^ k - 1) : ∃ j : Nat, j < 2 ^ k ∧ x &&& m = nI j := ⟨_, Nat.mod_lt _ (Nat.two_pow_pos k), pk_and x k hm⟩
theorem pk_andIn (x : Int32) {m : Int32} (k : Nat) (hm : m.toBitVec.toNat = 2 ^ k - 1) (hk : k ≤ 30) : vp_in (x &&& m) (2 ^ k) := by
  obtain ⟨j, hj, e⟩ := pk_andE x k hm
  rw [e]
  exact vp_in_nI hj (Nat.lt_of_le_of_lt (Nat.pow_le_pow_right (by decide) hk) (by decide))
theorem pk_shl (a s : Int32) (k : Nat) (hs : (s.toBitVec.smod 32).toNat = k) : (a <<< s).toBitVec.toNat = a.toBitVec.toNat * 2 ^ k % 2 ^ 32 := by
  show (a.toBitVec <<< (s.toBitVec.smod 32).toNat).toNat = _
  rw [hs, BitVec.toNat_shiftLeft, Nat.shiftLeft_eq]
theorem pk_shlN {n : Nat} (s : Int32) (k : Nat) (hs : (s.toBitVec.smod 32).toNat = k) (h : n * 2 ^ k < 2 ^ 32) : nI n <<< s = nI (n * 2 ^ k) := by
  apply Int32.toBitVec_inj.mp
  apply BitVec.eq_of_toNat_eq
  have hn : n < 2 ^ 32 := Nat.lt_of_le_of_lt (Nat.le_mul_of_pos_right n (Nat.two_pow_pos k)) h
  rw [pk_shl _ _ k hs, pk_tn hn, pk_tn h, Nat.mod_eq_of_lt h]
theorem pk_shr (a s : Int32) (k : Nat) (hs : (s.toBitVec.smod 32).toNat = k) : (a >>> s).toInt = a.toInt >>> k := by
  show (a.toBitVec.sshiftRight (s.toBitVec.smod 32).toNat).toInt = _
  rw [hs, BitVec.toInt_sshiftRight]
  rfl
theorem pk_shrN {n : Nat} (h : n < 2 ^ 31) (s : Int32) (k : Nat) (hs : (s.toBitVec.smod 32).toNat = k) : nI n >>> s = nI (n / 2 ^ k) := by
  apply Int32.toInt_inj.mp
  have h2 : n / 2 ^ k ≤ n := Nat.div_le_self _ _
  rw [pk_shr _ _ k hs, nI_toInt h, nI_toInt (by omega), Int.shiftRight_eq_div_pow]
  rfl
theorem pk_ushr (x s : Int32) (k : Nat) (hs : ((s.toUInt32 &&& Int32.toUInt32 31).toBitVec % 32).toNat = k) : (x.toUInt32 >>> (s.toUInt32 &&& Int32.toUInt32 31)).toInt32.toBitVec.toNat = x.toBitVec.toNat / 2 ^ k := by
  have e : (x.toUInt32 >>> (s.toUInt32 &&& Int32.toUInt32 31)).toInt32.toBitVec = x.toBitVec >>> k := by
    rw [← hs]
    exact UInt32.toBitVec_shiftRight _ _
  rw [e, BitVec.toNat_ushiftRight, Nat.shiftRight_eq_div_pow]
theorem pk_ushrN {n : Nat} (hn : n < 2 ^ 32) (s : Int32) (k : Nat) (hs : ((s.toUInt32 &&& Int32.toUInt32 31).toBitVec % 32).toNat = k) : ((nI n).toUInt32 >>> (s.toUInt32 &&& Int32.toUInt32 31)).toInt32 = nI (n / 2 ^ k) := by
  apply Int32.toBitVec_inj.mp
  apply BitVec.eq_of_toNat_eq
  rw [pk_ushr _ s k hs, pk_tn hn, pk_tn (Nat.lt_of_le_of_lt (Nat.div_le_self _ _) hn)]
theorem pk_nb (z : Int32) : narrow .byte (.int z.toInt8.toInt32) = .int z.toInt8.toInt32 := congrArg Value.int (by simp)
theorem pk_ns (z : Int32) : narrow .short (.int z.toInt16.toInt32) = .int z.toInt16.toInt32 := congrArg Value.int (by simp)
theorem pk_fb (r : Int32) : fits .byte (.int r.toInt8.toInt32) = true := by
  have ⟨a, b⟩ := lg_i2b_range r
  have h1 : (-128 : Int32).toInt = -128 := by decide
  have h2 : (127 : Int32).toInt = 127 := by decide
  simp only [fits, Bool.and_eq_true, decide_eq_true_eq, Int32.le_iff_toInt_le, h1, h2]
  omega
theorem pk_fs (r : Int32) : fits .short (.int r.toInt16.toInt32) = true := by
  have ⟨a, b⟩ := lg_i2s_range r
  have h1 : (-32768 : Int32).toInt = -32768 := by decide
  have h2 : (32767 : Int32).toInt = 32767 := by decide
  simp only [fits, Bool.and_eq_true, decide_eq_true_eq, Int32.le_iff_toInt_le, h1, h2]
  omega
theorem pk_charN {q : Nat} (hq : q < 65536) : narrow .char (.int (nI q)) = .int (nI q) ∧ fits .char (.int (nI q)) = true := by
  constructor
  · have e : (nI q).toUInt32.toUInt16.toUInt32.toInt32 = nI q := by
      apply Int32.toBitVec_inj.mp
      apply BitVec.eq_of_toNat_eq
      show (nI q).toUInt32.toUInt16.toUInt32.toNat = q % 2 ^ 32
      rw [UInt16.toNat_toUInt32, UInt32.toNat_toUInt16, show (nI q).toUInt32.toNat = q % 2 ^ 32 from rfl]
      omega
    exact congrArg Value.int e
  · have a : (0 : Int32) ≤ nI q := nI_pos' (by omega)
    have b : nI q ≤ 65535 := nI_le (b := 65535) (by omega) (by decide)
    show (decide ((0 : Int32) ≤ nI q) && decide (nI q ≤ 65535)) = true
    rw [decide_eq_true a, decide_eq_true b]
    rfl
theorem pk_char (x : Int32) : (x.toUInt32 % 65536).toInt32 = nI (x.toBitVec.toNat % 65536) := by
  apply Int32.toBitVec_inj.mp
  apply BitVec.eq_of_toNat_eq
  rw [pk_tn (by omega)]
  show (x.toUInt32 % 65536).toNat = _
  rw [UInt32.toNat_mod]
  rfl
theorem pk_nc (x : Int32) : narrow .char (.int (x.toUInt32 % 65536).toInt32) = .int (x.toUInt32 % 65536).toInt32 := by
  rw [pk_char]
  exact (pk_charN (Nat.mod_lt _ (by decide))).1
theorem pk_fc (x : Int32) : fits .char (.int (x.toUInt32 % 65536).toInt32) = true := by
  rw [pk_char]
  exact (pk_charN (Nat.mod_lt _ (by decide))).2
theorem pk_vb (z : Int32) : vp_nar .byte z.toInt8.toInt32 = z.toInt8.toInt32 := by rw [vp_nar_byte]; simp
theorem pk_vs (z : Int32) : vp_nar .short z.toInt16.toInt32 = z.toInt16.toInt32 := by rw [vp_nar_short]; simp
theorem pk_vc (z : Int32) : vp_nar .char (z.toUInt32 % 65536).toInt32 = (z.toUInt32 % 65536).toInt32 := Value.int.inj (pk_nc z)
theorem pk_lT {n : Nat} (h : n < 2 ^ 63) : (lN n).toInt = (n : Int) := lg_ofNat_toInt h
theorem pk_lLT {a b : Nat} (ha : a < 2 ^ 63) (hb : b < 2 ^ 63) : lN a < lN b ↔ a < b := by
  rw [Int64.lt_iff_toInt_lt, pk_lT ha, pk_lT hb]; omega
theorem pk_lLE {a b : Nat} (ha : a < 2 ^ 63) (hb : b < 2 ^ 63) : lN a ≤ lN b ↔ a ≤ b := by
  rw [Int64.le_iff_toInt_le, pk_lT ha, pk_lT hb]; omega
theorem pk_lEQ {a b : Nat} (ha : a < 2 ^ 63) (hb : b < 2 ^ 63) : lN a = lN b ↔ a = b := by
  rw [← Int64.toInt_inj, pk_lT ha, pk_lT hb]; omega
theorem pk_lOf {x : Int64} (h : ¬ x < 0) : ∃ k : Nat, k < 2 ^ 63 ∧ x = lN k := by
  rw [Int64.lt_iff_toInt_lt] at h
  have h0 : (0 : Int64).toInt = 0 := by decide
  have hx := Int64.toInt_lt x
  refine ⟨x.toInt.toNat, by omega, Int64.toInt_inj.mp ?_⟩
  rw [pk_lT (by omega)]
  omega
theorem pk_lDiv {a b : Nat} (ha : a < 2 ^ 63) (h0 : 0 < b) (hb : b < 2 ^ 63) : lN a / lN b = lN (a / b) := by
  apply Int64.toInt_inj.mp
  rw [lg_ldiv_nonneg (by rw [pk_lT ha]; omega) (by rw [pk_lT hb]; omega), pk_lT ha, pk_lT hb, pk_lT (Nat.lt_of_le_of_lt (Nat.div_le_self a b) ha)]
  rfl
theorem pk_lRem {a b : Nat} (ha : a < 2 ^ 63) (h0 : 0 < b) (hb : b < 2 ^ 63) : lN a - lN a / lN b * lN b = lN (a % b) := by
  rw [pk_lDiv ha h0 hb, lN_mul, lN_sub (Nat.div_mul_le_self a b)]
  exact congrArg lN (by have := Nat.div_add_mod' a b; omega)
theorem pk_loop {σ : Type} (W : Nat → Nat → σ → Prop) (I : Nat → σ → Prop) (e i0 : Nat) (s : σ) (hi : i0 ≤ e) (h0 : I i0 s) (hx : ∀ n s, I e s → W (n + 1) e s)
    (hs : ∀ n i s, i < e → I i s → (∀ s', I (i + 1) s' → W n (i + 1) s') → W (n + 1) i s) : ∃ n, W n i0 s :=
  ⟨e + 1, loop_i W I e hx hs (e + 1) i0 s hi (by omega) h0⟩
theorem pk_loopD {σ : Type} (W : Nat → Nat → σ → Prop) (I : Nat → σ → Prop) (hx : ∀ n s, I 0 s → W (n + 1) 0 s)
    (hs : ∀ n i s, I (i + 1) s → (∀ s', I i s' → W n i s') → W (n + 1) (i + 1) s) : ∀ (e : Nat) (s : σ), I e s → W (e + 1) e s := by
  intro e
  induction e with
  | zero => exact fun s h => hx 0 s h
  | succ e ih => exact fun s h => hs (e + 1) e s h (fun s' h' => ih s' h')
theorem lp1 {A1 : Type} (W : Nat → A1 → Prop) (I : A1 → Prop) (μ : A1 → Nat) (hs : ∀ (n : Nat) (a1 : A1), I a1 → (∀ (b1 : A1), I b1 → μ b1 < μ a1 → W n b1) → W (n + 1) a1) (a1 : A1) (h : I a1) : ∃ n, W n a1 :=
  loop_m (σ := A1) (fun n s => W n s) (fun s => I s) (fun s => μ s) (fun n s hI hk => hs n s hI (fun b1 h9 hm => hk b1 h9 hm)) a1 h
theorem lp2 {A1 A2 : Type} (W : Nat → A1 → A2 → Prop) (I : A1 → A2 → Prop) (μ : A1 → A2 → Nat) (hs : ∀ (n : Nat) (a1 : A1) (a2 : A2), I a1 a2 → (∀ (b1 : A1) (b2 : A2), I b1 b2 → μ b1 b2 < μ a1 a2 → W n b1 b2) → W (n + 1) a1 a2) (a1 : A1) (a2 : A2) (h : I a1 a2) : ∃ n, W n a1 a2 :=
  loop_m (σ := A1 × A2) (fun n s => W n s.1 s.2) (fun s => I s.1 s.2) (fun s => μ s.1 s.2) (fun n s hI hk => hs n s.1 s.2 hI (fun b1 b2 h9 hm => hk (b1, b2) h9 hm)) (a1, a2) h
theorem lp3 {A1 A2 A3 : Type} (W : Nat → A1 → A2 → A3 → Prop) (I : A1 → A2 → A3 → Prop) (μ : A1 → A2 → A3 → Nat) (hs : ∀ (n : Nat) (a1 : A1) (a2 : A2) (a3 : A3), I a1 a2 a3 → (∀ (b1 : A1) (b2 : A2) (b3 : A3), I b1 b2 b3 → μ b1 b2 b3 < μ a1 a2 a3 → W n b1 b2 b3) → W (n + 1) a1 a2 a3) (a1 : A1) (a2 : A2) (a3 : A3) (h : I a1 a2 a3) : ∃ n, W n a1 a2 a3 :=
  loop_m (σ := A1 × A2 × A3) (fun n s => W n s.1 s.2.1 s.2.2) (fun s => I s.1 s.2.1 s.2.2) (fun s => μ s.1 s.2.1 s.2.2) (fun n s hI hk => hs n s.1 s.2.1 s.2.2 hI (fun b1 b2 b3 h9 hm => hk (b1, b2, b3) h9 hm)) (a1, a2, a3) h
theorem lp4 {A1 A2 A3 A4 : Type} (W : Nat → A1 → A2 → A3 → A4 → Prop) (I : A1 → A2 → A3 → A4 → Prop) (μ : A1 → A2 → A3 → A4 → Nat) (hs : ∀ (n : Nat) (a1 : A1) (a2 : A2) (a3 : A3) (a4 : A4), I a1 a2 a3 a4 → (∀ (b1 : A1) (b2 : A2) (b3 : A3) (b4 : A4), I b1 b2 b3 b4 → μ b1 b2 b3 b4 < μ a1 a2 a3 a4 → W n b1 b2 b3 b4) → W (n + 1) a1 a2 a3 a4) (a1 : A1) (a2 : A2) (a3 : A3) (a4 : A4) (h : I a1 a2 a3 a4) : ∃ n, W n a1 a2 a3 a4 :=
  loop_m (σ := A1 × A2 × A3 × A4) (fun n s => W n s.1 s.2.1 s.2.2.1 s.2.2.2) (fun s => I s.1 s.2.1 s.2.2.1 s.2.2.2) (fun s => μ s.1 s.2.1 s.2.2.1 s.2.2.2) (fun n s hI hk => hs n s.1 s.2.1 s.2.2.1 s.2.2.2 hI (fun b1 b2 b3 b4 h9 hm => hk (b1, b2, b3, b4) h9 hm)) (a1, a2, a3, a4) h
theorem lp5 {A1 A2 A3 A4 A5 : Type} (W : Nat → A1 → A2 → A3 → A4 → A5 → Prop) (I : A1 → A2 → A3 → A4 → A5 → Prop) (μ : A1 → A2 → A3 → A4 → A5 → Nat) (hs : ∀ (n : Nat) (a1 : A1) (a2 : A2) (a3 : A3) (a4 : A4) (a5 : A5), I a1 a2 a3 a4 a5 → (∀ (b1 : A1) (b2 : A2) (b3 : A3) (b4 : A4) (b5 : A5), I b1 b2 b3 b4 b5 → μ b1 b2 b3 b4 b5 < μ a1 a2 a3 a4 a5 → W n b1 b2 b3 b4 b5) → W (n + 1) a1 a2 a3 a4 a5) (a1 : A1) (a2 : A2) (a3 : A3) (a4 : A4) (a5 : A5) (h : I a1 a2 a3 a4 a5) : ∃ n, W n a1 a2 a3 a4 a5 :=
  loop_m (σ := A1 × A2 × A3 × A4 × A5) (fun n s => W n s.1 s.2.1 s.2.2.1 s.2.2.2.1 s.2.2.2.2) (fun s => I s.1 s.2.1 s.2.2.1 s.2.2.2.1 s.2.2.2.2) (fun s => μ s.1 s.2.1 s.2.2.1 s.2.2.2.1 s.2.2.2.2) (fun n s hI hk => hs n s.1 s.2.1 s.2.2.1 s.2.2.2.1 s.2.2.2.2 hI (fun b1 b2 b3 b4 b5 h9 hm => hk (b1, b2, b3, b4, b5) h9 hm)) (a1, a2, a3, a4, a5) h
theorem lp6 {A1 A2 A3 A4 A5 A6 : Type} (W : Nat → A1 → A2 → A3 → A4 → A5 → A6 → Prop) (I : A1 → A2 → A3 → A4 → A5 → A6 → Prop) (μ : A1 → A2 → A3 → A4 → A5 → A6 → Nat) (hs : ∀ (n : Nat) (a1 : A1) (a2 : A2) (a3 : A3) (a4 : A4) (a5 : A5) (a6 : A6), I a1 a2 a3 a4 a5 a6 → (∀ (b1 : A1) (b2 : A2) (b3 : A3) (b4 : A4) (b5 : A5) (b6 : A6), I b1 b2 b3 b4 b5 b6 → μ b1 b2 b3 b4 b5 b6 < μ a1 a2 a3 a4 a5 a6 → W n b1 b2 b3 b4 b5 b6) → W (n + 1) a1 a2 a3 a4 a5 a6) (a1 : A1) (a2 : A2) (a3 : A3) (a4 : A4) (a5 : A5) (a6 : A6) (h : I a1 a2 a3 a4 a5 a6) : ∃ n, W n a1 a2 a3 a4 a5 a6 :=
  loop_m (σ := A1 × A2 × A3 × A4 × A5 × A6) (fun n s => W n s.1 s.2.1 s.2.2.1 s.2.2.2.1 s.2.2.2.2.1 s.2.2.2.2.2) (fun s => I s.1 s.2.1 s.2.2.1 s.2.2.2.1 s.2.2.2.2.1 s.2.2.2.2.2) (fun s => μ s.1 s.2.1 s.2.2.1 s.2.2.2.1 s.2.2.2.2.1 s.2.2.2.2.2) (fun n s hI hk => hs n s.1 s.2.1 s.2.2.1 s.2.2.2.1 s.2.2.2.2.1 s.2.2.2.2.2 hI (fun b1 b2 b3 b4 b5 b6 h9 hm => hk (b1, b2, b3, b4, b5, b6) h9 hm)) (a1, a2, a3, a4, a5, a6) h
theorem lp7 {A1 A2 A3 A4 A5 A6 A7 : Type} (W : Nat → A1 → A2 → A3 → A4 → A5 → A6 → A7 → Prop) (I : A1 → A2 → A3 → A4 → A5 → A6 → A7 → Prop) (μ : A1 → A2 → A3 → A4 → A5 → A6 → A7 → Nat) (hs : ∀ (n : Nat) (a1 : A1) (a2 : A2) (a3 : A3) (a4 : A4) (a5 : A5) (a6 : A6) (a7 : A7), I a1 a2 a3 a4 a5 a6 a7 → (∀ (b1 : A1) (b2 : A2) (b3 : A3) (b4 : A4) (b5 : A5) (b6 : A6) (b7 : A7), I b1 b2 b3 b4 b5 b6 b7 → μ b1 b2 b3 b4 b5 b6 b7 < μ a1 a2 a3 a4 a5 a6 a7 → W n b1 b2 b3 b4 b5 b6 b7) → W (n + 1) a1 a2 a3 a4 a5 a6 a7) (a1 : A1) (a2 : A2) (a3 : A3) (a4 : A4) (a5 : A5) (a6 : A6) (a7 : A7) (h : I a1 a2 a3 a4 a5 a6 a7) : ∃ n, W n a1 a2 a3 a4 a5 a6 a7 :=
  loop_m (σ := A1 × A2 × A3 × A4 × A5 × A6 × A7) (fun n s => W n s.1 s.2.1 s.2.2.1 s.2.2.2.1 s.2.2.2.2.1 s.2.2.2.2.2.1 s.2.2.2.2.2.2) (fun s => I s.1 s.2.1 s.2.2.1 s.2.2.2.1 s.2.2.2.2.1 s.2.2.2.2.2.1 s.2.2.2.2.2.2) (fun s => μ s.1 s.2.1 s.2.2.1 s.2.2.2.1 s.2.2.2.2.1 s.2.2.2.2.2.1 s.2.2.2.2.2.2) (fun n s hI hk => hs n s.1 s.2.1 s.2.2.1 s.2.2.2.1 s.2.2.2.2.1 s.2.2.2.2.2.1 s.2.2.2.2.2.2 hI (fun b1 b2 b3 b4 b5 b6 b7 h9 hm => hk (b1, b2, b3, b4, b5, b6, b7) h9 hm)) (a1, a2, a3, a4, a5, a6, a7) h
theorem lp8 {A1 A2 A3 A4 A5 A6 A7 A8 : Type} (W : Nat → A1 → A2 → A3 → A4 → A5 → A6 → A7 → A8 → Prop) (I : A1 → A2 → A3 → A4 → A5 → A6 → A7 → A8 → Prop) (μ : A1 → A2 → A3 → A4 → A5 → A6 → A7 → A8 → Nat) (hs : ∀ (n : Nat) (a1 : A1) (a2 : A2) (a3 : A3) (a4 : A4) (a5 : A5) (a6 : A6) (a7 : A7) (a8 : A8), I a1 a2 a3 a4 a5 a6 a7 a8 → (∀ (b1 : A1) (b2 : A2) (b3 : A3) (b4 : A4) (b5 : A5) (b6 : A6) (b7 : A7) (b8 : A8), I b1 b2 b3 b4 b5 b6 b7 b8 → μ b1 b2 b3 b4 b5 b6 b7 b8 < μ a1 a2 a3 a4 a5 a6 a7 a8 → W n b1 b2 b3 b4 b5 b6 b7 b8) → W (n + 1) a1 a2 a3 a4 a5 a6 a7 a8) (a1 : A1) (a2 : A2) (a3 : A3) (a4 : A4) (a5 : A5) (a6 : A6) (a7 : A7) (a8 : A8) (h : I a1 a2 a3 a4 a5 a6 a7 a8) : ∃ n, W n a1 a2 a3 a4 a5 a6 a7 a8 :=
  loop_m (σ := A1 × A2 × A3 × A4 × A5 × A6 × A7 × A8) (fun n s => W n s.1 s.2.1 s.2.2.1 s.2.2.2.1 s.2.2.2.2.1 s.2.2.2.2.2.1 s.2.2.2.2.2.2.1 s.2.2.2.2.2.2.2) (fun s => I s.1 s.2.1 s.2.2.1 s.2.2.2.1 s.2.2.2.2.1 s.2.2.2.2.2.1 s.2.2.2.2.2.2.1 s.2.2.2.2.2.2.2) (fun s => μ s.1 s.2.1 s.2.2.1 s.2.2.2.1 s.2.2.2.2.1 s.2.2.2.2.2.1 s.2.2.2.2.2.2.1 s.2.2.2.2.2.2.2) (fun n s hI hk => hs n s.1 s.2.1 s.2.2.1 s.2.2.2.1 s.2.2.2.2.1 s.2.2.2.2.2.1 s.2.2.2.2.2.2.1 s.2.2.2.2.2.2.2 hI (fun b1 b2 b3 b4 b5 b6 b7 b8 h9 hm => hk (b1, b2, b3, b4, b5, b6, b7, b8) h9 hm)) (a1, a2, a3, a4, a5, a6, a7, a8) h
theorem lp9 {A1 A2 A3 A4 A5 A6 A7 A8 A9 : Type} (W : Nat → A1 → A2 → A3 → A4 → A5 → A6 → A7 → A8 → A9 → Prop) (I : A1 → A2 → A3 → A4 → A5 → A6 → A7 → A8 → A9 → Prop) (μ : A1 → A2 → A3 → A4 → A5 → A6 → A7 → A8 → A9 → Nat) (hs : ∀ (n : Nat) (a1 : A1) (a2 : A2) (a3 : A3) (a4 : A4) (a5 : A5) (a6 : A6) (a7 : A7) (a8 : A8) (a9 : A9), I a1 a2 a3 a4 a5 a6 a7 a8 a9 → (∀ (b1 : A1) (b2 : A2) (b3 : A3) (b4 : A4) (b5 : A5) (b6 : A6) (b7 : A7) (b8 : A8) (b9 : A9), I b1 b2 b3 b4 b5 b6 b7 b8 b9 → μ b1 b2 b3 b4 b5 b6 b7 b8 b9 < μ a1 a2 a3 a4 a5 a6 a7 a8 a9 → W n b1 b2 b3 b4 b5 b6 b7 b8 b9) → W (n + 1) a1 a2 a3 a4 a5 a6 a7 a8 a9) (a1 : A1) (a2 : A2) (a3 : A3) (a4 : A4) (a5 : A5) (a6 : A6) (a7 : A7) (a8 : A8) (a9 : A9) (h : I a1 a2 a3 a4 a5 a6 a7 a8 a9) : ∃ n, W n a1 a2 a3 a4 a5 a6 a7 a8 a9 :=
  loop_m (σ := A1 × A2 × A3 × A4 × A5 × A6 × A7 × A8 × A9) (fun n s => W n s.1 s.2.1 s.2.2.1 s.2.2.2.1 s.2.2.2.2.1 s.2.2.2.2.2.1 s.2.2.2.2.2.2.1 s.2.2.2.2.2.2.2.1 s.2.2.2.2.2.2.2.2) (fun s => I s.1 s.2.1 s.2.2.1 s.2.2.2.1 s.2.2.2.2.1 s.2.2.2.2.2.1 s.2.2.2.2.2.2.1 s.2.2.2.2.2.2.2.1 s.2.2.2.2.2.2.2.2) (fun s => μ s.1 s.2.1 s.2.2.1 s.2.2.2.1 s.2.2.2.2.1 s.2.2.2.2.2.1 s.2.2.2.2.2.2.1 s.2.2.2.2.2.2.2.1 s.2.2.2.2.2.2.2.2) (fun n s hI hk => hs n s.1 s.2.1 s.2.2.1 s.2.2.2.1 s.2.2.2.2.1 s.2.2.2.2.2.1 s.2.2.2.2.2.2.1 s.2.2.2.2.2.2.2.1 s.2.2.2.2.2.2.2.2 hI (fun b1 b2 b3 b4 b5 b6 b7 b8 b9 h9 hm => hk (b1, b2, b3, b4, b5, b6, b7, b8, b9) h9 hm)) (a1, a2, a3, a4, a5, a6, a7, a8, a9) h
theorem lp10 {A1 A2 A3 A4 A5 A6 A7 A8 A9 A10 : Type} (W : Nat → A1 → A2 → A3 → A4 → A5 → A6 → A7 → A8 → A9 → A10 → Prop) (I : A1 → A2 → A3 → A4 → A5 → A6 → A7 → A8 → A9 → A10 → Prop) (μ : A1 → A2 → A3 → A4 → A5 → A6 → A7 → A8 → A9 → A10 → Nat) (hs : ∀ (n : Nat) (a1 : A1) (a2 : A2) (a3 : A3) (a4 : A4) (a5 : A5) (a6 : A6) (a7 : A7) (a8 : A8) (a9 : A9) (a10 : A10), I a1 a2 a3 a4 a5 a6 a7 a8 a9 a10 → (∀ (b1 : A1) (b2 : A2) (b3 : A3) (b4 : A4) (b5 : A5) (b6 : A6) (b7 : A7) (b8 : A8) (b9 : A9) (b10 : A10), I b1 b2 b3 b4 b5 b6 b7 b8 b9 b10 → μ b1 b2 b3 b4 b5 b6 b7 b8 b9 b10 < μ a1 a2 a3 a4 a5 a6 a7 a8 a9 a10 → W n b1 b2 b3 b4 b5 b6 b7 b8 b9 b10) → W (n + 1) a1 a2 a3 a4 a5 a6 a7 a8 a9 a10) (a1 : A1) (a2 : A2) (a3 : A3) (a4 : A4) (a5 : A5) (a6 : A6) (a7 : A7) (a8 : A8) (a9 : A9) (a10 : A10) (h : I a1 a2 a3 a4 a5 a6 a7 a8 a9 a10) : ∃ n, W n a1 a2 a3 a4 a5 a6 a7 a8 a9 a10 :=
  loop_m (σ := A1 × A2 × A3 × A4 × A5 × A6 × A7 × A8 × A9 × A10) (fun n s => W n s.1 s.2.1 s.2.2.1 s.2.2.2.1 s.2.2.2.2.1 s.2.2.2.2.2.1 s.2.2.2.2.2.2.1 s.2.2.2.2.2.2.2.1 s.2.2.2.2.2.2.2.2.1 s.2.2.2.2.2.2.2.2.2) (fun s => I s.1 s.2.1 s.2.2.1 s.2.2.2.1 s.2.2.2.2.1 s.2.2.2.2.2.1 s.2.2.2.2.2.2.1 s.2.2.2.2.2.2.2.1 s.2.2.2.2.2.2.2.2.1 s.2.2.2.2.2.2.2.2.2) (fun s => μ s.1 s.2.1 s.2.2.1 s.2.2.2.1 s.2.2.2.2.1 s.2.2.2.2.2.1 s.2.2.2.2.2.2.1 s.2.2.2.2.2.2.2.1 s.2.2.2.2.2.2.2.2.1 s.2.2.2.2.2.2.2.2.2) (fun n s hI hk => hs n s.1 s.2.1 s.2.2.1 s.2.2.2.1 s.2.2.2.2.1 s.2.2.2.2.2.1 s.2.2.2.2.2.2.1 s.2.2.2.2.2.2.2.1 s.2.2.2.2.2.2.2.2.1 s.2.2.2.2.2.2.2.2.2 hI (fun b1 b2 b3 b4 b5 b6 b7 b8 b9 b10 h9 hm => hk (b1, b2, b3, b4, b5, b6, b7, b8, b9, b10) h9 hm)) (a1, a2, a3, a4, a5, a6, a7, a8, a9, a10) h
theorem lp11 {A1 A2 A3 A4 A5 A6 A7 A8 A9 A10 A11 : Type} (W : Nat → A1 → A2 → A3 → A4 → A5 → A6 → A7 → A8 → A9 → A10 → A11 → Prop) (I : A1 → A2 → A3 → A4 → A5 → A6 → A7 → A8 → A9 → A10 → A11 → Prop) (μ : A1 → A2 → A3 → A4 → A5 → A6 → A7 → A8 → A9 → A10 → A11 → Nat) (hs : ∀ (n : Nat) (a1 : A1) (a2 : A2) (a3 : A3) (a4 : A4) (a5 : A5) (a6 : A6) (a7 : A7) (a8 : A8) (a9 : A9) (a10 : A10) (a11 : A11), I a1 a2 a3 a4 a5 a6 a7 a8 a9 a10 a11 → (∀ (b1 : A1) (b2 : A2) (b3 : A3) (b4 : A4) (b5 : A5) (b6 : A6) (b7 : A7) (b8 : A8) (b9 : A9) (b10 : A10) (b11 : A11), I b1 b2 b3 b4 b5 b6 b7 b8 b9 b10 b11 → μ b1 b2 b3 b4 b5 b6 b7 b8 b9 b10 b11 < μ a1 a2 a3 a4 a5 a6 a7 a8 a9 a10 a11 → W n b1 b2 b3 b4 b5 b6 b7 b8 b9 b10 b11) → W (n + 1) a1 a2 a3 a4 a5 a6 a7 a8 a9 a10 a11) (a1 : A1) (a2 : A2) (a3 : A3) (a4 : A4) (a5 : A5) (a6 : A6) (a7 : A7) (a8 : A8) (a9 : A9) (a10 : A10) (a11 : A11) (h : I a1 a2 a3 a4 a5 a6 a7 a8 a9 a10 a11) : ∃ n, W n a1 a2 a3 a4 a5 a6 a7 a8 a9 a10 a11 :=
  loop_m (σ := A1 × A2 × A3 × A4 × A5 × A6 × A7 × A8 × A9 × A10 × A11) (fun n s => W n s.1 s.2.1 s.2.2.1 s.2.2.2.1 s.2.2.2.2.1 s.2.2.2.2.2.1 s.2.2.2.2.2.2.1 s.2.2.2.2.2.2.2.1 s.2.2.2.2.2.2.2.2.1 s.2.2.2.2.2.2.2.2.2.1 s.2.2.2.2.2.2.2.2.2.2) (fun s => I s.1 s.2.1 s.2.2.1 s.2.2.2.1 s.2.2.2.2.1 s.2.2.2.2.2.1 s.2.2.2.2.2.2.1 s.2.2.2.2.2.2.2.1 s.2.2.2.2.2.2.2.2.1 s.2.2.2.2.2.2.2.2.2.1 s.2.2.2.2.2.2.2.2.2.2) (fun s => μ s.1 s.2.1 s.2.2.1 s.2.2.2.1 s.2.2.2.2.1 s.2.2.2.2.2.1 s.2.2.2.2.2.2.1 s.2.2.2.2.2.2.2.1 s.2.2.2.2.2.2.2.2.1 s.2.2.2.2.2.2.2.2.2.1 s.2.2.2.2.2.2.2.2.2.2) (fun n s hI hk => hs n s.1 s.2.1 s.2.2.1 s.2.2.2.1 s.2.2.2.2.1 s.2.2.2.2.2.1 s.2.2.2.2.2.2.1 s.2.2.2.2.2.2.2.1 s.2.2.2.2.2.2.2.2.1 s.2.2.2.2.2.2.2.2.2.1 s.2.2.2.2.2.2.2.2.2.2 hI (fun b1 b2 b3 b4 b5 b6 b7 b8 b9 b10 b11 h9 hm => hk (b1, b2, b3, b4, b5, b6, b7, b8, b9, b10, b11) h9 hm)) (a1, a2, a3, a4, a5, a6, a7, a8, a9, a10, a11) h
theorem lp12 {A1 A2 A3 A4 A5 A6 A7 A8 A9 A10 A11 A12 : Type} (W : Nat → A1 → A2 → A3 → A4 → A5 → A6 → A7 → A8 → A9 → A10 → A11 → A12 → Prop) (I : A1 → A2 → A3 → A4 → A5 → A6 → A7 → A8 → A9 → A10 → A11 → A12 → Prop) (μ : A1 → A2 → A3 → A4 → A5 → A6 → A7 → A8 → A9 → A10 → A11 → A12 → Nat) (hs : ∀ (n : Nat) (a1 : A1) (a2 : A2) (a3 : A3) (a4 : A4) (a5 : A5) (a6 : A6) (a7 : A7) (a8 : A8) (a9 : A9) (a10 : A10) (a11 : A11) (a12 : A12), I a1 a2 a3 a4 a5 a6 a7 a8 a9 a10 a11 a12 → (∀ (b1 : A1) (b2 : A2) (b3 : A3) (b4 : A4) (b5 : A5) (b6 : A6) (b7 : A7) (b8 : A8) (b9 : A9) (b10 : A10) (b11 : A11) (b12 : A12), I b1 b2 b3 b4 b5 b6 b7 b8 b9 b10 b11 b12 → μ b1 b2 b3 b4 b5 b6 b7 b8 b9 b10 b11 b12 < μ a1 a2 a3 a4 a5 a6 a7 a8 a9 a10 a11 a12 → W n b1 b2 b3 b4 b5 b6 b7 b8 b9 b10 b11 b12) → W (n + 1) a1 a2 a3 a4 a5 a6 a7 a8 a9 a10 a11 a12) (a1 : A1) (a2 : A2) (a3 : A3) (a4 : A4) (a5 : A5) (a6 : A6) (a7 : A7) (a8 : A8) (a9 : A9) (a10 : A10) (a11 : A11) (a12 : A12) (h : I a1 a2 a3 a4 a5 a6 a7 a8 a9 a10 a11 a12) : ∃ n, W n a1 a2 a3 a4 a5 a6 a7 a8 a9 a10 a11 a12 :=
  loop_m (σ := A1 × A2 × A3 × A4 × A5 × A6 × A7 × A8 × A9 × A10 × A11 × A12) (fun n s => W n s.1 s.2.1 s.2.2.1 s.2.2.2.1 s.2.2.2.2.1 s.2.2.2.2.2.1 s.2.2.2.2.2.2.1 s.2.2.2.2.2.2.2.1 s.2.2.2.2.2.2.2.2.1 s.2.2.2.2.2.2.2.2.2.1 s.2.2.2.2.2.2.2.2.2.2.1 s.2.2.2.2.2.2.2.2.2.2.2) (fun s => I s.1 s.2.1 s.2.2.1 s.2.2.2.1 s.2.2.2.2.1 s.2.2.2.2.2.1 s.2.2.2.2.2.2.1 s.2.2.2.2.2.2.2.1 s.2.2.2.2.2.2.2.2.1 s.2.2.2.2.2.2.2.2.2.1 s.2.2.2.2.2.2.2.2.2.2.1 s.2.2.2.2.2.2.2.2.2.2.2) (fun s => μ s.1 s.2.1 s.2.2.1 s.2.2.2.1 s.2.2.2.2.1 s.2.2.2.2.2.1 s.2.2.2.2.2.2.1 s.2.2.2.2.2.2.2.1 s.2.2.2.2.2.2.2.2.1 s.2.2.2.2.2.2.2.2.2.1 s.2.2.2.2.2.2.2.2.2.2.1 s.2.2.2.2.2.2.2.2.2.2.2) (fun n s hI hk => hs n s.1 s.2.1 s.2.2.1 s.2.2.2.1 s.2.2.2.2.1 s.2.2.2.2.2.1 s.2.2.2.2.2.2.1 s.2.2.2.2.2.2.2.1 s.2.2.2.2.2.2.2.2.1 s.2.2.2.2.2.2.2.2.2.1 s.2.2.2.2.2.2.2.2.2.2.1 s.2.2.2.2.2.2.2.2.2.2.2 hI (fun b1 b2 b3 b4 b5 b6 b7 b8 b9 b10 b11 b12 h9 hm => hk (b1, b2, b3, b4, b5, b6, b7, b8, b9, b10, b11, b12) h9 hm)) (a1, a2, a3, a4, a5, a6, a7, a8, a9, a10, a11, a12) h
theorem lp13 {A1 A2 A3 A4 A5 A6 A7 A8 A9 A10 A11 A12 A13 : Type} (W : Nat → A1 → A2 → A3 → A4 → A5 → A6 → A7 → A8 → A9 → A10 → A11 → A12 → A13 → Prop) (I : A1 → A2 → A3 → A4 → A5 → A6 → A7 → A8 → A9 → A10 → A11 → A12 → A13 → Prop) (μ : A1 → A2 → A3 → A4 → A5 → A6 → A7 → A8 → A9 → A10 → A11 → A12 → A13 → Nat) (hs : ∀ (n : Nat) (a1 : A1) (a2 : A2) (a3 : A3) (a4 : A4) (a5 : A5) (a6 : A6) (a7 : A7) (a8 : A8) (a9 : A9) (a10 : A10) (a11 : A11) (a12 : A12) (a13 : A13), I a1 a2 a3 a4 a5 a6 a7 a8 a9 a10 a11 a12 a13 → (∀ (b1 : A1) (b2 : A2) (b3 : A3) (b4 : A4) (b5 : A5) (b6 : A6) (b7 : A7) (b8 : A8) (b9 : A9) (b10 : A10) (b11 : A11) (b12 : A12) (b13 : A13), I b1 b2 b3 b4 b5 b6 b7 b8 b9 b10 b11 b12 b13 → μ b1 b2 b3 b4 b5 b6 b7 b8 b9 b10 b11 b12 b13 < μ a1 a2 a3 a4 a5 a6 a7 a8 a9 a10 a11 a12 a13 → W n b1 b2 b3 b4 b5 b6 b7 b8 b9 b10 b11 b12 b13) → W (n + 1) a1 a2 a3 a4 a5 a6 a7 a8 a9 a10 a11 a12 a13) (a1 : A1) (a2 : A2) (a3 : A3) (a4 : A4) (a5 : A5) (a6 : A6) (a7 : A7) (a8 : A8) (a9 : A9) (a10 : A10) (a11 : A11) (a12 : A12) (a13 : A13) (h : I a1 a2 a3 a4 a5 a6 a7 a8 a9 a10 a11 a12 a13) : ∃ n, W n a1 a2 a3 a4 a5 a6 a7 a8 a9 a10 a11 a12 a13 :=
  loop_m (σ := A1 × A2 × A3 × A4 × A5 × A6 × A7 × A8 × A9 × A10 × A11 × A12 × A13) (fun n s => W n s.1 s.2.1 s.2.2.1 s.2.2.2.1 s.2.2.2.2.1 s.2.2.2.2.2.1 s.2.2.2.2.2.2.1 s.2.2.2.2.2.2.2.1 s.2.2.2.2.2.2.2.2.1 s.2.2.2.2.2.2.2.2.2.1 s.2.2.2.2.2.2.2.2.2.2.1 s.2.2.2.2.2.2.2.2.2.2.2.1 s.2.2.2.2.2.2.2.2.2.2.2.2) (fun s => I s.1 s.2.1 s.2.2.1 s.2.2.2.1 s.2.2.2.2.1 s.2.2.2.2.2.1 s.2.2.2.2.2.2.1 s.2.2.2.2.2.2.2.1 s.2.2.2.2.2.2.2.2.1 s.2.2.2.2.2.2.2.2.2.1 s.2.2.2.2.2.2.2.2.2.2.1 s.2.2.2.2.2.2.2.2.2.2.2.1 s.2.2.2.2.2.2.2.2.2.2.2.2) (fun s => μ s.1 s.2.1 s.2.2.1 s.2.2.2.1 s.2.2.2.2.1 s.2.2.2.2.2.1 s.2.2.2.2.2.2.1 s.2.2.2.2.2.2.2.1 s.2.2.2.2.2.2.2.2.1 s.2.2.2.2.2.2.2.2.2.1 s.2.2.2.2.2.2.2.2.2.2.1 s.2.2.2.2.2.2.2.2.2.2.2.1 s.2.2.2.2.2.2.2.2.2.2.2.2) (fun n s hI hk => hs n s.1 s.2.1 s.2.2.1 s.2.2.2.1 s.2.2.2.2.1 s.2.2.2.2.2.1 s.2.2.2.2.2.2.1 s.2.2.2.2.2.2.2.1 s.2.2.2.2.2.2.2.2.1 s.2.2.2.2.2.2.2.2.2.1 s.2.2.2.2.2.2.2.2.2.2.1 s.2.2.2.2.2.2.2.2.2.2.2.1 s.2.2.2.2.2.2.2.2.2.2.2.2 hI (fun b1 b2 b3 b4 b5 b6 b7 b8 b9 b10 b11 b12 b13 h9 hm => hk (b1, b2, b3, b4, b5, b6, b7, b8, b9, b10, b11, b12, b13) h9 hm)) (a1, a2, a3, a4, a5, a6, a7, a8, a9, a10, a11, a12, a13) h
theorem lp14 {A1 A2 A3 A4 A5 A6 A7 A8 A9 A10 A11 A12 A13 A14 : Type} (W : Nat → A1 → A2 → A3 → A4 → A5 → A6 → A7 → A8 → A9 → A10 → A11 → A12 → A13 → A14 → Prop) (I : A1 → A2 → A3 → A4 → A5 → A6 → A7 → A8 → A9 → A10 → A11 → A12 → A13 → A14 → Prop) (μ : A1 → A2 → A3 → A4 → A5 → A6 → A7 → A8 → A9 → A10 → A11 → A12 → A13 → A14 → Nat) (hs : ∀ (n : Nat) (a1 : A1) (a2 : A2) (a3 : A3) (a4 : A4) (a5 : A5) (a6 : A6) (a7 : A7) (a8 : A8) (a9 : A9) (a10 : A10) (a11 : A11) (a12 : A12) (a13 : A13) (a14 : A14), I a1 a2 a3 a4 a5 a6 a7 a8 a9 a10 a11 a12 a13 a14 → (∀ (b1 : A1) (b2 : A2) (b3 : A3) (b4 : A4) (b5 : A5) (b6 : A6) (b7 : A7) (b8 : A8) (b9 : A9) (b10 : A10) (b11 : A11) (b12 : A12) (b13 : A13) (b14 : A14), I b1 b2 b3 b4 b5 b6 b7 b8 b9 b10 b11 b12 b13 b14 → μ b1 b2 b3 b4 b5 b6 b7 b8 b9 b10 b11 b12 b13 b14 < μ a1 a2 a3 a4 a5 a6 a7 a8 a9 a10 a11 a12 a13 a14 → W n b1 b2 b3 b4 b5 b6 b7 b8 b9 b10 b11 b12 b13 b14) → W (n + 1) a1 a2 a3 a4 a5 a6 a7 a8 a9 a10 a11 a12 a13 a14) (a1 : A1) (a2 : A2) (a3 : A3) (a4 : A4) (a5 : A5) (a6 : A6) (a7 : A7) (a8 : A8) (a9 : A9) (a10 : A10) (a11 : A11) (a12 : A12) (a13 : A13) (a14 : A14) (h : I a1 a2 a3 a4 a5 a6 a7 a8 a9 a10 a11 a12 a13 a14) : ∃ n, W n a1 a2 a3 a4 a5 a6 a7 a8 a9 a10 a11 a12 a13 a14 :=
  loop_m (σ := A1 × A2 × A3 × A4 × A5 × A6 × A7 × A8 × A9 × A10 × A11 × A12 × A13 × A14) (fun n s => W n s.1 s.2.1 s.2.2.1 s.2.2.2.1 s.2.2.2.2.1 s.2.2.2.2.2.1 s.2.2.2.2.2.2.1 s.2.2.2.2.2.2.2.1 s.2.2.2.2.2.2.2.2.1 s.2.2.2.2.2.2.2.2.2.1 s.2.2.2.2.2.2.2.2.2.2.1 s.2.2.2.2.2.2.2.2.2.2.2.1 s.2.2.2.2.2.2.2.2.2.2.2.2.1 s.2.2.2.2.2.2.2.2.2.2.2.2.2) (fun s => I s.1 s.2.1 s.2.2.1 s.2.2.2.1 s.2.2.2.2.1 s.2.2.2.2.2.1 s.2.2.2.2.2.2.1 s.2.2.2.2.2.2.2.1 s.2.2.2.2.2.2.2.2.1 s.2.2.2.2.2.2.2.2.2.1 s.2.2.2.2.2.2.2.2.2.2.1 s.2.2.2.2.2.2.2.2.2.2.2.1 s.2.2.2.2.2.2.2.2.2.2.2.2.1 s.2.2.2.2.2.2.2.2.2.2.2.2.2) (fun s => μ s.1 s.2.1 s.2.2.1 s.2.2.2.1 s.2.2.2.2.1 s.2.2.2.2.2.1 s.2.2.2.2.2.2.1 s.2.2.2.2.2.2.2.1 s.2.2.2.2.2.2.2.2.1 s.2.2.2.2.2.2.2.2.2.1 s.2.2.2.2.2.2.2.2.2.2.1 s.2.2.2.2.2.2.2.2.2.2.2.1 s.2.2.2.2.2.2.2.2.2.2.2.2.1 s.2.2.2.2.2.2.2.2.2.2.2.2.2) (fun n s hI hk => hs n s.1 s.2.1 s.2.2.1 s.2.2.2.1 s.2.2.2.2.1 s.2.2.2.2.2.1 s.2.2.2.2.2.2.1 s.2.2.2.2.2.2.2.1 s.2.2.2.2.2.2.2.2.1 s.2.2.2.2.2.2.2.2.2.1 s.2.2.2.2.2.2.2.2.2.2.1 s.2.2.2.2.2.2.2.2.2.2.2.1 s.2.2.2.2.2.2.2.2.2.2.2.2.1 s.2.2.2.2.2.2.2.2.2.2.2.2.2 hI (fun b1 b2 b3 b4 b5 b6 b7 b8 b9 b10 b11 b12 b13 b14 h9 hm => hk (b1, b2, b3, b4, b5, b6, b7, b8, b9, b10, b11, b12, b13, b14) h9 hm)) (a1, a2, a3, a4, a5, a6, a7, a8, a9, a10, a11, a12, a13, a14) h
theorem lp15 {A1 A2 A3 A4 A5 A6 A7 A8 A9 A10 A11 A12 A13 A14 A15 : Type} (W : Nat → A1 → A2 → A3 → A4 → A5 → A6 → A7 → A8 → A9 → A10 → A11 → A12 → A13 → A14 → A15 → Prop) (I : A1 → A2 → A3 → A4 → A5 → A6 → A7 → A8 → A9 → A10 → A11 → A12 → A13 → A14 → A15 → Prop) (μ : A1 → A2 → A3 → A4 → A5 → A6 → A7 → A8 → A9 → A10 → A11 → A12 → A13 → A14 → A15 → Nat) (hs : ∀ (n : Nat) (a1 : A1) (a2 : A2) (a3 : A3) (a4 : A4) (a5 : A5) (a6 : A6) (a7 : A7) (a8 : A8) (a9 : A9) (a10 : A10) (a11 : A11) (a12 : A12) (a13 : A13) (a14 : A14) (a15 : A15), I a1 a2 a3 a4 a5 a6 a7 a8 a9 a10 a11 a12 a13 a14 a15 → (∀ (b1 : A1) (b2 : A2) (b3 : A3) (b4 : A4) (b5 : A5) (b6 : A6) (b7 : A7) (b8 : A8) (b9 : A9) (b10 : A10) (b11 : A11) (b12 : A12) (b13 : A13) (b14 : A14) (b15 : A15), I b1 b2 b3 b4 b5 b6 b7 b8 b9 b10 b11 b12 b13 b14 b15 → μ b1 b2 b3 b4 b5 b6 b7 b8 b9 b10 b11 b12 b13 b14 b15 < μ a1 a2 a3 a4 a5 a6 a7 a8 a9 a10 a11 a12 a13 a14 a15 → W n b1 b2 b3 b4 b5 b6 b7 b8 b9 b10 b11 b12 b13 b14 b15) → W (n + 1) a1 a2 a3 a4 a5 a6 a7 a8 a9 a10 a11 a12 a13 a14 a15) (a1 : A1) (a2 : A2) (a3 : A3) (a4 : A4) (a5 : A5) (a6 : A6) (a7 : A7) (a8 : A8) (a9 : A9) (a10 : A10) (a11 : A11) (a12 : A12) (a13 : A13) (a14 : A14) (a15 : A15) (h : I a1 a2 a3 a4 a5 a6 a7 a8 a9 a10 a11 a12 a13 a14 a15) : ∃ n, W n a1 a2 a3 a4 a5 a6 a7 a8 a9 a10 a11 a12 a13 a14 a15 :=
  loop_m (σ := A1 × A2 × A3 × A4 × A5 × A6 × A7 × A8 × A9 × A10 × A11 × A12 × A13 × A14 × A15) (fun n s => W n s.1 s.2.1 s.2.2.1 s.2.2.2.1 s.2.2.2.2.1 s.2.2.2.2.2.1 s.2.2.2.2.2.2.1 s.2.2.2.2.2.2.2.1 s.2.2.2.2.2.2.2.2.1 s.2.2.2.2.2.2.2.2.2.1 s.2.2.2.2.2.2.2.2.2.2.1 s.2.2.2.2.2.2.2.2.2.2.2.1 s.2.2.2.2.2.2.2.2.2.2.2.2.1 s.2.2.2.2.2.2.2.2.2.2.2.2.2.1 s.2.2.2.2.2.2.2.2.2.2.2.2.2.2) (fun s => I s.1 s.2.1 s.2.2.1 s.2.2.2.1 s.2.2.2.2.1 s.2.2.2.2.2.1 s.2.2.2.2.2.2.1 s.2.2.2.2.2.2.2.1 s.2.2.2.2.2.2.2.2.1 s.2.2.2.2.2.2.2.2.2.1 s.2.2.2.2.2.2.2.2.2.2.1 s.2.2.2.2.2.2.2.2.2.2.2.1 s.2.2.2.2.2.2.2.2.2.2.2.2.1 s.2.2.2.2.2.2.2.2.2.2.2.2.2.1 s.2.2.2.2.2.2.2.2.2.2.2.2.2.2) (fun s => μ s.1 s.2.1 s.2.2.1 s.2.2.2.1 s.2.2.2.2.1 s.2.2.2.2.2.1 s.2.2.2.2.2.2.1 s.2.2.2.2.2.2.2.1 s.2.2.2.2.2.2.2.2.1 s.2.2.2.2.2.2.2.2.2.1 s.2.2.2.2.2.2.2.2.2.2.1 s.2.2.2.2.2.2.2.2.2.2.2.1 s.2.2.2.2.2.2.2.2.2.2.2.2.1 s.2.2.2.2.2.2.2.2.2.2.2.2.2.1 s.2.2.2.2.2.2.2.2.2.2.2.2.2.2) (fun n s hI hk => hs n s.1 s.2.1 s.2.2.1 s.2.2.2.1 s.2.2.2.2.1 s.2.2.2.2.2.1 s.2.2.2.2.2.2.1 s.2.2.2.2.2.2.2.1 s.2.2.2.2.2.2.2.2.1 s.2.2.2.2.2.2.2.2.2.1 s.2.2.2.2.2.2.2.2.2.2.1 s.2.2.2.2.2.2.2.2.2.2.2.1 s.2.2.2.2.2.2.2.2.2.2.2.2.1 s.2.2.2.2.2.2.2.2.2.2.2.2.2.1 s.2.2.2.2.2.2.2.2.2.2.2.2.2.2 hI (fun b1 b2 b3 b4 b5 b6 b7 b8 b9 b10 b11 b12 b13 b14 b15 h9 hm => hk (b1, b2, b3, b4, b5, b6, b7, b8, b9, b10, b11, b12, b13, b14, b15) h9 hm)) (a1, a2, a3, a4, a5, a6, a7, a8, a9, a10, a11, a12, a13, a14, a15) h
theorem lp16 {A1 A2 A3 A4 A5 A6 A7 A8 A9 A10 A11 A12 A13 A14 A15 A16 : Type} (W : Nat → A1 → A2 → A3 → A4 → A5 → A6 → A7 → A8 → A9 → A10 → A11 → A12 → A13 → A14 → A15 → A16 → Prop) (I : A1 → A2 → A3 → A4 → A5 → A6 → A7 → A8 → A9 → A10 → A11 → A12 → A13 → A14 → A15 → A16 → Prop) (μ : A1 → A2 → A3 → A4 → A5 → A6 → A7 → A8 → A9 → A10 → A11 → A12 → A13 → A14 → A15 → A16 → Nat) (hs : ∀ (n : Nat) (a1 : A1) (a2 : A2) (a3 : A3) (a4 : A4) (a5 : A5) (a6 : A6) (a7 : A7) (a8 : A8) (a9 : A9) (a10 : A10) (a11 : A11) (a12 : A12) (a13 : A13) (a14 : A14) (a15 : A15) (a16 : A16), I a1 a2 a3 a4 a5 a6 a7 a8 a9 a10 a11 a12 a13 a14 a15 a16 → (∀ (b1 : A1) (b2 : A2) (b3 : A3) (b4 : A4) (b5 : A5) (b6 : A6) (b7 : A7) (b8 : A8) (b9 : A9) (b10 : A10) (b11 : A11) (b12 : A12) (b13 : A13) (b14 : A14) (b15 : A15) (b16 : A16), I b1 b2 b3 b4 b5 b6 b7 b8 b9 b10 b11 b12 b13 b14 b15 b16 → μ b1 b2 b3 b4 b5 b6 b7 b8 b9 b10 b11 b12 b13 b14 b15 b16 < μ a1 a2 a3 a4 a5 a6 a7 a8 a9 a10 a11 a12 a13 a14 a15 a16 → W n b1 b2 b3 b4 b5 b6 b7 b8 b9 b10 b11 b12 b13 b14 b15 b16) → W (n + 1) a1 a2 a3 a4 a5 a6 a7 a8 a9 a10 a11 a12 a13 a14 a15 a16) (a1 : A1) (a2 : A2) (a3 : A3) (a4 : A4) (a5 : A5) (a6 : A6) (a7 : A7) (a8 : A8) (a9 : A9) (a10 : A10) (a11 : A11) (a12 : A12) (a13 : A13) (a14 : A14) (a15 : A15) (a16 : A16) (h : I a1 a2 a3 a4 a5 a6 a7 a8 a9 a10 a11 a12 a13 a14 a15 a16) : ∃ n, W n a1 a2 a3 a4 a5 a6 a7 a8 a9 a10 a11 a12 a13 a14 a15 a16 :=
  loop_m (σ := A1 × A2 × A3 × A4 × A5 × A6 × A7 × A8 × A9 × A10 × A11 × A12 × A13 × A14 × A15 × A16) (fun n s => W n s.1 s.2.1 s.2.2.1 s.2.2.2.1 s.2.2.2.2.1 s.2.2.2.2.2.1 s.2.2.2.2.2.2.1 s.2.2.2.2.2.2.2.1 s.2.2.2.2.2.2.2.2.1 s.2.2.2.2.2.2.2.2.2.1 s.2.2.2.2.2.2.2.2.2.2.1 s.2.2.2.2.2.2.2.2.2.2.2.1 s.2.2.2.2.2.2.2.2.2.2.2.2.1 s.2.2.2.2.2.2.2.2.2.2.2.2.2.1 s.2.2.2.2.2.2.2.2.2.2.2.2.2.2.1 s.2.2.2.2.2.2.2.2.2.2.2.2.2.2.2) (fun s => I s.1 s.2.1 s.2.2.1 s.2.2.2.1 s.2.2.2.2.1 s.2.2.2.2.2.1 s.2.2.2.2.2.2.1 s.2.2.2.2.2.2.2.1 s.2.2.2.2.2.2.2.2.1 s.2.2.2.2.2.2.2.2.2.1 s.2.2.2.2.2.2.2.2.2.2.1 s.2.2.2.2.2.2.2.2.2.2.2.1 s.2.2.2.2.2.2.2.2.2.2.2.2.1 s.2.2.2.2.2.2.2.2.2.2.2.2.2.1 s.2.2.2.2.2.2.2.2.2.2.2.2.2.2.1 s.2.2.2.2.2.2.2.2.2.2.2.2.2.2.2) (fun s => μ s.1 s.2.1 s.2.2.1 s.2.2.2.1 s.2.2.2.2.1 s.2.2.2.2.2.1 s.2.2.2.2.2.2.1 s.2.2.2.2.2.2.2.1 s.2.2.2.2.2.2.2.2.1 s.2.2.2.2.2.2.2.2.2.1 s.2.2.2.2.2.2.2.2.2.2.1 s.2.2.2.2.2.2.2.2.2.2.2.1 s.2.2.2.2.2.2.2.2.2.2.2.2.1 s.2.2.2.2.2.2.2.2.2.2.2.2.2.1 s.2.2.2.2.2.2.2.2.2.2.2.2.2.2.1 s.2.2.2.2.2.2.2.2.2.2.2.2.2.2.2) (fun n s hI hk => hs n s.1 s.2.1 s.2.2.1 s.2.2.2.1 s.2.2.2.2.1 s.2.2.2.2.2.1 s.2.2.2.2.2.2.1 s.2.2.2.2.2.2.2.1 s.2.2.2.2.2.2.2.2.1 s.2.2.2.2.2.2.2.2.2.1 s.2.2.2.2.2.2.2.2.2.2.1 s.2.2.2.2.2.2.2.2.2.2.2.1 s.2.2.2.2.2.2.2.2.2.2.2.2.1 s.2.2.2.2.2.2.2.2.2.2.2.2.2.1 s.2.2.2.2.2.2.2.2.2.2.2.2.2.2.1 s.2.2.2.2.2.2.2.2.2.2.2.2.2.2.2 hI (fun b1 b2 b3 b4 b5 b6 b7 b8 b9 b10 b11 b12 b13 b14 b15 b16 h9 hm => hk (b1, b2, b3, b4, b5, b6, b7, b8, b9, b10, b11, b12, b13, b14, b15, b16) h9 hm)) (a1, a2, a3, a4, a5, a6, a7, a8, a9, a10, a11, a12, a13, a14, a15, a16) h
theorem pk_least (P : Nat → Prop) (h : ∃ k, P k) : ∃ k, P k ∧ ∀ j, j < k → ¬ P j := by
  obtain ⟨k, hk⟩ := h
  induction k using Nat.strongRecOn with
  | ind k ih =>
    by_cases e : ∃ j, j < k ∧ P j
    · obtain ⟨j, hj, pj⟩ := e
      exact ih j hj pj
    · exact ⟨k, hk, fun j hj pj => e ⟨j, hj, pj⟩⟩
theorem rp1 {ρ A1 : Type} (W : Nat → (ρ → Prop) → A1 → Prop) (ok : A1 → Prop) (μ : A1 → Nat) (val : A1 → ρ)
    (hs : ∀ (d : Nat) (post : ρ → Prop) (a1 : A1), ok a1 → post (val a1) → (∀ (post' : ρ → Prop) (b1 : A1), ok b1 → μ b1 < μ a1 → post' (val b1) → W d post' b1) → W (d + 1) post a1) :
    ∀ (d : Nat) (post : ρ → Prop) (a1 : A1), ok a1 → μ a1 < d → post (val a1) → W d post a1 := by
  intro d
  induction d with
  | zero => intro post a1 _ h; omega
  | succ d ih =>
    intro post a1 ho hm hp
    exact hs d post a1 ho hp (fun post' b1 ho' hm' hp' => ih post' b1 ho' (by omega) hp')
theorem rp2 {ρ A1 A2 : Type} (W : Nat → (ρ → Prop) → A1 → A2 → Prop) (ok : A1 → A2 → Prop) (μ : A1 → A2 → Nat) (val : A1 → A2 → ρ)
    (hs : ∀ (d : Nat) (post : ρ → Prop) (a1 : A1) (a2 : A2), ok a1 a2 → post (val a1 a2) → (∀ (post' : ρ → Prop) (b1 : A1) (b2 : A2), ok b1 b2 → μ b1 b2 < μ a1 a2 → post' (val b1 b2) → W d post' b1 b2) → W (d + 1) post a1 a2) :
    ∀ (d : Nat) (post : ρ → Prop) (a1 : A1) (a2 : A2), ok a1 a2 → μ a1 a2 < d → post (val a1 a2) → W d post a1 a2 := by
  intro d
  induction d with
  | zero => intro post a1 a2 _ h; omega
  | succ d ih =>
    intro post a1 a2 ho hm hp
    exact hs d post a1 a2 ho hp (fun post' b1 b2 ho' hm' hp' => ih post' b1 b2 ho' (by omega) hp')
theorem rp3 {ρ A1 A2 A3 : Type} (W : Nat → (ρ → Prop) → A1 → A2 → A3 → Prop) (ok : A1 → A2 → A3 → Prop) (μ : A1 → A2 → A3 → Nat) (val : A1 → A2 → A3 → ρ)
    (hs : ∀ (d : Nat) (post : ρ → Prop) (a1 : A1) (a2 : A2) (a3 : A3), ok a1 a2 a3 → post (val a1 a2 a3) → (∀ (post' : ρ → Prop) (b1 : A1) (b2 : A2) (b3 : A3), ok b1 b2 b3 → μ b1 b2 b3 < μ a1 a2 a3 → post' (val b1 b2 b3) → W d post' b1 b2 b3) → W (d + 1) post a1 a2 a3) :
    ∀ (d : Nat) (post : ρ → Prop) (a1 : A1) (a2 : A2) (a3 : A3), ok a1 a2 a3 → μ a1 a2 a3 < d → post (val a1 a2 a3) → W d post a1 a2 a3 := by
  intro d
  induction d with
  | zero => intro post a1 a2 a3 _ h; omega
  | succ d ih =>
    intro post a1 a2 a3 ho hm hp
    exact hs d post a1 a2 a3 ho hp (fun post' b1 b2 b3 ho' hm' hp' => ih post' b1 b2 b3 ho' (by omega) hp')
theorem rp4 {ρ A1 A2 A3 A4 : Type} (W : Nat → (ρ → Prop) → A1 → A2 → A3 → A4 → Prop) (ok : A1 → A2 → A3 → A4 → Prop) (μ : A1 → A2 → A3 → A4 → Nat) (val : A1 → A2 → A3 → A4 → ρ)
    (hs : ∀ (d : Nat) (post : ρ → Prop) (a1 : A1) (a2 : A2) (a3 : A3) (a4 : A4), ok a1 a2 a3 a4 → post (val a1 a2 a3 a4) → (∀ (post' : ρ → Prop) (b1 : A1) (b2 : A2) (b3 : A3) (b4 : A4), ok b1 b2 b3 b4 → μ b1 b2 b3 b4 < μ a1 a2 a3 a4 → post' (val b1 b2 b3 b4) → W d post' b1 b2 b3 b4) → W (d + 1) post a1 a2 a3 a4) :
    ∀ (d : Nat) (post : ρ → Prop) (a1 : A1) (a2 : A2) (a3 : A3) (a4 : A4), ok a1 a2 a3 a4 → μ a1 a2 a3 a4 < d → post (val a1 a2 a3 a4) → W d post a1 a2 a3 a4 := by
  intro d
  induction d with
  | zero => intro post a1 a2 a3 a4 _ h; omega
  | succ d ih =>
    intro post a1 a2 a3 a4 ho hm hp
    exact hs d post a1 a2 a3 a4 ho hp (fun post' b1 b2 b3 b4 ho' hm' hp' => ih post' b1 b2 b3 b4 ho' (by omega) hp')
theorem rp5 {ρ A1 A2 A3 A4 A5 : Type} (W : Nat → (ρ → Prop) → A1 → A2 → A3 → A4 → A5 → Prop) (ok : A1 → A2 → A3 → A4 → A5 → Prop) (μ : A1 → A2 → A3 → A4 → A5 → Nat) (val : A1 → A2 → A3 → A4 → A5 → ρ)
    (hs : ∀ (d : Nat) (post : ρ → Prop) (a1 : A1) (a2 : A2) (a3 : A3) (a4 : A4) (a5 : A5), ok a1 a2 a3 a4 a5 → post (val a1 a2 a3 a4 a5) → (∀ (post' : ρ → Prop) (b1 : A1) (b2 : A2) (b3 : A3) (b4 : A4) (b5 : A5), ok b1 b2 b3 b4 b5 → μ b1 b2 b3 b4 b5 < μ a1 a2 a3 a4 a5 → post' (val b1 b2 b3 b4 b5) → W d post' b1 b2 b3 b4 b5) → W (d + 1) post a1 a2 a3 a4 a5) :
    ∀ (d : Nat) (post : ρ → Prop) (a1 : A1) (a2 : A2) (a3 : A3) (a4 : A4) (a5 : A5), ok a1 a2 a3 a4 a5 → μ a1 a2 a3 a4 a5 < d → post (val a1 a2 a3 a4 a5) → W d post a1 a2 a3 a4 a5 := by
  intro d
  induction d with
  | zero => intro post a1 a2 a3 a4 a5 _ h; omega
  | succ d ih =>
    intro post a1 a2 a3 a4 a5 ho hm hp
    exact hs d post a1 a2 a3 a4 a5 ho hp (fun post' b1 b2 b3 b4 b5 ho' hm' hp' => ih post' b1 b2 b3 b4 b5 ho' (by omega) hp')
theorem rp6 {ρ A1 A2 A3 A4 A5 A6 : Type} (W : Nat → (ρ → Prop) → A1 → A2 → A3 → A4 → A5 → A6 → Prop) (ok : A1 → A2 → A3 → A4 → A5 → A6 → Prop) (μ : A1 → A2 → A3 → A4 → A5 → A6 → Nat) (val : A1 → A2 → A3 → A4 → A5 → A6 → ρ)
    (hs : ∀ (d : Nat) (post : ρ → Prop) (a1 : A1) (a2 : A2) (a3 : A3) (a4 : A4) (a5 : A5) (a6 : A6), ok a1 a2 a3 a4 a5 a6 → post (val a1 a2 a3 a4 a5 a6) → (∀ (post' : ρ → Prop) (b1 : A1) (b2 : A2) (b3 : A3) (b4 : A4) (b5 : A5) (b6 : A6), ok b1 b2 b3 b4 b5 b6 → μ b1 b2 b3 b4 b5 b6 < μ a1 a2 a3 a4 a5 a6 → post' (val b1 b2 b3 b4 b5 b6) → W d post' b1 b2 b3 b4 b5 b6) → W (d + 1) post a1 a2 a3 a4 a5 a6) :
    ∀ (d : Nat) (post : ρ → Prop) (a1 : A1) (a2 : A2) (a3 : A3) (a4 : A4) (a5 : A5) (a6 : A6), ok a1 a2 a3 a4 a5 a6 → μ a1 a2 a3 a4 a5 a6 < d → post (val a1 a2 a3 a4 a5 a6) → W d post a1 a2 a3 a4 a5 a6 := by
  intro d
  induction d with
  | zero => intro post a1 a2 a3 a4 a5 a6 _ h; omega
  | succ d ih =>
    intro post a1 a2 a3 a4 a5 a6 ho hm hp
    exact hs d post a1 a2 a3 a4 a5 a6 ho hp (fun post' b1 b2 b3 b4 b5 b6 ho' hm' hp' => ih post' b1 b2 b3 b4 b5 b6 ho' (by omega) hp')
theorem rec_p {σ ρ : Type} (W : Nat → (ρ → Prop) → σ → Prop) (ok : σ → Prop) (μ : σ → Nat) (val : σ → ρ)
    (hs : ∀ d s post, ok s → post (val s) → (∀ s' post', ok s' → μ s' < μ s → post' (val s') → W d post' s') → W (d + 1) post s) :
    ∀ d s post, ok s → μ s < d → post (val s) → W d post s := by
  intro d
  induction d with
  | zero => intro s post _ h; omega
  | succ d ih =>
    intro s post ho hm hp
    exact hs d s post ho hp (fun s' post' ho' hm' hp' => ih s' post' ho' (by omega) hp')
theorem rec_q {σ ρ : Type} (W : Nat → (ρ → Prop) → σ → Prop) (ok : σ → Prop) (μ : σ → Nat) (Q : σ → ρ → Prop)
    (hs : ∀ d s post, ok s → (∀ r, Q s r → post r) → (∀ s' post', ok s' → μ s' < μ s → (∀ r, Q s' r → post' r) → W d post' s') → W (d + 1) post s) :
    ∀ d s post, ok s → μ s < d → (∀ r, Q s r → post r) → W d post s := by
  intro d
  induction d with
  | zero => intro s post _ h; omega
  | succ d ih =>
    intro s post ho hm hp
    exact hs d s post ho hp (fun s' post' ho' hm' hp' => ih s' post' ho' (by omega) hp')
def bx_sum (f : Nat → Int32) : Nat → Int32
  | 0 => 0
  | n + 1 => bx_sum f n + f n
theorem ek_u {A : Prop} {B : Nat → Prop} {k N : Nat} (hk : k < N) (h : B k) : (some k = none → A) ∧ (∀ y : Nat, some k = some y → (y < N ∧ B y)) :=
  ⟨fun z => absurd z (Option.some_ne_none k), fun _ e => (by cases e; exact ⟨hk, h⟩)⟩
theorem ek_nu {A : Prop} {B : Nat → Prop} (h : A) : ((none : Option Nat) = none → A) ∧ (∀ y : Nat, (none : Option Nat) = some y → B y) :=
  ⟨fun _ => h, fun _ e => (by cases e)⟩
theorem ek_if {c d A B : Prop} (e : c ↔ d) (f : d → A) (g : ¬ d → B) : (c → A) ∧ (¬ c → B) :=
  ⟨fun z => f (e.mp z), fun z => g (fun y => z (e.mpr y))⟩
theorem ek_v {α : Sort _} {P : α → Prop} {a b : α} (e : a = b) (h : P b) : P a := e ▸ h
theorem co_some {x : Option Nat} {A : Prop} {B : Nat → Prop} (i : Nat) (h : B i) (hx : x = some i := by rfl) : (x = none → A) ∧ (∀ y : Nat, x = some y → B y) := by
  subst hx
  exact ⟨fun e => (nomatch e), fun y e => Option.some.inj e ▸ h⟩
theorem co_none {x : Option Nat} {A : Prop} {B : Nat → Prop} (h : A) (hx : x = none := by rfl) : (x = none → A) ∧ (∀ y : Nat, x = some y → B y) := by
  subst hx
  exact ⟨fun _ => h, fun y e => (nomatch e)⟩
theorem co_any {x : Option Nat} {A : Prop} {B : Nat → Prop} (hn : x = none → A) (hs : ∀ i : Nat, x = some i → B i) : (x = none → A) ∧ (∀ y : Nat, x = some y → B y) := ⟨hn, hs⟩
theorem co_2 {P : Nat → Prop} (h0 : P 0) (h1 : P 1) {i : Nat} (hi : i < 2) : P i :=
  match i, hi with
  | 0, _ => h0
  | 1, _ => h1
theorem co_3 {P : Nat → Prop} (h0 : P 0) (h1 : P 1) (h2 : P 2) {i : Nat} (hi : i < 3) : P i :=
  match i, hi with
  | 0, _ => h0
  | 1, _ => h1
  | 2, _ => h2
theorem co_4 {P : Nat → Prop} (h0 : P 0) (h1 : P 1) (h2 : P 2) (h3 : P 3) {i : Nat} (hi : i < 4) : P i :=
  match i, hi with
  | 0, _ => h0
  | 1, _ => h1
  | 2, _ => h2
  | 3, _ => h3
theorem co_dec {N : Nat} {P : Nat → Prop} [DecidablePred P] (h : (List.range N).all (fun i => decide (P i)) = true) {i : Nat} (hi : i < N) : P i := by
  have := List.all_eq_true.mp h i (List.mem_range.mpr hi)
  exact of_decide_eq_true this
theorem co_tab {α : Type} {l : List α} {d : α} {P : α → Prop} (h : ∀ a, a ∈ l → P a) {i : Nat} (hi : i < l.length) : P (l.getD i d) := by
  rw [List.getD_eq_getElem?_getD, List.getElem?_eq_getElem hi]
  exact h _ (List.getElem_mem hi)
theorem pk_mu {x : Int32} {L : Nat} (h0 : ¬ x < 0) (h : ¬ nI L ≤ x) (hL : L < 2 ^ 31) : ∃ j : Nat, j < L ∧ x = nI j ∧ x + 1 = nI (j + 1) ∧ x.toNatClampNeg = j ∧ L - (x + 1).toNatClampNeg < L - x.toNatClampNeg := by
  obtain ⟨j, hj, rfl⟩ := nI_of h0
  have hl : j < L := Nat.not_le.mp fun q => h (nI_le q hj)
  refine ⟨j, hl, rfl, nI_1 j, nI_clamp hj, ?_⟩
  rw [nI_1, nI_clamp (by omega), nI_clamp hj]
  omega
theorem op_s {α : Type} {r : Option α} {A : Prop} {B : α → Prop} {y : α} (h : r = some y) (b : B y) : (r = none → A) ∧ ∀ z, r = some z → B z :=
  ⟨fun e => (by rw [h] at e; cases e), fun z e => (by rw [h] at e; cases e; exact b)⟩
def l_holds {α : Type} (a : Nat → Option Nat) (LP : List Nat) (p : Nat → α) (c : Nat) (b : Nat → α) : Prop :=
  ∀ j, j < c → ∃ y, a j = some y ∧ y ∈ LP ∧ p y = b j
theorem l_holds_0 {α : Type} {a : Nat → Option Nat} {LP : List Nat} {p b : Nat → α} : l_holds a LP p 0 b := fun j h => absurd h (Nat.not_lt_zero j)
theorem l_in_new (LP : List Nat) (q : Nat) : q ∈ LP ++ [q] := List.mem_append.mpr (Or.inr (List.mem_singleton.mpr rfl))
def l_sum (b : Nat → Int32) : Nat → Int32
  | 0 => 0
  | k + 1 => l_sum b k + b k
theorem sb_shr0 (x : Int32) : x >>> ((0 : Int32) &&& 31) = x := by
  rw [show ((0 : Int32) &&& 31) = 0 by decide]
  simp
theorem sb_shl0 (x : Int32) : x <<< ((0 : Int32) &&& 31) = x := by
  rw [show ((0 : Int32) &&& 31) = 0 by decide]
  simp
theorem sb_cl0 : (0 : Int32).toNatClampNeg = 0 := by decide
theorem sb_m1 {p : Nat} (h : 0 < p) : nI p + (-1) = nI (p - 1) := by
  obtain ⟨q, rfl⟩ : ∃ q, p = q + 1 := ⟨p - 1, by omega⟩
  exact pk_m1 q
def sb_b (c : Nat) : Int32 := (nI c).toInt8.toInt32
theorem sb_byte : ∀ c, c < 256 → sb_b c &&& 255 = nI c ∧ ((nI c).toUInt32 % 65536).toInt32 = nI c ∧ nI c ≤ 255 := by decide +kernel
def sb_Fit (a : Nat → Int32) : Prop := ∀ j, fits .byte (.int (a j)) = true
def sb_Lat (t : Nat → Nat) (n : Nat) (a : Nat → Int32) : Prop := ∀ j, j < n → t j < 256 ∧ a j = sb_b (t j)
theorem sb_fitB (c : Nat) : fits .byte (.int (sb_b c)) = true := pk_fb _
theorem sb_fit0 : sb_Fit (fun _ => 0) := fun _ => by
  show fits .byte (.int 0) = true
  decide
theorem sb_fitU {a : Nat → Int32} {k : Nat} {x : Int32} (h : sb_Fit a) (hx : fits .byte (.int x) = true) : sb_Fit (upd a k x) := by
  intro j
  by_cases e : j = k
  · subst e
    rw [pk_us]
    exact hx
  · rw [pk_un e]
    exact h j
def sb_cat (t : Nat → Nat) (n : Nat) (s : Nat → Nat) : Nat → Nat := fun j => if j < n then t j else s (j - n)
theorem sb_cat_lo {t s : Nat → Nat} {n j : Nat} (h : j < n) : sb_cat t n s j = t j := if_pos h
theorem sb_cat_hi {t s : Nat → Nat} {n j : Nat} : sb_cat t n s (n + j) = s j := by
  show (if n + j < n then t (n + j) else s (n + j - n)) = s j
  rw [if_neg (by omega), Nat.add_sub_cancel_left]
theorem sb_latPut {t s : Nat → Nat} {n w : Nat} {a a' : Nat → Int32} (h : sb_Lat t n a) (hk : ∀ j, j < n → a' j = a j) (hs : ∀ i, i < w → s i < 256 ∧ a' (n + i) = sb_b (s i)) : sb_Lat (sb_cat t n s) (n + w) a' := by
  intro j hj
  by_cases e : j < n
  · rw [sb_cat_lo e, hk j e]
    exact h j e
  · obtain ⟨i, rfl⟩ : ∃ i, j = n + i := ⟨j - n, by omega⟩
    rw [sb_cat_hi]
    exact hs i (by omega)
theorem sb_latKeep {t : Nat → Nat} {n : Nat} {a a' : Nat → Int32} (h : sb_Lat t n a) (hk : ∀ j, j < n → a' j = a j) : sb_Lat t n a' := fun j hj => by
  rw [hk j hj]
  exact h j hj
def sb_cap (q m : Nat) : Nat := if q ≤ m then m else if 2 * m + 2 < q then q else 2 * m + 2
def sb_Room (q m mc ms : Nat) : Prop := q ≤ m ∨ (1 ≤ mc ∧ sb_cap q m ≤ ms ∧ sb_cap q m ≤ 65536)
theorem sb_cap_ge (q m : Nat) : q ≤ sb_cap q m := by
  unfold sb_cap
  split
  · omega
  · split <;> omega
theorem sb_cap_gem (q m : Nat) : m ≤ sb_cap q m := by
  unfold sb_cap
  split
  · omega
  · split <;> omega
theorem sb_cap_le {q m mc ms : Nat} (hm : m ≤ 65536) (hr : sb_Room q m mc ms) : sb_cap q m ≤ 65536 := by
  rcases hr with h | h
  · rw [sb_cap, if_pos h]
    exact hm
  · exact h.2.2
theorem sb_at {P : Int32 → Prop} {x y : Int32} (e : x = y) (h : P y) : P x := e ▸ h
def sb_dg (w : Nat) : Nat := if w < 10 then 1 else if w < 100 then 2 else if w < 1000 then 3 else if w < 10000 then 4 else if w < 100000 then 5 else if w < 1000000 then 6 else if w < 10000000 then 7 else if w < 100000000 then 8 else if w < 1000000000 then 9 else 10
def sb_dec (v : Nat) : Nat → Nat := fun i => 48 + v / 10 ^ (sb_dg v - 1 - i) % 10
theorem sb_dg_in (w : Nat) : 1 ≤ sb_dg w ∧ sb_dg w ≤ 10 := by
  unfold sb_dg
  constructor <;> (repeat' split) <;> omega
theorem sb_dg100 {w : Nat} (h : 100 ≤ w) (hw : w < 2 ^ 31) : sb_dg w = sb_dg (w / 100) + 2 := by
  rw [sb_dg, sb_dg, if_neg (show ¬ w < 10 by omega), if_neg (show ¬ w < 100 by omega)]
  by_cases h3 : w < 1000
  · rw [if_pos h3, if_pos (show w / 100 < 10 by omega)]
  rw [if_neg h3, if_neg (show ¬ w / 100 < 10 by omega)]
  by_cases h4 : w < 10000
  · rw [if_pos h4, if_pos (show w / 100 < 100 by omega)]
  rw [if_neg h4, if_neg (show ¬ w / 100 < 100 by omega)]
  by_cases h5 : w < 100000
  · rw [if_pos h5, if_pos (show w / 100 < 1000 by omega)]
  rw [if_neg h5, if_neg (show ¬ w / 100 < 1000 by omega)]
  by_cases h6 : w < 1000000
  · rw [if_pos h6, if_pos (show w / 100 < 10000 by omega)]
  rw [if_neg h6, if_neg (show ¬ w / 100 < 10000 by omega)]
  by_cases h7 : w < 10000000
  · rw [if_pos h7, if_pos (show w / 100 < 100000 by omega)]
  rw [if_neg h7, if_neg (show ¬ w / 100 < 100000 by omega)]
  by_cases h8 : w < 100000000
  · rw [if_pos h8, if_pos (show w / 100 < 1000000 by omega)]
  rw [if_neg h8, if_neg (show ¬ w / 100 < 1000000 by omega)]
  by_cases h9 : w < 1000000000
  · rw [if_pos h9, if_pos (show w / 100 < 10000000 by omega)]
  rw [if_neg h9, if_neg (show ¬ w / 100 < 10000000 by omega)]
  rw [if_pos (show w / 100 < 100000000 by omega)]
theorem sb_negT {w : Nat} (h : w < 2 ^ 31) : (-nI w).toInt = -(w : Int) := by
  rw [Int32.toInt_neg, nI_toInt h]
  exact Int.bmod_eq_of_le (by omega) (by omega)
theorem sb_nle {a b : Nat} (ha : a < 2 ^ 31) (hb : b < 2 ^ 31) : -nI a ≤ -nI b ↔ b ≤ a := by
  rw [Int32.le_iff_toInt_le, sb_negT ha, sb_negT hb]
  omega
theorem sb_nlt {a b : Nat} (ha : a < 2 ^ 31) (hb : b < 2 ^ 31) : -nI a < -nI b ↔ b < a := by
  rw [Int32.lt_iff_toInt_lt, sb_negT ha, sb_negT hb]
  omega
theorem sb_cmp {A B : Prop} {x : Int32} (v c : Nat) (f : c ≤ v → A) (g : v < c → B) (hv : v < 2 ^ 31) (hx : x = -nI c := by rfl) (hc : c < 2 ^ 31 := by omega) : (-nI v ≤ x → A) ∧ (¬ -nI v ≤ x → B) := by
  subst hx
  rw [sb_nle hv hc]
  exact ⟨f, fun z => g (by omega)⟩
theorem sb_ndiv {w : Nat} (hw : w < 2 ^ 31) : (-nI w) / 100 = -nI (w / 100) := by
  apply Int32.toInt_inj.mp
  have h100 : (100 : Int32).toInt = 100 := by decide
  rw [Int32.toInt_div, sb_negT hw, h100, sb_negT (by omega), Int.neg_tdiv, Int.tdiv_eq_ediv_of_nonneg (by omega), Int.bmod_eq_of_le (by omega) (by omega)]
  omega
theorem sb_nrem {w : Nat} (hw : w < 2 ^ 31) : (-nI (w / 100)) * 100 - (-nI w) = nI (w % 100) := by
  have h := pk_rem (a := w) (d := 100) hw (by decide) (by decide)
  rw [pk_div hw (by decide) (by decide)] at h
  rw [← h]
  show (-nI (w / 100)) * nI 100 - (-nI w) = nI w - nI (w / 100) * nI 100
  rw [Int32.neg_mul, Int32.sub_neg, Int32.add_comm, ← Int32.sub_eq_add_neg]
/-! rows on bits, shifts and unsigned numbers, to paste: each family out of a closed proof of our own, whole with what it rests on; each by itself clean at Lean in its own claim (generation 39, form 5). Take a family whole -/
/-! ===== Int32 by its bits: bt x i ===== -/
def bt (x : Int32) (i : Nat) : Bool := x.toBitVec.getLsbD i
theorem b_ext {x y : Int32} (h : ∀ i, i < 32 → bt x i = bt y i) : x = y := Int32.toBitVec_inj.mp (BitVec.eq_of_getLsbD_eq (fun i hi => h i hi))
theorem b_or (x y : Int32) (i : Nat) : bt (x ||| y) i = (bt x i || bt y i) := by unfold bt; rw [Int32.toBitVec_or, BitVec.getLsbD_or]
theorem b_and (x y : Int32) (i : Nat) : bt (x &&& y) i = (bt x i && bt y i) := by unfold bt; rw [Int32.toBitVec_and, BitVec.getLsbD_and]
theorem b_xor (x y : Int32) (i : Nat) : bt (x ^^^ y) i = (bt x i ^^ bt y i) := by unfold bt; rw [Int32.toBitVec_xor, BitVec.getLsbD_xor]
theorem b_big {x : Int32} {i : Nat} (h : 32 ≤ i) : bt x i = false := BitVec.getLsbD_of_ge _ _ h
theorem b_255 (i : Nat) : bt 255 i = decide (i < 8) := by
  rcases Nat.lt_or_ge i 32 with h | h
  · exact (by decide +kernel : ∀ i, i < 32 → bt 255 i = decide (i < 8)) i h
  · rw [b_big h, decide_eq_false (by omega)]
theorem b_65535 (i : Nat) : bt 65535 i = decide (i < 16) := by
  rcases Nat.lt_or_ge i 32 with h | h
  · exact (by decide +kernel : ∀ i, i < 32 → bt 65535 i = decide (i < 16)) i h
  · rw [b_big h, decide_eq_false (by omega)]
theorem b_m1 : ∀ i, i < 32 → bt (-1) i = true := by decide +kernel
theorem b_0 (i : Nat) : bt 0 i = false := BitVec.getLsbD_zero
theorem s_l : ∀ n, n < 32 → ((nI n &&& 31).toBitVec.smod 32).toNat = n := by decide +kernel
theorem s_u : ∀ n, n < 32 → (((nI n).toUInt32 &&& Int32.toUInt32 31).toBitVec % 32).toNat = n := by decide +kernel
theorem b_shl (n : Nat) (hn : n < 32) (x : Int32) {i : Nat} (hi : i < 32) : bt (x <<< (nI n &&& 31)) i = (decide (n ≤ i) && bt x (i - n)) := by
  unfold bt
  rw [Int32.toBitVec_shiftLeft]
  show (x.toBitVec <<< ((nI n &&& 31).toBitVec.smod 32).toNat).getLsbD i = _
  rw [s_l n hn, BitVec.getLsbD_shiftLeft]
  rcases Nat.lt_or_ge i n with h | h
  · simp [h, Nat.not_le.mpr h]
  · simp [hi, h, Nat.not_lt.mpr h]
theorem b_ushr (n : Nat) (hn : n < 32) (x : Int32) (i : Nat) : bt ((x.toUInt32 >>> ((nI n).toUInt32 &&& Int32.toUInt32 31)).toInt32) i = bt x (n + i) := by
  show (x.toUInt32 >>> ((nI n).toUInt32 &&& Int32.toUInt32 31)).toBitVec.getLsbD i = x.toUInt32.toBitVec.getLsbD (n + i)
  rw [UInt32.toBitVec_shiftRight]
  show (x.toUInt32.toBitVec >>> (((nI n).toUInt32 &&& Int32.toUInt32 31).toBitVec % 32).toNat).getLsbD i = _
  rw [s_u n hn, BitVec.getLsbD_ushiftRight]
theorem b_sshr (n : Nat) (hn : n < 32) (x : Int32) {i : Nat} (hi : i < 32) : bt (x >>> (nI n &&& 31)) i = if n + i < 32 then bt x (n + i) else bt x 31 := by
  unfold bt
  rw [Int32.toBitVec_shiftRight]
  show (x.toBitVec.sshiftRight ((nI n &&& 31).toBitVec.smod 32).toNat).getLsbD i = _
  rw [s_l n hn, BitVec.getLsbD_sshiftRight, BitVec.msb_eq_getLsbD_last]
  simp [hi]
theorem b_shl8 (x : Int32) {i : Nat} (hi : i < 32) : bt (x <<< ((8 : Int32) &&& 31)) i = (decide (8 ≤ i) && bt x (i - 8)) := b_shl 8 (by omega) x hi
theorem b_shl16 (x : Int32) {i : Nat} (hi : i < 32) : bt (x <<< ((16 : Int32) &&& 31)) i = (decide (16 ≤ i) && bt x (i - 16)) := b_shl 16 (by omega) x hi
theorem b_shl24 (x : Int32) {i : Nat} (hi : i < 32) : bt (x <<< ((24 : Int32) &&& 31)) i = (decide (24 ≤ i) && bt x (i - 24)) := b_shl 24 (by omega) x hi
theorem b_sshr8 (x : Int32) {i : Nat} (hi : i < 32) : bt (x >>> ((8 : Int32) &&& 31)) i = if 8 + i < 32 then bt x (8 + i) else bt x 31 := b_sshr 8 (by omega) x hi
/-! ===== nI under and, xor, >>>, one bit, 65535 ===== -/
theorem nx_and (a b : Nat) : nI a &&& nI b = nI (a &&& b) := by
  apply Int32.toBitVec_inj.1
  show BitVec.ofNat 32 a &&& BitVec.ofNat 32 b = BitVec.ofNat 32 (a &&& b)
  apply BitVec.eq_of_getLsbD_eq
  intro i hi
  simp [hi]
theorem nx_xor (a b : Nat) : nI a ^^^ nI b = nI (a ^^^ b) := by
  apply Int32.toBitVec_inj.1
  show BitVec.ofNat 32 a ^^^ BitVec.ofNat 32 b = BitVec.ofNat 32 (a ^^^ b)
  apply BitVec.eq_of_getLsbD_eq
  intro i hi
  simp [hi]
theorem nx_cnt : ∀ j : Fin 32, (UInt32.ofNat j.val &&& Int32.toUInt32 31).toNat % 32 = j.val := by decide +kernel
theorem nx_ush {k j : Nat} (hk : k < 65536) (hj : j < 32) : ((nI k).toUInt32 >>> ((nI j).toUInt32 &&& Int32.toUInt32 31)).toInt32 = nI (k >>> j) := by
  have hs : k >>> j ≤ k := by
    rw [Nat.shiftRight_eq_div_pow]
    exact Nat.div_le_self _ _
  have e2 : UInt32.ofNat k >>> (UInt32.ofNat j &&& Int32.toUInt32 31) = UInt32.ofNat (k >>> j) := by
    apply UInt32.toNat_inj.1
    have h1 : (UInt32.ofNat k).toNat = k := Nat.mod_eq_of_lt (by omega)
    have h2 : (UInt32.ofNat (k >>> j)).toNat = k >>> j := Nat.mod_eq_of_lt (by omega)
    rw [UInt32.toNat_shiftRight, nx_cnt ⟨j, hj⟩, h1, h2]
  show (UInt32.ofNat k >>> (UInt32.ofNat j &&& Int32.toUInt32 31)).toInt32 = _
  rw [e2]
  rfl
theorem nx_bit {k j : Nat} (hk : k < 65536) (hj : j < 16) : (((nI k).toUInt32 >>> ((nI j).toUInt32 &&& Int32.toUInt32 31)).toInt32 &&& 1) = 0 ↔ k.testBit j = false := by
  rw [nx_ush hk (by omega)]
  show nI (k >>> j) &&& nI 1 = 0 ↔ _
  rw [nx_and, Nat.and_one_is_mod, ← nI_0, nI_eq (by omega) (by omega), Nat.testBit_eq_decide_div_mod_eq, Nat.shiftRight_eq_div_pow, decide_eq_false_iff_not]
  generalize k / 2 ^ j = z
  omega
theorem nx_mod (k : Nat) : nI k &&& 65535 = nI (k % 65536) := by
  show nI k &&& nI 65535 = _
  rw [nx_and, show (65535 : Nat) = 2 ^ 16 - 1 from rfl, Nat.and_two_pow_sub_one_eq_mod]
theorem nx_m16 {k : Nat} (h : k < 65536) : nI k &&& 65535 = nI k := by rw [nx_mod, Nat.mod_eq_of_lt h]
theorem nx_mask (x : Int32) : ∃ k, k < 65536 ∧ x &&& 65535 = nI k := by
  have e : x = nI x.toBitVec.toNat := by
    apply Int32.toBitVec_inj.1
    show x.toBitVec = BitVec.ofNat 32 x.toBitVec.toNat
    simp
  refine ⟨x.toBitVec.toNat % 65536, Nat.mod_lt _ (by omega), ?_⟩
  rw [← nx_mod, ← e]
/-! ===== Int32 as a set of bits: test, set ===== -/
def nf_M (m : Int32) : Nat := 4294967296 - m.toBitVec.toNat
theorem nf_sh : ∀ l, l < 32 → ((1 : Int32) <<< (nI l &&& 31)).toBitVec = BitVec.twoPow 32 l := by decide +kernel
theorem nf_sl : ∀ l, l < 32 → (((nI l).toUInt32 &&& Int32.toUInt32 31).toBitVec % 32).toNat = l := by decide +kernel
theorem nf_tp : ∀ l, l < 32 → BitVec.twoPow 32 l ≠ 0#32 := by decide +kernel
theorem nf_bit (m : Int32) (l : Nat) (hl : l < 32) : ((m.toUInt32 >>> ((nI l).toUInt32 &&& Int32.toUInt32 31)).toInt32 &&& 1) = 0 ↔ (m &&& ((1 : Int32) <<< (nI l &&& 31))) = 0 := by
  have e : ((m.toUInt32 >>> ((nI l).toUInt32 &&& Int32.toUInt32 31)).toInt32).toBitVec = m.toBitVec >>> l := by
    show m.toBitVec >>> (((nI l).toUInt32 &&& Int32.toUInt32 31).toBitVec % 32) = m.toBitVec >>> l
    rw [BitVec.ushiftRight_eq', nf_sl l hl]
  rw [← Int32.toBitVec_inj, ← Int32.toBitVec_inj, Int32.toBitVec_and, Int32.toBitVec_and, nf_sh l hl, e, BitVec.and_twoPow]
  show (m.toBitVec >>> l &&& 1#32) = 0#32 ↔ _ = 0#32
  rw [BitVec.and_one_eq_setWidth_ofBool_getLsbD, BitVec.getLsbD_ushiftRight, Nat.add_zero]
  cases hb : m.toBitVec.getLsbD l
  · exact ⟨fun _ => by simp, fun _ => by decide⟩
  · exact ⟨fun z => absurd z (by decide), fun z => absurd ((if_pos rfl).symm.trans z) (nf_tp l hl)⟩
theorem nf_gr (m k : Int32) (h : m &&& k = 0) (hk : k ≠ 0) : nf_M (m ||| k) < nf_M m := by
  have hm := m.toBitVec.isLt
  have hm' := (m ||| k).toBitVec.isLt
  have h1 : m.toBitVec.toNat ≤ (m ||| k).toBitVec.toNat := by
    rw [Int32.toBitVec_or, BitVec.toNat_or]
    exact Nat.left_le_or
  have h2 : m.toBitVec.toNat ≠ (m ||| k).toBitVec.toNat := by
    intro e
    have e2 : m = m ||| k := Int32.toBitVec_inj.mp (BitVec.eq_of_toNat_eq e)
    apply hk
    apply Int32.toBitVec_inj.mp
    show k.toBitVec = 0#32
    apply BitVec.eq_of_getLsbD_eq
    intro i hi
    have a : m.toBitVec.getLsbD i = (m.toBitVec.getLsbD i || k.toBitVec.getLsbD i) := by rw [← BitVec.getLsbD_or, ← Int32.toBitVec_or, ← e2]
    have b : (m.toBitVec.getLsbD i && k.toBitVec.getLsbD i) = false := by
      rw [← BitVec.getLsbD_and, ← Int32.toBitVec_and, h]
      exact BitVec.getLsbD_zero
    rw [BitVec.getLsbD_zero]
    revert a b
    cases m.toBitVec.getLsbD i <;> cases k.toBitVec.getLsbD i <;> simp
  unfold nf_M
  omega
/-! ===== a byte read unsigned ===== -/
theorem bp_b (x : Int32) : x.toInt8.toInt32 &&& 255 = x &&& 255 := by
  apply Int32.toBitVec_inj.mp
  rw [Int32.toBitVec_and, Int32.toBitVec_and, Int8.toBitVec_toInt32, Int32.toBitVec_toInt8]
  apply BitVec.eq_of_getLsbD_eq
  intro i hi
  rw [BitVec.getLsbD_and, BitVec.getLsbD_and]
  have hm : ∀ i < 32, 8 ≤ i → (255 : Int32).toBitVec.getLsbD i = false := by decide
  rcases Nat.lt_or_ge i 8 with z | z
  · rw [BitVec.getLsbD_signExtend, BitVec.getLsbD_signExtend, if_pos z, if_pos hi]
    simp only [z, hi, decide_true, Bool.true_and]
  · rw [hm i hi z]; simp
/-! ===== the char cast and 65535 ===== -/
theorem em_w (v : Int32) : ∃ w : Nat, w < 65536 ∧ (v.toUInt32 % 65536).toInt32 = nI w ∧ v &&& 65535 = nI w := by
  have hr := lw_u16_r v
  have h0 : (0 : Int32).toInt = 0 := by decide
  obtain ⟨w, h1, h2⟩ := nI_of (x := lw_u16 v) (by rw [Int32.lt_iff_toInt_lt]; omega)
  have h3 : (v.toUInt32 % 65536).toInt32 = nI w := h2
  rw [h2, nI_toInt h1] at hr
  exact ⟨w, by omega, h3, by rw [← lg_i2c_mask, ← lg_i2c_nf, h3]⟩
/-! ===== Int64 as a set of bits: test, set, clear ===== -/
theorem ts_nf {x : Bool} (h : ¬ x = false) : x = true := by cases x <;> first | rfl | exact absurd rfl h
theorem ts_nt {x : Bool} (h : ¬ x = true) : x = false := by cases x <;> first | rfl | exact absurd rfl h
theorem ts_bit {w : Int64} {s : UInt64} {j : Nat} (hj : j < 64) (hs : s.toNat = j) : ((w.toUInt64 >>> s).toInt64 &&& 1) = 0 ↔ w.toBitVec.getLsbD j = false := by
  have e : (w.toUInt64 >>> s).toInt64.toBitVec = w.toBitVec >>> j := by
    apply BitVec.eq_of_toNat_eq
    show (w.toUInt64 >>> s).toNat = _
    rw [UInt64.toNat_shiftRight, hs, Nat.mod_eq_of_lt hj, BitVec.toNat_ushiftRight]
    rfl
  rw [← Int64.toBitVec_inj, Int64.toBitVec_and, e]
  show w.toBitVec >>> j &&& 1#64 = 0#64 ↔ _
  constructor
  · intro h
    have t := congrArg (fun x => x.getLsbD 0) h
    simpa using t
  · intro h
    apply BitVec.eq_of_getLsbD_eq
    intro i hi
    cases i with
    | zero => simp [h]
    | succ i => simp
theorem ts_or {w m : Int64} {j : Nat} (hj : j < 64) (hm : m.toBitVec = BitVec.twoPow 64 j) : (w ||| m) = w ↔ w.toBitVec.getLsbD j = true := by
  rw [← Int64.toBitVec_inj, Int64.toBitVec_or, hm]
  constructor
  · intro h
    have t := congrArg (fun x => x.getLsbD j) h
    simp only [BitVec.getLsbD_or, BitVec.getLsbD_twoPow] at t
    simpa [hj] using t.symm
  · intro h
    apply BitVec.eq_of_getLsbD_eq
    intro i hi
    rw [BitVec.getLsbD_or, BitVec.getLsbD_twoPow]
    by_cases e : j = i
    · subst e; rw [h, Bool.true_or]
    · simp [e]
theorem ts_and {w m : Int64} {j : Nat} (hj : j < 64) (hm : m.toBitVec = BitVec.twoPow 64 j) : (w &&& (m ^^^ (-1))) = w ↔ w.toBitVec.getLsbD j = false := by
  have ha : (-1 : Int64).toBitVec = BitVec.allOnes 64 := by decide
  rw [← Int64.toBitVec_inj, Int64.toBitVec_and, Int64.toBitVec_xor, hm, ha]
  constructor
  · intro h
    have t := congrArg (fun x => x.getLsbD j) h
    simp only [BitVec.getLsbD_and, BitVec.getLsbD_xor, BitVec.getLsbD_twoPow, BitVec.getLsbD_allOnes] at t
    simpa [hj] using t.symm
  · intro h
    apply BitVec.eq_of_getLsbD_eq
    intro i hi
    rw [BitVec.getLsbD_and, BitVec.getLsbD_xor, BitVec.getLsbD_twoPow, BitVec.getLsbD_allOnes]
    by_cases e : j = i
    · subst e; rw [h, Bool.false_and]
    · simp [e, hi]
/-! ===== lN n to 2^64: shifts, and, or, masks, one bit ===== -/
theorem wb_tb (n : Nat) : (lN n).toBitVec = BitVec.ofNat 64 n := rfl
theorem wb_inj {a b : Int64} (h : a.toBitVec = b.toBitVec) : a = b := Int64.toBitVec_inj.mp h
theorem wb_tn {n : Nat} (h : n < 2 ^ 64) : (lN n).toBitVec.toNat = n := by rw [wb_tb, BitVec.toNat_ofNat, Nat.mod_eq_of_lt h]
theorem wb_of (x : Int64) : ∃ n, n < 2 ^ 64 ∧ x = lN n := ⟨x.toBitVec.toNat, x.toBitVec.isLt, wb_inj (by rw [wb_tb]; simp)⟩
theorem wb_of32 (x : Int32) : ∃ n, n < 2 ^ 32 ∧ x = nI n := ⟨x.toBitVec.toNat, x.toBitVec.isLt, Int32.toBitVec_inj.mp (by show _ = BitVec.ofNat 32 _; simp)⟩
theorem wb_c : ∀ k, k < 64 → ((nI k).toInt64 &&& 63) = lN k := by decide +kernel
theorem wb_cu : ∀ k, k < 64 → ((nI k).toInt64.toUInt64 &&& Int64.toUInt64 63) = UInt64.ofNat k := by decide +kernel
theorem wb_sm : ∀ k, k < 64 → (BitVec.ofNat 64 k).smod 64 = BitVec.ofNat 64 k := by decide +kernel
theorem wb_pw {a b : Nat} (h : a ≤ b) : 2 ^ b = 2 ^ a * 2 ^ (b - a) := by rw [← Nat.pow_add]; congr 1; omega
theorem wb_lt2 {a b : Nat} (h : a < b) : 2 ^ a < 2 ^ b := Nat.pow_lt_pow_right (by decide) h
theorem wb_mod (n : Nat) : lN n = lN (n % 2 ^ 64) := wb_inj (by rw [wb_tb, wb_tb]; apply BitVec.eq_of_toNat_eq; rw [BitVec.toNat_ofNat, BitVec.toNat_ofNat, Nat.mod_mod])
theorem wb_shr {n k : Nat} (hn : n < 2 ^ 64) (hk : k < 64) : ((lN n).toUInt64 >>> ((nI k).toInt64.toUInt64 &&& Int64.toUInt64 63)).toInt64 = lN (n / 2 ^ k) := by
  rw [wb_cu k hk]
  apply wb_inj
  apply BitVec.eq_of_toNat_eq
  show ((lN n).toUInt64 >>> UInt64.ofNat k).toNat = (BitVec.ofNat 64 _).toNat
  have h1 : (UInt64.ofNat k).toNat = k := by
    show (BitVec.ofNat 64 k).toNat = k
    rw [BitVec.toNat_ofNat, Nat.mod_eq_of_lt (by omega)]
  have h2 : (lN n).toUInt64.toNat = n := wb_tn hn
  rw [UInt64.toNat_shiftRight, h1, h2, Nat.mod_eq_of_lt hk, Nat.shiftRight_eq_div_pow, BitVec.toNat_ofNat, Nat.mod_eq_of_lt (Nat.lt_of_le_of_lt (Nat.div_le_self _ _) hn)]
theorem wb_shl (n : Nat) {k : Nat} (hk : k < 64) : lN n <<< ((nI k).toInt64 &&& 63) = lN (n * 2 ^ k) := by
  rw [wb_c k hk]
  apply wb_inj
  rw [Int64.toBitVec_shiftLeft, wb_tb, wb_tb, wb_tb, wb_sm k hk]
  apply BitVec.eq_of_toNat_eq
  rw [BitVec.shiftLeft_eq', BitVec.toNat_shiftLeft, BitVec.toNat_ofNat, BitVec.toNat_ofNat, BitVec.toNat_ofNat, Nat.mod_eq_of_lt (show k < 2 ^ 64 by omega), Nat.shiftLeft_eq, Nat.mul_mod, Nat.mod_mod, ← Nat.mul_mod]
theorem wb_and {a b : Nat} (ha : a < 2 ^ 64) (hb : b < 2 ^ 64) : lN a &&& lN b = lN (a &&& b) := by
  apply wb_inj
  rw [Int64.toBitVec_and, wb_tb, wb_tb, wb_tb]
  apply BitVec.eq_of_toNat_eq
  rw [BitVec.toNat_and, BitVec.toNat_ofNat, BitVec.toNat_ofNat, BitVec.toNat_ofNat, Nat.mod_eq_of_lt ha, Nat.mod_eq_of_lt hb, Nat.mod_eq_of_lt (Nat.and_lt_two_pow _ hb)]
theorem wb_or {a b : Nat} (ha : a < 2 ^ 64) (hb : b < 2 ^ 64) : lN a ||| lN b = lN (a ||| b) := by
  apply wb_inj
  rw [Int64.toBitVec_or, wb_tb, wb_tb, wb_tb]
  apply BitVec.eq_of_toNat_eq
  rw [BitVec.toNat_or, BitVec.toNat_ofNat, BitVec.toNat_ofNat, BitVec.toNat_ofNat, Nat.mod_eq_of_lt ha, Nat.mod_eq_of_lt hb, Nat.mod_eq_of_lt (Nat.or_lt_two_pow ha hb)]
theorem wb_mask {n k : Nat} (hn : n < 2 ^ 64) (hk : k < 64) : lN n &&& lN (2 ^ k - 1) = lN (n % 2 ^ k) := by
  rw [wb_and hn (by have := wb_lt2 hk; omega), Nat.and_two_pow_sub_one_eq_mod]
theorem wb_a1 {n : Nat} (hn : n < 2 ^ 64) : lN n &&& 1 = lN (n % 2) := wb_mask (k := 1) hn (by decide)
theorem wb_bit {n k : Nat} (hn : n < 2 ^ 64) (hk : k < 64) : ((lN n).toUInt64 >>> ((nI k).toInt64.toUInt64 &&& Int64.toUInt64 63)).toInt64 &&& 1 = lN (n / 2 ^ k % 2) := by
  rw [wb_shr hn hk, wb_a1 (Nat.lt_of_le_of_lt (Nat.div_le_self _ _) hn)]
theorem wb_xor {q k : Nat} (hk : k < 63) (h : 2 ^ k ≤ q) (h2 : q < 2 ^ (k + 1)) : lN q ^^^ lN (2 ^ k) = lN (q - 2 ^ k) := by
  obtain ⟨r, rfl⟩ : ∃ r, q = 2 ^ k + r := ⟨q - 2 ^ k, by omega⟩
  have hr : r < 2 ^ k := by rw [Nat.pow_succ] at h2; omega
  have hx : (2 ^ k + r) ^^^ 2 ^ k = r := by
    apply Nat.eq_of_testBit_eq
    intro i
    rw [Nat.testBit_xor, Nat.testBit_two_pow]
    rcases Nat.lt_trichotomy i k with h | h | h
    · rw [Nat.testBit_two_pow_add_gt h]
      simp [show ¬ k = i by omega]
    · subst h
      rw [Nat.testBit_two_pow_add_eq]
      simp
    · have a1 : 2 ^ (k + 1) ≤ 2 ^ i := Nat.pow_le_pow_right (by decide) h
      rw [Nat.testBit_lt_two_pow (show 2 ^ k + r < 2 ^ i by omega), Nat.testBit_lt_two_pow (show r < 2 ^ i by omega)]
      simp [show ¬ k = i by omega]
  have b1 := wb_lt2 (show k + 1 < 64 by omega)
  have b2 := wb_lt2 (show k < 64 by omega)
  apply wb_inj
  rw [Int64.toBitVec_xor, wb_tb, wb_tb, wb_tb]
  apply BitVec.eq_of_toNat_eq
  rw [BitVec.toNat_xor, BitVec.toNat_ofNat, BitVec.toNat_ofNat, BitVec.toNat_ofNat, Nat.mod_eq_of_lt (by omega : 2 ^ k + r < 2 ^ 64), Nat.mod_eq_of_lt b2, hx, Nat.add_sub_cancel_left, Nat.mod_eq_of_lt (by omega)]
/-! ===== lN: masks, 'or' of parts that don't overlap is a sum ===== -/
theorem u_tn {n : Nat} (h : n < 2 ^ 64) : (UInt64.ofNat n).toNat = n := Nat.mod_eq_of_lt h
theorem g_and {a b c : Nat} (ha : a < 2 ^ 64) (hb : b < 2 ^ 64) (hc : a &&& b = c) : lN a &&& lN b = lN c := by
  subst hc
  have h : UInt64.ofNat a &&& UInt64.ofNat b = UInt64.ofNat (a &&& b) := UInt64.toNat_inj.mp (by rw [UInt64.toNat_and, u_tn ha, u_tn hb, u_tn (Nat.and_lt_two_pow a hb)])
  have h2 := congrArg UInt64.toInt64 h
  exact h2
theorem g_and1 {a : Nat} (ha : a < 2 ^ 64) : lN a &&& 1 = lN (a % 2) := g_and (b := 1) ha (by decide) (Nat.and_two_pow_sub_one_eq_mod a 1)
theorem g_mask {a s p : Nat} (hp : 2 ^ s = p) (hs : s < 64) (ha : a < 2 ^ 64) : lN a &&& lN (p - 1) = lN (a % p) := by
  subst hp
  have := Nat.pow_lt_pow_right (show 1 < 2 by decide) hs
  exact g_and ha (by omega) (Nat.and_two_pow_sub_one_eq_mod a s)
theorem g_or {k p a b : Nat} (hp : 2 ^ k = p) (ha : a < p) (h : b * p + a < 2 ^ 64) : lN (b * p) ||| lN a = lN (b * p + a) := by
  subst hp
  have h1 : b * 2 ^ k ||| a = b * 2 ^ k + a := by rw [← Nat.shiftLeft_eq, Nat.shiftLeft_add_eq_or_of_lt ha]
  have h3 : UInt64.ofNat (b * 2 ^ k) ||| UInt64.ofNat a = UInt64.ofNat (b * 2 ^ k + a) := UInt64.toNat_inj.mp (by rw [UInt64.toNat_or, u_tn (by omega), u_tn (by omega), u_tn h, h1])
  have h2 := congrArg UInt64.toInt64 h3
  exact h2
theorem g_or' {k p a b : Nat} (hp : 2 ^ k = p) (ha : a < p) (h : a + b * p < 2 ^ 64) : lN a ||| lN (b * p) = lN (a + b * p) := by
  rw [Int64.or_comm, g_or hp ha (by omega), Nat.add_comm]
theorem g_ushr {a k p : Nat} {y : UInt64} (hy : y = UInt64.ofNat k) (hk : k < 64) (hp : 2 ^ k = p) (ha : a < 2 ^ 64) : ((lN a).toUInt64 >>> y).toInt64 = lN (a / p) := by
  subst hy hp
  have h : UInt64.ofNat a >>> UInt64.ofNat k = UInt64.ofNat (a / 2 ^ k) := UInt64.toNat_inj.mp (by rw [UInt64.toNat_shiftRight, u_tn ha, u_tn (by omega), u_tn (Nat.lt_of_le_of_lt (Nat.div_le_self _ _) ha), Nat.mod_eq_of_lt hk, Nat.shiftRight_eq_div_pow])
  have h2 := congrArg UInt64.toInt64 h
  exact h2
theorem g_shl {a k p : Nat} {y : Int64} (hy : y.toBitVec.smod 64 = BitVec.ofNat 64 k) (hk : k < 64) (hp : 2 ^ k = p) (ha : a < 2 ^ 64) : lN a <<< y = lN (a * p) := by
  subst hp
  apply Int64.toBitVec_inj.mp
  rw [Int64.toBitVec_shiftLeft, hy]
  apply BitVec.eq_of_toNat_eq
  have hb : (lN a).toBitVec.toNat = a := Nat.mod_eq_of_lt ha
  have hk' : (BitVec.ofNat 64 k).toNat = k := Nat.mod_eq_of_lt (by omega)
  have h : ((lN a).toBitVec <<< BitVec.ofNat 64 k).toNat = (a * 2 ^ k) % 2 ^ 64 := by simp only [BitVec.shiftLeft_eq', BitVec.toNat_shiftLeft, hb, hk', Nat.shiftLeft_eq]
  exact h
/-! ===== lN to 2^62 under >> and >>> ===== -/
theorem pf_lI {a : Nat} (h : a < 2 ^ 63) : (lN a).toInt = (a : Int) := lg_ofNat_toInt h
theorem pf_shr {a d : Nat} {D : Int64} (hD : (D.toBitVec.smod 64).toNat = d) (h : a < 2 ^ 62) : lN a >>> D = lN (a / 2 ^ d) := by
  have hd : a / 2 ^ d ≤ a := Nat.div_le_self _ _
  apply Int64.toInt_inj.mp
  have e : (lN a >>> D).toInt = (lN a).toInt >>> d := by
    rw [← hD]
    exact BitVec.toInt_sshiftRight ..
  rw [e, Int.shiftRight_eq_div_pow, pf_lI (by omega), pf_lI (by omega)]
  rfl
theorem pf_ushr {a d : Nat} {D : UInt64} (hD : D.toNat % 64 = d) (h : a < 2 ^ 62) : ((lN a).toUInt64 >>> D).toInt64 = lN (a / 2 ^ d) := by
  have hd : a / 2 ^ d ≤ a := Nat.div_le_self _ _
  have e : (lN a).toUInt64 >>> D = UInt64.ofNat (a / 2 ^ d) := UInt64.toNat_inj.mp (by
    rw [UInt64.toNat_shiftRight, hD, Nat.shiftRight_eq_div_pow, UInt64.toNat_ofNat']
    show (UInt64.ofNat a).toNat / 2 ^ d = _
    rw [UInt64.toNat_ofNat', Nat.mod_eq_of_lt (by omega), Nat.mod_eq_of_lt (by omega)])
  rw [e]
  rfl
theorem pf_andw (x : Int64) : ∃ m, m < 2 ^ 32 ∧ x &&& 4294967295 = lN m := ⟨x.toBitVec.toNat % 2 ^ 32, Nat.mod_lt _ (by decide), Int64.toBitVec_inj.mp (BitVec.eq_of_toNat_eq (by
  show (x.toBitVec &&& 4294967295#64).toNat = (BitVec.ofNat 64 (x.toBitVec.toNat % 2 ^ 32)).toNat
  rw [BitVec.toNat_and, show (4294967295#64).toNat = 2 ^ 32 - 1 from by decide, Nat.and_two_pow_sub_one_eq_mod, BitVec.toNat_ofNat]
  omega))⟩
/-! ===== Int64 as an unsigned number: uN x ===== -/
def uN (x : Int64) : Nat := x.toUInt64.toNat
theorem uN_lt (x : Int64) : uN x < 18446744073709551616 := x.toUInt64.toNat_lt
theorem uN_inj {x y : Int64} (h : uN x = uN y) : x = y := congrArg UInt64.toInt64 (UInt64.toNat_inj.mp h)
theorem uN_add (x y : Int64) : uN (x + y) = (uN x + uN y) % 18446744073709551616 := by
  show (x.toUInt64 + y.toUInt64).toNat = _
  exact UInt64.toNat_add _ _
theorem uN_mul (x y : Int64) : uN (x * y) = (uN x * uN y) % 18446744073709551616 := by
  show (x.toUInt64 * y.toUInt64).toNat = _
  exact UInt64.toNat_mul _ _
theorem uN_shl (x : Int64) : uN (x <<< ((1 : Int32).toInt64 &&& 63)) = (2 * uN x) % 18446744073709551616 := by
  have h : (((1 : Int32).toInt64 &&& 63).toBitVec.smod 64).toNat = 1 := by decide
  show (x.toBitVec <<< (((1 : Int32).toInt64 &&& 63).toBitVec.smod 64).toNat).toNat = _
  rw [h, BitVec.toNat_shiftLeft, Nat.shiftLeft_eq, Nat.mul_comm]
  rfl
theorem uN_shr (x : Int64) (s : UInt64) : uN (x.toUInt64 >>> s).toInt64 = uN x / 2 ^ (s.toNat % 64) := by
  show (x.toUInt64 >>> s).toNat = _
  rw [UInt64.toNat_shiftRight, Nat.shiftRight_eq_div_pow]
  rfl
theorem uN_s32 (x : Int64) : uN (x.toUInt64 >>> ((32 : Int32).toInt64.toUInt64 &&& Int64.toUInt64 63)).toInt64 = uN x / 4294967296 := by
  have h : ((32 : Int32).toInt64.toUInt64 &&& Int64.toUInt64 63).toNat % 64 = 32 := by decide
  rw [uN_shr, h]
theorem uN_s63 (x : Int64) : uN (x.toUInt64 >>> ((63 : Int32).toInt64.toUInt64 &&& Int64.toUInt64 63)).toInt64 = uN x / 9223372036854775808 := by
  have h : ((63 : Int32).toInt64.toUInt64 &&& Int64.toUInt64 63).toNat % 64 = 63 := by decide
  rw [uN_shr, h]
theorem uN_lo (x : Int64) : uN (x &&& 4294967295) = uN x % 4294967296 := by
  show (x.toUInt64 &&& Int64.toUInt64 4294967295).toNat = _
  rw [UInt64.toNat_and]
  exact Nat.and_two_pow_sub_one_eq_mod _ 32
theorem uN_bit (x : Int64) : (x &&& 1) = 0 ↔ uN x % 2 = 0 := by
  have h : uN (x &&& 1) = uN x % 2 := by
    show (x.toUInt64 &&& Int64.toUInt64 1).toNat = _
    rw [UInt64.toNat_and]
    exact Nat.and_two_pow_sub_one_eq_mod _ 1
  rw [← h]
  exact ⟨fun z => by rw [z]; rfl, fun z => uN_inj (z.trans rfl)⟩
theorem uN_or {x y : Int64} (hy : uN y < 2) : uN ((x <<< ((1 : Int32).toInt64 &&& 63)) ||| y) = (2 * uN x) % 18446744073709551616 + uN y := by
  have h1 : uN ((x <<< ((1 : Int32).toInt64 &&& 63)) ||| y) = uN (x <<< ((1 : Int32).toInt64 &&& 63)) ||| uN y := UInt64.toNat_or _ _
  have h2 : (2 * uN x) % 18446744073709551616 = 2 ^ 1 * (uN x % 9223372036854775808) := by omega
  rw [h1, uN_shl, h2]
  exact (Nat.two_pow_add_eq_or_of_lt (i := 1) hy _).symm
theorem nat_xor {a : Nat} (h : a < 18446744073709551616) : a ^^^ 2 ^ 63 = (a + 9223372036854775808) % 18446744073709551616 := by
  have h1 : (a ^^^ 2 ^ 63) % 2 ^ 63 = a % 2 ^ 63 := by rw [Nat.xor_mod_two_pow, Nat.mod_self, Nat.xor_zero]
  have h2 : (a ^^^ 2 ^ 63) / 2 ^ 63 = (a / 2 ^ 63) ^^^ 1 := by rw [Nat.xor_div_two_pow, Nat.div_self (Nat.two_pow_pos 63)]
  have h3 : a / 2 ^ 63 = 0 ∨ a / 2 ^ 63 = 1 := by omega
  generalize a ^^^ 2 ^ 63 = t at h1 h2
  rcases h3 with h3 | h3
  · rw [h3] at h2
    have h2 : t / 2 ^ 63 = 1 := h2
    omega
  · rw [h3] at h2
    have h2 : t / 2 ^ 63 = 0 := h2
    omega
theorem uN_xor (x : Int64) : uN (x ^^^ (-9223372036854775808)) = (uN x + 9223372036854775808) % 18446744073709551616 := by
  rw [← nat_xor (uN_lt x)]
  exact UInt64.toNat_xor _ _
theorem uN_int (x : Int64) : x.toInt = if 2 * uN x < 18446744073709551616 then (uN x : Int) else (uN x : Int) - 18446744073709551616 := BitVec.toInt_eq_toNat_cond _
theorem uN_le (x y : Int64) : (x ^^^ (-9223372036854775808)) ≤ (y ^^^ (-9223372036854775808)) ↔ uN x ≤ uN y := by
  have hx := uN_lt x
  have hy := uN_lt y
  rw [Int64.le_iff_toInt_le, uN_int, uN_int, uN_xor, uN_xor]
  omega
theorem uN_sk (x : Int64) {k : Nat} (hk : k < 64) : uN (x.toUInt64 >>> ((nI k).toInt64.toUInt64 &&& Int64.toUInt64 63)).toInt64 = uN x / 2 ^ k := by
  have h : ((nI k).toInt64.toUInt64 &&& Int64.toUInt64 63).toNat % 64 = k := by
    rw [nI_l (by omega), UInt64.toNat_and]
    have e : (lN k).toUInt64.toNat = k % 2 ^ 64 := rfl
    have e2 : (Int64.toUInt64 63).toNat = 2 ^ 6 - 1 := by decide
    rw [e, e2, Nat.and_two_pow_sub_one_eq_mod]
    omega
  rw [uN_shr, h]
/-! ===== unsigned comparison by xor with the least ===== -/
theorem lN_bv (n : Nat) : (lN n).toBitVec = BitVec.ofNat 64 n := rfl
theorem lN_nat {n : Nat} (h : n < 2 ^ 64) : (lN n).toBitVec.toNat = n := by rw [lN_bv, BitVec.toNat_ofNat]; exact Nat.mod_eq_of_lt h
theorem lN_xor (a b : Nat) : lN a ^^^ lN b = lN (a ^^^ b) := by
  apply Int64.toBitVec_inj.mp; rw [Int64.toBitVec_xor, lN_bv, lN_bv, lN_bv]; apply BitVec.eq_of_getLsbD_eq; intro i hi; simp [BitVec.getLsbD_ofNat, Nat.testBit_xor, hi]
theorem lN_ti {m : Nat} (h : m < 2 ^ 64) : (lN m).toInt = if m < 2 ^ 63 then (m : Int) else (m : Int) - 2 ^ 64 := by
  have c := BitVec.toInt_eq_toNat_cond (lN m).toBitVec
  rw [lN_nat h] at c
  show (lN m).toBitVec.toInt = _
  rw [c]
  split <;> split <;> omega
theorem xor63 {x : Nat} (h : x < 2 ^ 63) : x ^^^ 2 ^ 63 = 2 ^ 63 + x := by
  apply Nat.eq_of_testBit_eq
  intro i
  rw [Nat.testBit_xor, Nat.testBit_two_pow]
  rcases Nat.lt_trichotomy i 63 with z | z | z
  · rw [Nat.testBit_two_pow_add_gt z, decide_eq_false (by omega)]; simp
  · subst z; rw [Nat.testBit_two_pow_add_eq]; simp
  · have hp : 2 ^ 64 ≤ 2 ^ i := Nat.pow_le_pow_right (by decide) z
    rw [Nat.testBit_lt_two_pow (show x < 2 ^ i by omega), Nat.testBit_lt_two_pow (show 2 ^ 63 + x < 2 ^ i by omega), decide_eq_false (by omega)]; rfl
theorem xorS {a : Nat} (h : a < 2 ^ 64) : (lN a ^^^ (-9223372036854775808)).toInt = (a : Int) - 2 ^ 63 := by
  rw [show (-9223372036854775808 : Int64) = lN (2 ^ 63) from by decide +kernel, lN_xor]
  rcases Nat.lt_or_ge a (2 ^ 63) with z | z
  · rw [xor63 z, lN_ti (by omega), if_neg (by omega)]; omega
  · obtain ⟨x, rfl⟩ : ∃ x, a = 2 ^ 63 + x := ⟨a - 2 ^ 63, by omega⟩
    rw [← xor63 (by omega), Nat.xor_assoc, Nat.xor_self, Nat.xor_zero, lN_ti (by omega), if_pos (by omega), xor63 (by omega)]; omega
theorem ultL {a b : Nat} (ha : a < 2 ^ 64) (hb : b < 2 ^ 64) : ((lN b ^^^ (-9223372036854775808)) ≤ (lN a ^^^ (-9223372036854775808))) ↔ b ≤ a := by
  rw [Int64.le_iff_toInt_le, xorS ha, xorS hb]; omega
/-! ===== Int64 masks of n low bits ===== -/
theorem cr_bits (W U M : BitVec 64) : ((W &&& U) &&& (U &&& (M ^^^ BitVec.allOnes 64))) = 0#64 ↔ (W &&& U) &&& M = W &&& U := by
  constructor
  · intro h
    apply BitVec.eq_of_getLsbD_eq
    intro i hi
    have e := congrArg (fun x => BitVec.getLsbD x i) h
    simp only [BitVec.getLsbD_and, BitVec.getLsbD_xor, BitVec.getLsbD_allOnes, BitVec.getLsbD_zero, hi, decide_true] at e ⊢
    revert e
    cases W.getLsbD i <;> cases U.getLsbD i <;> cases M.getLsbD i <;> decide
  · intro h
    apply BitVec.eq_of_getLsbD_eq
    intro i hi
    have e := congrArg (fun x => BitVec.getLsbD x i) h
    simp only [BitVec.getLsbD_and, BitVec.getLsbD_xor, BitVec.getLsbD_allOnes, BitVec.getLsbD_zero, hi, decide_true] at e ⊢
    revert e
    cases W.getLsbD i <;> cases U.getLsbD i <;> cases M.getLsbD i <;> decide
theorem cr_mask (w U m : Int64) (n : Nat) (hm : m.toBitVec.toNat = 2 ^ n - 1) : ((w &&& U) &&& (U &&& (m ^^^ (-1)))) = 0 ↔ (w &&& U).toBitVec.toNat < 2 ^ n := by
  have e0 : (-1 : Int64).toBitVec = BitVec.allOnes 64 := by decide
  have z0 : (0 : Int64).toBitVec = 0#64 := by decide
  rw [← Int64.toBitVec_inj, z0, Int64.toBitVec_and, Int64.toBitVec_and, Int64.toBitVec_and, Int64.toBitVec_xor, e0, cr_bits]
  generalize w.toBitVec &&& U.toBitVec = T
  rw [← BitVec.toNat_inj, BitVec.toNat_and, hm, Nat.and_two_pow_sub_one_eq_mod]
  constructor
  · intro h
    have t := Nat.mod_lt T.toNat (Nat.two_pow_pos n)
    rw [h] at t
    exact t
  · exact Nat.mod_eq_of_lt
theorem cr_shr (t : Int64) (x : UInt64) (n : Nat) (hx : x.toNat % 64 = n) : (t.toUInt64 >>> x).toInt64 = 0 ↔ t.toBitVec.toNat < 2 ^ n := by
  rw [← Int64.toBitVec_inj, ← BitVec.toNat_inj]
  show (t.toUInt64 >>> x).toNat = 0 ↔ t.toUInt64.toNat < 2 ^ n
  rw [UInt64.toNat_shiftRight, hx, Nat.shiftRight_eq_div_pow]
  constructor
  · intro h
    have d : t.toUInt64.toNat / 2 ^ n < 1 := by
      rw [h]
      decide
    have e := (Nat.div_lt_iff_lt_mul (Nat.two_pow_pos n)).mp d
    rw [Nat.one_mul] at e
    exact e
  · exact Nat.div_eq_of_lt
theorem cr_amt (s : Int64) : ∃ n, n < 64 ∧ s &&& 63 = lN n ∧ (s.toUInt64 &&& Int64.toUInt64 63).toNat % 64 = n := by
  have e : (s.toUInt64 &&& Int64.toUInt64 63).toNat = s.toUInt64.toNat % 2 ^ 6 := by
    rw [UInt64.toNat_and, show (Int64.toUInt64 63).toNat = 2 ^ 6 - 1 from by decide, Nat.and_two_pow_sub_one_eq_mod]
  refine ⟨s.toUInt64.toNat % 2 ^ 6, by omega, ?_, by omega⟩
  rw [← Int64.toBitVec_inj, ← BitVec.toNat_inj]
  show (s.toUInt64 &&& Int64.toUInt64 63).toNat = (BitVec.ofNat 64 (s.toUInt64.toNat % 2 ^ 6)).toNat
  rw [e, BitVec.toNat_ofNat]
  omega
end
section
/-! the plain machine: a program P, its configurations, its words (lists of threads, the last step first) -/
abbrev te_P : Type := (Nat → Nat) × (Nat → Nat) × (Nat → Nat) × (Nat → Nat) × (Nat → Nat)
abbrev te_C : Type := (Nat → Nat) × (Nat → Nat) × (Nat → Nat) × (Nat → Nat)
def te_sz (P : te_P) : Nat → Nat := P.1
def te_op (P : te_P) : Nat → Nat := P.2.1
def te_pl (P : te_P) : Nat → Nat := P.2.2.1
def te_am (P : te_P) : Nat → Nat := P.2.2.2.1
def te_st (P : te_P) : Nat → Nat := P.2.2.2.2
def te_ok (P : te_P) : Prop := (∀ i, te_sz P i ≤ 3) ∧ (∀ i, te_op P i ≤ 5) ∧ (∀ i, te_pl P i ≤ 2) ∧ (∀ i, 4 ≤ te_op P i → te_pl P i ≤ 1) ∧ (∀ i, te_am P i ≤ 7) ∧ (∀ i, te_st P i ≤ 7)
def te_set (f : Nat → Nat) (k x : Nat) : Nat → Nat := fun j => if j = k then x else f j
/-- values behind a step (operation o, place p, amount a, thread t) -/
def te_fv (o p a t : Nat) (v c : Nat → Nat) : Nat → Nat := fun j => if j = p then (if o = 1 then a else if o = 2 then (c t + a) % 8 else if o = 3 then (v p + a) % 8 else v j) else v j
/-- holders (plus 1; 0: free) -/
def te_fh (o p t : Nat) (h : Nat → Nat) : Nat → Nat := fun j => if j = p then (if o = 4 then t + 1 else if o = 5 then (if h p = t + 1 then 0 else h j) else h j) else h j
/-- accumulators -/
def te_fa (o p t : Nat) (v c : Nat → Nat) : Nat → Nat := fun j => if j = t then (if o = 0 then v p else c j) else c j
def te_nx (c : te_C) (t : Nat) : Nat := 3 * t + c.1 t
def te_d4 (P : te_P) (s t : Nat) (c : te_C) : te_C :=
  (te_set c.1 t (c.1 t + 1), te_fv (te_op P s) (te_pl P s) (te_am P s) t c.2.1 c.2.2.2, te_fh (te_op P s) (te_pl P s) t c.2.2.1, te_fa (te_op P s) (te_pl P s) t c.2.1 c.2.2.2)
def te_do (P : te_P) (c : te_C) (t : Nat) : te_C := te_d4 P (te_nx c t) t c
def te_en (P : te_P) (c : te_C) (t : Nat) : Bool := decide (c.1 t < te_sz P t ∧ (te_op P (te_nx c t) = 4 → c.2.2.1 (te_pl P (te_nx c t)) = 0))
def te_tp (o p o' p' : Nat) : Prop := p = p' ∧ ((4 ≤ o ∧ 4 ≤ o') ∨ (o < 4 ∧ o' < 4 ∧ ¬ (o = 0 ∧ o' = 0)))
def te_ti (P : te_P) (s u : Nat) : Bool := decide (s / 3 = u / 3 ∨ (te_pl P s = te_pl P u ∧ ((4 ≤ te_op P s ∧ 4 ≤ te_op P u) ∨ (te_op P s < 4 ∧ te_op P u < 4 ∧ ¬ (te_op P s = 0 ∧ te_op P u = 0)))))
def te_i0 (P : te_P) : te_C := (fun _ => 0, te_st P, fun _ => 0, fun _ => 0)
def te_ex (P : te_P) : List Nat → te_C
  | [] => te_i0 P
  | t :: w => te_do P (te_ex P w) t
def te_fs (P : te_P) : List Nat → Prop
  | [] => True
  | t :: w => te_fs P w ∧ t < 3 ∧ te_en P (te_ex P w) t = true
def te_Z (P : te_P) : List Nat → Nat → Bool
  | [], _ => false
  | c :: p, b => (te_Z P p b || (decide (b < c) && te_en P (te_ex P p) b)) && (decide ((te_ex P p).1 b < te_sz P b) && !te_ti P (te_nx (te_ex P p) b) (te_nx (te_ex P p) c))
def te_g (P : te_P) (sl : Bool) (w : List Nat) (t : Nat) : Bool := te_en P (te_ex P w) t && !(sl && te_Z P w t)
def te_vg (g : List Nat → Nat → Bool) : List Nat → Prop
  | [] => True
  | t :: w => te_vg g w ∧ t < 3 ∧ g w t = true
def te_pq (P : te_P) : List Nat → Nat → Nat
  | [], _ => 0
  | t :: w, s => if s = te_nx (te_ex P w) t then w.length + 1 else te_pq P w s
def te_bf (P : te_P) (w : List Nat) (s u : Nat) : Bool := decide (0 < te_pq P w s ∧ te_pq P w s < te_pq P w u)
/-- the same progress, and all tied steps in the same order -/
def te_eq (P : te_P) (w w' : List Nat) : Prop := (∀ t, t < 3 → (te_ex P w).1 t = (te_ex P w').1 t) ∧ ∀ s u, s < 9 → u < 9 → te_ti P s u = true → te_bf P w s u = te_bf P w' s u
def te_num : List Nat → Nat
  | [] => 0
  | t :: w => 3 * te_num w + t

theorem te_set_comm (f : Nat → Nat) {b x : Nat} (h : b ≠ x) (m n : Nat) : te_set (te_set f b m) x n = te_set (te_set f x n) b m := by
  funext j
  unfold te_set
  grind
theorem te_set_s (f : Nat → Nat) (k x : Nat) : te_set f k x k = x := by unfold te_set; exact if_pos rfl
theorem te_set_n (f : Nat → Nat) {k j : Nat} (x : Nat) (h : j ≠ k) : te_set f k x j = f j := by unfold te_set; exact if_neg h
theorem te_fv_comm {o p a t o' p' a' t' : Nat} (v c : Nat → Nat) (ht : t ≠ t') (hu : ¬ te_tp o p o' p') : te_fv o' p' a' t' (te_fv o p a t v c) (te_fa o p t v c) = te_fv o p a t (te_fv o' p' a' t' v c) (te_fa o' p' t' v c) := by
  funext j
  unfold te_tp at hu
  unfold te_fv te_fa
  grind
theorem te_fh_comm {o p t o' p' t' : Nat} (h : Nat → Nat) (ht : t ≠ t') (hu : ¬ te_tp o p o' p') : te_fh o' p' t' (te_fh o p t h) = te_fh o p t (te_fh o' p' t' h) := by
  funext j
  unfold te_tp at hu
  unfold te_fh
  grind
theorem te_fa_comm {o p a t o' p' a' t' : Nat} (v c : Nat → Nat) (ht : t ≠ t') (hu : ¬ te_tp o p o' p') : te_fa o' p' t' (te_fv o p a t v c) (te_fa o p t v c) = te_fa o p t (te_fv o' p' a' t' v c) (te_fa o' p' t' v c) := by
  funext j
  unfold te_tp at hu
  unfold te_fv te_fa
  grind
theorem te_d4_comm (P : te_P) {s u t t' : Nat} (c : te_C) (ht : t ≠ t') (hu : ¬ te_tp (te_op P s) (te_pl P s) (te_op P u) (te_pl P u)) : te_d4 P u t' (te_d4 P s t c) = te_d4 P s t (te_d4 P u t' c) := by
  refine Prod.ext ?_ (Prod.ext ?_ (Prod.ext ?_ ?_))
  · show te_set (te_set c.1 t (c.1 t + 1)) t' (te_set c.1 t (c.1 t + 1) t' + 1) = te_set (te_set c.1 t' (c.1 t' + 1)) t (te_set c.1 t' (c.1 t' + 1) t + 1)
    rw [te_set_n _ _ (Ne.symm ht), te_set_n _ _ ht]
    exact te_set_comm _ ht _ _
  · exact te_fv_comm _ _ ht hu
  · exact te_fh_comm _ ht hu
  · exact te_fa_comm _ _ ht hu
theorem te_nx_do (P : te_P) (c : te_C) {b x : Nat} (h : b ≠ x) : te_nx (te_do P c b) x = te_nx c x := by
  show 3 * x + te_set c.1 b (c.1 b + 1) x = 3 * x + c.1 x
  rw [te_set_n _ _ (Ne.symm h)]
theorem te_ti_f {P : te_P} {s u : Nat} (h : te_ti P s u = false) : s / 3 ≠ u / 3 ∧ ¬ te_tp (te_op P s) (te_pl P s) (te_op P u) (te_pl P u) := by
  unfold te_ti at h
  have h' := of_decide_eq_false h
  exact ⟨fun e => h' (Or.inl e), fun e => h' (Or.inr e)⟩
theorem te_ti_comm (P : te_P) (s u : Nat) : te_ti P s u = te_ti P u s := by
  unfold te_ti
  rw [decide_eq_decide]
  grind
theorem te_do_comm (P : te_P) (c : te_C) {b x : Nat} (h : b ≠ x) (hu : te_ti P (te_nx c b) (te_nx c x) = false) : te_do P (te_do P c b) x = te_do P (te_do P c x) b := by
  show te_d4 P (te_nx (te_do P c b) x) x (te_d4 P (te_nx c b) b c) = te_d4 P (te_nx (te_do P c x) b) b (te_d4 P (te_nx c x) x c)
  rw [te_nx_do P c h, te_nx_do P c (Ne.symm h)]
  exact te_d4_comm P c h (te_ti_f hu).2
theorem te_en_t {P : te_P} {c : te_C} {t : Nat} (h : te_en P c t = true) : c.1 t < te_sz P t ∧ (te_op P (te_nx c t) = 4 → c.2.2.1 (te_pl P (te_nx c t)) = 0) := of_decide_eq_true h
theorem te_en_do (P : te_P) (c : te_C) {b x : Nat} (h : b ≠ x) (hu : te_ti P (te_nx c b) (te_nx c x) = false) : te_en P (te_do P c b) x = te_en P c x := by
  unfold te_en
  rw [te_nx_do P c h, decide_eq_decide]
  have e1 : (te_do P c b).1 x = c.1 x := te_set_n _ _ (Ne.symm h)
  have e2 : te_op P (te_nx c x) = 4 → (te_do P c b).2.2.1 (te_pl P (te_nx c x)) = c.2.2.1 (te_pl P (te_nx c x)) := by
    intro e4
    have hh := (te_ti_f hu).2
    rw [e4] at hh
    show te_fh (te_op P (te_nx c b)) (te_pl P (te_nx c b)) b c.2.2.1 (te_pl P (te_nx c x)) = _
    unfold te_tp at hh
    unfold te_fh
    grind
  rw [e1]
  constructor
  · intro ⟨a, z⟩
    exact ⟨a, fun e => (e2 e).symm.trans (z e)⟩
  · intro ⟨a, z⟩
    exact ⟨a, fun e => (e2 e).trans (z e)⟩
theorem te_ex1 (P : te_P) (t : Nat) (w : List Nat) : (te_ex P (t :: w)).1 = te_set (te_ex P w).1 t ((te_ex P w).1 t + 1) := rfl
theorem te_dn_le {P : te_P} : ∀ {w : List Nat}, te_fs P w → ∀ t, (te_ex P w).1 t ≤ te_sz P t := by
  intro w
  induction w with
  | nil => intro _ t; exact Nat.zero_le _
  | cons c w ih =>
    intro h t
    rw [te_ex1]
    by_cases e : t = c
    · subst e; rw [te_set_s]; exact (te_en_t h.2.2).1
    · rw [te_set_n _ _ e]; exact ih h.1 t
theorem te_nx_i {P : te_P} (ok : te_ok P) {c : te_C} {t : Nat} (ht : t < 3) (h : te_en P c t = true) : te_nx c t < 9 ∧ te_nx c t / 3 = t ∧ te_nx c t % 3 = c.1 t ∧ c.1 t < 3 := by
  have a := (te_en_t h).1
  have b := ok.1 t
  unfold te_nx
  omega
theorem te_pq_le (P : te_P) : ∀ (w : List Nat) (s : Nat), te_pq P w s ≤ w.length := by
  intro w
  induction w with
  | nil => intro s; exact Nat.le_refl 0
  | cons c w ih =>
    intro s
    have := ih s
    rw [te_pq, List.length_cons]
    split <;> omega
theorem te_pq_s (P : te_P) (t : Nat) (w : List Nat) : te_pq P (t :: w) (te_nx (te_ex P w) t) = w.length + 1 := by rw [te_pq, if_pos rfl]
theorem te_pq_n (P : te_P) {t s : Nat} {w : List Nat} (h : s ≠ te_nx (te_ex P w) t) : te_pq P (t :: w) s = te_pq P w s := by rw [te_pq, if_neg h]
theorem te_pq_pos {P : te_P} (ok : te_ok P) : ∀ {w : List Nat}, te_fs P w → ∀ s, s < 9 → (0 < te_pq P w s ↔ s % 3 < (te_ex P w).1 (s / 3)) := by
  intro w
  induction w with
  | nil => intro _ s _; exact ⟨fun h => absurd h (Nat.lt_irrefl 0), fun h => absurd h (Nat.not_lt_zero _)⟩
  | cons t w ih =>
    intro h s hs
    have N := te_nx_i ok h.2.1 h.2.2
    have I := ih h.1 s hs
    rw [te_ex1]
    by_cases e : s = te_nx (te_ex P w) t
    · rw [e, te_pq_s, N.2.1, N.2.2.1, te_set_s]; omega
    · rw [te_pq_n P e, I]
      by_cases e3 : s / 3 = t
      · rw [e3, te_set_s]
        have : s % 3 ≠ (te_ex P w).1 t := by
          intro z
          apply e
          unfold te_nx
          omega
        omega
      · rw [te_set_n _ _ e3]
theorem te_pq_new {P : te_P} (ok : te_ok P) {w : List Nat} {t : Nat} (h : te_fs P w) (ht : t < 3) (he : te_en P (te_ex P w) t = true) : te_pq P w (te_nx (te_ex P w) t) = 0 := by
  have N := te_nx_i ok ht he
  have I := te_pq_pos ok h (te_nx (te_ex P w) t) N.1
  rw [N.2.1, N.2.2.1] at I
  omega
theorem te_len {P : te_P} : ∀ {w : List Nat}, te_fs P w → w.length = (te_ex P w).1 0 + (te_ex P w).1 1 + (te_ex P w).1 2 := by
  intro w
  induction w with
  | nil => intro _; exact rfl
  | cons t w ih =>
    intro h
    have I := ih h.1
    rw [te_ex1, List.length_cons, I]
    have ht := h.2.1
    unfold te_set
    rcases (by omega : t = 0 ∨ t = 1 ∨ t = 2) with e | e | e <;> subst e <;> simp <;> omega
theorem te_len9 {P : te_P} (ok : te_ok P) {w : List Nat} (h : te_fs P w) : w.length ≤ 9 := by
  have a := te_len h
  have b := te_dn_le h 0
  have c := te_dn_le h 1
  have d := te_dn_le h 2
  have := ok.1 0
  have := ok.1 1
  have := ok.1 2
  omega
theorem te_vs_fs {P : te_P} {sl : Bool} : ∀ {w : List Nat}, te_vg (te_g P sl) w → te_fs P w := by
  intro w
  induction w with
  | nil => intro _; trivial
  | cons t w ih =>
    intro h
    have h3 := h.2.2
    unfold te_g at h3
    rw [Bool.and_eq_true] at h3
    exact ⟨ih h.1, h.2.1, h3.1⟩
theorem te_fs_vs {P : te_P} : ∀ {w : List Nat}, te_fs P w → te_vg (te_g P false) w := by
  intro w
  induction w with
  | nil => intro _; trivial
  | cons t w ih =>
    intro h
    refine ⟨ih h.1, h.2.1, ?_⟩
    unfold te_g
    rw [h.2.2]
    rfl
theorem te_vs_z {P : te_P} {t : Nat} {w : List Nat} (h : te_vg (te_g P true) (t :: w)) : te_Z P w t = false := by
  have h3 := h.2.2
  unfold te_g at h3
  rw [Bool.and_eq_true] at h3
  have := h3.2
  cases hz : te_Z P w t with
  | false => rfl
  | true => rw [hz] at this; cases this
theorem te_vs_i {P : te_P} {t : Nat} {w : List Nat} (h : te_vg (te_g P true) w) (ht : t < 3) (he : te_en P (te_ex P w) t = true) (hz : te_Z P w t = false) : te_vg (te_g P true) (t :: w) := by
  refine ⟨h, ht, ?_⟩
  unfold te_g
  rw [he, hz]
  rfl
end
section
/-! runs of one kind: every word has a visited one of its kind (te_E), and only one (te_U) -/
theorem te_eq_refl (P : te_P) (w : List Nat) : te_eq P w w := ⟨fun _ _ => rfl, fun _ _ _ _ _ => rfl⟩
theorem te_eq_symm {P : te_P} {w w' : List Nat} (h : te_eq P w w') : te_eq P w' w := ⟨fun t ht => (h.1 t ht).symm, fun s u hs hu ht => (h.2 s u hs hu ht).symm⟩
theorem te_eq_trans {P : te_P} {w w' w'' : List Nat} (h : te_eq P w w') (k : te_eq P w' w'') : te_eq P w w'' := ⟨fun t ht => (h.1 t ht).trans (k.1 t ht), fun s u hs hu ht => (h.2 s u hs hu ht).trans (k.2 s u hs hu ht)⟩
theorem te_bf_c (P : te_P) (b : Nat) (p : List Nat) (s u : Nat) : te_bf P (b :: p) s u = if s = te_nx (te_ex P p) b then false else if u = te_nx (te_ex P p) b then decide (0 < te_pq P p s) else te_bf P p s u := by
  have hs := te_pq_le P p s
  have hu := te_pq_le P p u
  unfold te_bf
  by_cases es : s = te_nx (te_ex P p) b
  · rw [if_pos es, decide_eq_false_iff_not]
    subst es
    rw [te_pq_s]
    by_cases eu : u = te_nx (te_ex P p) b
    · subst eu; rw [te_pq_s]; omega
    · rw [te_pq_n P eu]; omega
  · rw [if_neg es, te_pq_n P es]
    by_cases eu : u = te_nx (te_ex P p) b
    · rw [if_pos eu, decide_eq_decide]
      subst eu
      rw [te_pq_s]
      omega
    · rw [if_neg eu, te_pq_n P eu]
/-- a further step keeps the kind -/
theorem te_eq_cons {P : te_P} (ok : te_ok P) {p p' : List Nat} (b : Nat) (fp : te_fs P p) (fp' : te_fs P p') (he : te_ex P p = te_ex P p') (h : te_eq P p p') : te_eq P (b :: p) (b :: p') := by
  constructor
  · intro t _
    rw [te_ex1, te_ex1, he]
  · intro s u hs hu ht
    rw [te_bf_c, te_bf_c, he]
    have e1 : decide (0 < te_pq P p s) = decide (0 < te_pq P p' s) := by
      rw [decide_eq_decide, te_pq_pos ok fp s hs, te_pq_pos ok fp' s hs, he]
    rw [e1, h.2 s u hs hu ht]
/-- untied neighbours change places -/
theorem te_swap {P : te_P} (ok : te_ok P) {q : List Nat} {b c : Nat} (hbc : b ≠ c) (hu : te_ti P (te_nx (te_ex P q) b) (te_nx (te_ex P q) c) = false) : te_ex P (b :: c :: q) = te_ex P (c :: b :: q) ∧ te_eq P (b :: c :: q) (c :: b :: q) := by
  have E : te_ex P (b :: c :: q) = te_ex P (c :: b :: q) := (te_do_comm P (te_ex P q) hbc hu).symm
  refine ⟨E, fun t _ => by rw [E], ?_⟩
  intro s u hs hu' ht
  have nb : te_nx (te_ex P (c :: q)) b = te_nx (te_ex P q) b := te_nx_do P (te_ex P q) (Ne.symm hbc)
  have nc : te_nx (te_ex P (b :: q)) c = te_nx (te_ex P q) c := te_nx_do P (te_ex P q) hbc
  have hu2 := hu
  rw [te_ti_comm] at hu2
  rw [te_bf_c, te_bf_c P c (b :: q), te_bf_c, te_bf_c P b q, nb, nc]
  have x1 : ¬ (s = te_nx (te_ex P q) b ∧ u = te_nx (te_ex P q) c) := by
    intro z
    rw [z.1, z.2, hu] at ht
    cases ht
  have x2 : ¬ (s = te_nx (te_ex P q) c ∧ u = te_nx (te_ex P q) b) := by
    intro z
    rw [z.1, z.2, hu2] at ht
    cases ht
  by_cases s1 : s = te_nx (te_ex P q) b
  · by_cases s2 : s = te_nx (te_ex P q) c
    · rw [if_pos s1, if_pos s2]
    · have u2 : ¬ u = te_nx (te_ex P q) c := fun z => x1 ⟨s1, z⟩
      rw [if_pos s1, if_neg s2, if_neg u2, if_pos s1]
  · by_cases s2 : s = te_nx (te_ex P q) c
    · have u2 : ¬ u = te_nx (te_ex P q) b := fun z => x2 ⟨s2, z⟩
      rw [if_neg s1, if_pos s2, if_neg u2, if_pos s2]
    · rw [if_neg s1, if_neg s2, if_neg s2, if_neg s1]
      by_cases u1 : u = te_nx (te_ex P q) b
      · by_cases u2 : u = te_nx (te_ex P q) c
        · rw [if_pos u1, if_pos u2, te_pq_n P s2, te_pq_n P s1]
        · rw [if_pos u1, if_neg u2, if_pos u1, te_pq_n P s2]
      · by_cases u2 : u = te_nx (te_ex P q) c
        · rw [if_neg u1, if_pos u2, if_pos u2, te_pq_n P s1]
        · rw [if_neg u1, if_neg u2, if_neg u2, if_neg u1]
theorem te_Zc {P : te_P} {c b : Nat} {p : List Nat} (h : te_Z P (c :: p) b = true) : (te_Z P p b = true ∨ (b < c ∧ te_en P (te_ex P p) b = true)) ∧ (te_ex P p).1 b < te_sz P b ∧ te_ti P (te_nx (te_ex P p) b) (te_nx (te_ex P p) c) = false := by
  rw [te_Z] at h
  simp only [Bool.and_eq_true, Bool.or_eq_true, decide_eq_true_eq, Bool.not_eq_true'] at h
  exact ⟨h.1, h.2.1, h.2.2⟩
theorem te_Zi {P : te_P} {c b : Nat} {p : List Nat} (h1 : te_Z P p b = true ∨ (b < c ∧ te_en P (te_ex P p) b = true)) (h2 : (te_ex P p).1 b < te_sz P b) (h3 : te_ti P (te_nx (te_ex P p) b) (te_nx (te_ex P p) c) = false) : te_Z P (c :: p) b = true := by
  rw [te_Z]
  simp only [Bool.and_eq_true, Bool.or_eq_true, decide_eq_true_eq, Bool.not_eq_true']
  exact ⟨h1, h2, h3⟩
theorem te_ti_ne {P : te_P} {c : te_C} {b x : Nat} (h : te_ti P (te_nx c b) (te_nx c x) = false) : b ≠ x := by
  intro e
  subst e
  exact (te_ti_f h).1 rfl
/-- a sleeper's step, taken all the same, can be moved to where it fell asleep -/
theorem te_mv {P : te_P} (ok : te_ok P) : ∀ (p : List Nat) (b : Nat), te_fs P p → b < 3 → te_en P (te_ex P p) b = true → te_Z P p b = true → ∃ x q, x < 3 ∧ te_fs P (x :: q) ∧ q.length = p.length ∧ te_num q < te_num p ∧ te_ex P (x :: q) = te_ex P (b :: p) ∧ te_eq P (x :: q) (b :: p) := by
  intro p
  induction p with
  | nil => intro b _ _ _ h; cases h
  | cons c r ih =>
    intro b hf hb he hz
    obtain ⟨h1, h2, h3⟩ := te_Zc hz
    have hbc := te_ti_ne h3
    have h3' := h3
    rw [te_ti_comm] at h3'
    have eb : te_en P (te_ex P r) b = true := by
      rw [← te_en_do P (te_ex P r) (Ne.symm hbc) h3']
      exact he
    have ec : te_en P (te_ex P (b :: r)) c = true := by
      show te_en P (te_do P (te_ex P r) b) c = true
      rw [te_en_do P (te_ex P r) hbc h3]
      exact hf.2.2
    have S := te_swap ok hbc h3
    have fb : te_fs P (b :: r) := ⟨hf.1, hb, eb⟩
    rcases h1 with h1 | h1
    · obtain ⟨x, q, hx, fq, lq, nq, exq, eqq⟩ := ih b hf.1 hb eb h1
      refine ⟨c, x :: q, hf.2.1, ⟨fq, hf.2.1, by rw [exq]; exact ec⟩, by rw [List.length_cons, List.length_cons, lq], ?_, ?_, ?_⟩
      · show 3 * te_num q + x < 3 * te_num r + c
        omega
      · rw [S.1]
        show te_do P (te_ex P (x :: q)) c = te_do P (te_ex P (b :: r)) c
        rw [exq]
      · exact te_eq_trans (te_eq_cons ok c fq fb exq eqq) (te_eq_symm S.2)
    · refine ⟨c, b :: r, hf.2.1, ⟨fb, hf.2.1, ec⟩, rfl, ?_, S.1.symm, te_eq_symm S.2⟩
      show 3 * te_num r + b < 3 * te_num r + c
      omega
/-- every word has a visited one of its kind, with the same state -/
theorem te_E0 {P : te_P} (ok : te_ok P) : ∀ n : Nat, ∀ m : Nat, ∀ w : List Nat, w.length = n → te_num w = m → te_fs P w → ∃ w', te_vg (te_g P true) w' ∧ te_num w' ≤ te_num w ∧ te_ex P w' = te_ex P w ∧ te_eq P w' w := by
  intro n
  induction n with
  | zero =>
    intro m w hw _ hf
    have : w = [] := List.eq_nil_of_length_eq_zero hw
    subst this
    exact ⟨[], trivial, Nat.le_refl _, rfl, te_eq_refl P []⟩
  | succ n ihn =>
    intro m
    induction m using Nat.strongRecOn with
    | _ m ihm =>
      intro w hw hm hf
      cases w with
      | nil => cases hw
      | cons b p =>
        have hp : p.length = n := by rw [List.length_cons] at hw; omega
        obtain ⟨p', vp, np, xp, qp⟩ := ihn (te_num p) p hp rfl hf.1
        have fp' := te_vs_fs vp
        have lp' : p'.length = n := by
          rw [te_len fp', xp, ← te_len hf.1, hp]
        have eb : te_en P (te_ex P p') b = true := by rw [xp]; exact hf.2.2
        have Q := te_eq_cons ok b fp' hf.1 xp qp
        have X : te_ex P (b :: p') = te_ex P (b :: p) := by
          show te_do P (te_ex P p') b = te_do P (te_ex P p) b
          rw [xp]
        cases hz : te_Z P p' b with
        | false =>
          refine ⟨b :: p', te_vs_i vp hf.2.1 eb hz, ?_, X, Q⟩
          show 3 * te_num p' + b ≤ 3 * te_num p + b
          omega
        | true =>
          obtain ⟨x, q, hx, fq, lq, nq, xq, qq⟩ := te_mv ok p' b fp' hf.2.1 eb hz
          have hlt : te_num (x :: q) < m := by
            rw [← hm]
            show 3 * te_num q + x < 3 * te_num p + b
            omega
          obtain ⟨w', v', n', x', q'⟩ := ihm (te_num (x :: q)) hlt (x :: q) (by rw [List.length_cons, lq, lp']) rfl fq
          exact ⟨w', v', by omega, x'.trans (xq.trans X), te_eq_trans q' (te_eq_trans qq Q)⟩
theorem te_E {P : te_P} (ok : te_ok P) {w : List Nat} (h : te_fs P w) : ∃ w', te_vg (te_g P true) w' ∧ te_ex P w' = te_ex P w ∧ te_eq P w' w := by
  obtain ⟨w', a, _, b, c⟩ := te_E0 ok w.length (te_num w) w rfl rfl h
  exact ⟨w', a, b, c⟩

/-! uniqueness -/
theorem te_vg_suf {g : List Nat → Nat → Bool} : ∀ (u p : List Nat), te_vg g (u ++ p) → te_vg g p := by
  intro u
  induction u with
  | nil => intro p h; exact h
  | cons c u ih => intro p h; exact ih p h.1
theorem te_pq_low (P : te_P) : ∀ (u p : List Nat) (s : Nat), te_pq P (u ++ p) s ≤ p.length → te_pq P (u ++ p) s = te_pq P p s := by
  intro u
  induction u with
  | nil => intro p s _; rfl
  | cons c u ih =>
    intro p s h
    rw [List.cons_append] at h ⊢
    by_cases e : s = te_nx (te_ex P (u ++ p)) c
    · rw [e, te_pq_s, List.length_append] at h
      omega
    · rw [te_pq_n P e] at h ⊢
      exact ih p s h
theorem te_pq_keep {P : te_P} (ok : te_ok P) : ∀ (u p : List Nat) (s : Nat), te_fs P (u ++ p) → 0 < te_pq P p s → te_pq P (u ++ p) s = te_pq P p s := by
  intro u
  induction u with
  | nil => intro p s _ _; rfl
  | cons c u ih =>
    intro p s h hp
    rw [List.cons_append] at h ⊢
    have I := ih p s h.1 hp
    have Z := te_pq_new ok h.1 h.2.1 h.2.2
    have e : s ≠ te_nx (te_ex P (u ++ p)) c := by
      intro e
      rw [← e] at Z
      omega
    rw [te_pq_n P e, I]
theorem te_dn_mono {P : te_P} : ∀ (u p : List Nat) (t : Nat), (te_ex P p).1 t ≤ (te_ex P (u ++ p)).1 t := by
  intro u
  induction u with
  | nil => intro p t; exact Nat.le_refl _
  | cons c u ih =>
    intro p t
    have I := ih p t
    rw [List.cons_append, te_ex1]
    by_cases e : t = c
    · subst e; rw [te_set_s]; omega
    · rw [te_set_n _ _ e]; exact I
def te_inv (P : te_P) (p : List Nat) (a A : Nat) (v : List Nat) : Prop :=
  ((te_ex P v).1 a = (te_ex P p).1 a ∧ te_Z P v a = true) ∨ (∃ D, D < 9 ∧ p.length < te_pq P v D ∧ te_ti P D A = true ∧ (te_pq P v A = 0 ∨ te_pq P v D < te_pq P v A))
theorem te_inv_all {P : te_P} (ok : te_ok P) {p : List Nat} {a b : Nat} (hab : a < b) (hea : te_en P (te_ex P p) a = true) (ha3 : a < 3) : ∀ u, te_vg (te_g P true) (u ++ b :: p) → te_inv P p a (te_nx (te_ex P p) a) (u ++ b :: p) := by
  intro u
  have NA := te_nx_i ok ha3 hea
  induction u with
  | nil =>
    intro h
    have hf := te_vs_fs h
    have hf' : te_fs P (b :: p) := hf
    have NB := te_nx_i ok hf'.2.1 hf'.2.2
    show te_inv P p a (te_nx (te_ex P p) a) (b :: p)
    cases ht : te_ti P (te_nx (te_ex P p) a) (te_nx (te_ex P p) b) with
    | true =>
      refine Or.inr ⟨te_nx (te_ex P p) b, NB.1, by rw [te_pq_s]; omega, by rw [te_ti_comm]; exact ht, Or.inl ?_⟩
      have : te_nx (te_ex P p) a ≠ te_nx (te_ex P p) b := by
        intro e
        have h1 := NA.2.1
        rw [e, NB.2.1] at h1
        omega
      rw [te_pq_n P this]
      exact te_pq_new ok hf'.1 ha3 hea
    | false =>
      refine Or.inl ⟨?_, te_Zi (Or.inr ⟨hab, hea⟩) (te_en_t hea).1 ht⟩
      rw [te_ex1, te_set_n _ _ (by omega)]
  | cons c u ih =>
    intro h
    rw [List.cons_append] at h ⊢
    have I := ih h.1
    have hf := te_vs_fs h
    have hfv := hf.1
    have NC := te_nx_i ok hf.2.1 hf.2.2
    have lv : p.length < (u ++ b :: p).length := by rw [List.length_append, List.length_cons]; omega
    rcases I with ⟨d1, z1⟩ | ⟨D, hD, hl, htD, hA⟩
    · have hca : c ≠ a := by
        intro e
        have := te_vs_z h
        rw [e, z1] at this
        cases this
      have nA : te_nx (te_ex P (u ++ b :: p)) a = te_nx (te_ex P p) a := by unfold te_nx; rw [d1]
      cases ht : te_ti P (te_nx (te_ex P p) a) (te_nx (te_ex P (u ++ b :: p)) c) with
      | true =>
        refine Or.inr ⟨te_nx (te_ex P (u ++ b :: p)) c, NC.1, by rw [te_pq_s]; omega, by rw [te_ti_comm]; exact ht, Or.inl ?_⟩
        have ne : te_nx (te_ex P p) a ≠ te_nx (te_ex P (u ++ b :: p)) c := by
          intro e
          have h1 := NA.2.1
          rw [e, NC.2.1] at h1
          exact hca h1
        rw [te_pq_n P ne]
        have I0 := te_pq_pos ok hfv (te_nx (te_ex P p) a) NA.1
        rw [NA.2.1, NA.2.2.1, d1] at I0
        omega
      | false =>
        refine Or.inl ⟨?_, te_Zi (Or.inl z1) ?_ ?_⟩
        · rw [te_ex1, te_set_n _ _ (Ne.symm hca)]; exact d1
        · rw [d1]; exact (te_en_t hea).1
        · rw [nA]; exact ht
    · refine Or.inr ⟨D, hD, ?_, htD, ?_⟩
      · have Z := te_pq_new ok hf.1 hf.2.1 hf.2.2
        have ne : D ≠ te_nx (te_ex P (u ++ b :: p)) c := by
          intro e
          rw [← e] at Z
          omega
        rw [te_pq_n P ne]
        exact hl
      · have Z := te_pq_new ok hf.1 hf.2.1 hf.2.2
        have ne : D ≠ te_nx (te_ex P (u ++ b :: p)) c := by
          intro e
          rw [← e] at Z
          omega
        rw [te_pq_n P ne]
        by_cases eA : te_nx (te_ex P p) a = te_nx (te_ex P (u ++ b :: p)) c
        · rw [eA, te_pq_s]
          have := te_pq_le P (u ++ b :: p) D
          exact Or.inr (by omega)
        · rw [te_pq_n P eA]
          exact hA
theorem te_U1 {P : te_P} (ok : te_ok P) {p u u' : List Nat} {a b : Nat} (hab : a < b) (v1 : te_vg (te_g P true) (u ++ a :: p)) (v2 : te_vg (te_g P true) (u' ++ b :: p)) (h : te_eq P (u ++ a :: p) (u' ++ b :: p)) : False := by
  have f1 := te_vs_fs v1
  have f2 := te_vs_fs v2
  have va := te_vg_suf u (a :: p) v1
  have fa : te_fs P (a :: p) := te_vs_fs va
  have NA := te_nx_i ok fa.2.1 fa.2.2
  have M := te_dn_mono (P := P) u (a :: p) a
  rw [te_ex1, te_set_s] at M
  have d := h.1 a fa.2.1
  rcases te_inv_all ok hab fa.2.2 fa.2.1 u' v2 with ⟨d1, _⟩ | ⟨D, hD, hl, htD, hA⟩
  · omega
  · have I0 := te_pq_pos ok f2 (te_nx (te_ex P p) a) NA.1
    rw [NA.2.1, NA.2.2.1] at I0
    have b2 : te_bf P (u' ++ b :: p) D (te_nx (te_ex P p) a) = true := by
      unfold te_bf
      apply decide_eq_true
      rcases hA with hA | hA
      · omega
      · exact ⟨by omega, hA⟩
    have b1 := h.2 D (te_nx (te_ex P p) a) hD NA.1 htD
    rw [b2] at b1
    unfold te_bf at b1
    have b3 := of_decide_eq_true b1
    have k1 := te_pq_keep ok u (a :: p) (te_nx (te_ex P p) a) f1 (by rw [te_pq_s]; omega)
    rw [te_pq_s] at k1
    rw [k1] at b3
    have e0 : u ++ a :: p = (u ++ [a]) ++ p := by rw [List.append_assoc]; rfl
    have k2 := te_pq_low P (u ++ [a]) p D (by rw [← e0]; omega)
    rw [← e0] at k2
    have e1 : u' ++ b :: p = (u' ++ [b]) ++ p := by rw [List.append_assoc]; rfl
    have k3 := te_pq_keep ok (u' ++ [b]) p D (by rw [← e1]; exact f2) (by omega)
    rw [← e1] at k3
    have k4 := te_pq_le P p D
    omega
theorem te_diff : ∀ w w' : List Nat, w.length = w'.length → w ≠ w' → ∃ (p u u' : List Nat) (a b : Nat), a ≠ b ∧ w = u ++ a :: p ∧ w' = u' ++ b :: p := by
  intro w
  induction w with
  | nil =>
    intro w' hl hn
    exact absurd (List.eq_nil_of_length_eq_zero hl.symm).symm hn
  | cons x r ih =>
    intro w' hl hn
    cases w' with
    | nil => cases hl
    | cons y r' =>
      by_cases e : r = r'
      · subst e
        exact ⟨r, [], [], x, y, fun z => hn (by rw [z]), rfl, rfl⟩
      · have hl' : r.length = r'.length := by rw [List.length_cons, List.length_cons] at hl; omega
        obtain ⟨p, u, u', a, b, hab, h1, h2⟩ := ih r' hl' e
        exact ⟨p, x :: u, y :: u', a, b, hab, by rw [h1]; rfl, by rw [h2]; rfl⟩
theorem te_U {P : te_P} (ok : te_ok P) {w w' : List Nat} (v : te_vg (te_g P true) w) (v' : te_vg (te_g P true) w') (h : te_eq P w w') : w = w' := by
  have f := te_vs_fs v
  have f' := te_vs_fs v'
  have hl : w.length = w'.length := by
    rw [te_len f, te_len f', h.1 0 (by omega), h.1 1 (by omega), h.1 2 (by omega)]
  by_cases e : w = w'
  · exact e
  · obtain ⟨p, u, u', a, b, hab, h1, h2⟩ := te_diff w w' hl e
    subst h1
    subst h2
    rcases Nat.lt_or_gt_of_ne hab with z | z
    · exact absurd h (fun h => te_U1 ok z v v' h)
    · exact absurd h (fun h => te_U1 ok z v' v (te_eq_symm h))
/-- words of one kind end in one state -/
theorem te_one {P : te_P} (ok : te_ok P) {w w' : List Nat} (f : te_fs P w) (f' : te_fs P w') (h : te_eq P w w') : te_ex P w = te_ex P w' := by
  obtain ⟨x, vx, ex, qx⟩ := te_E ok f
  obtain ⟨y, vy, ey, qy⟩ := te_E ok f'
  have := te_U ok vx vy (te_eq_trans qx (te_eq_trans h (te_eq_symm qy)))
  rw [← ex, ← ey, this]
end
section
/-! the words that a search visits, in its order -/
def te_sub (g : List Nat → Nat → Bool) : Nat → List Nat → List (List Nat)
  | 0, w => [w]
  | r + 1, w => w :: ((if g w 0 = true then te_sub g r (0 :: w) else []) ++ ((if g w 1 = true then te_sub g r (1 :: w) else []) ++ (if g w 2 = true then te_sub g r (2 :: w) else [])))
def te_ch (g : List Nat → Nat → Bool) (r : Nat) (w : List Nat) (t : Nat) : List (List Nat) := if g w t = true then te_sub g r (t :: w) else []
theorem te_sub_s (g : List Nat → Nat → Bool) (r : Nat) (w : List Nat) : te_sub g (r + 1) w = w :: (te_ch g r w 0 ++ (te_ch g r w 1 ++ te_ch g r w 2)) := rfl
theorem te_ch_m {g : List Nat → Nat → Bool} {r : Nat} {w x : List Nat} {t : Nat} : x ∈ te_ch g r w t ↔ g w t = true ∧ x ∈ te_sub g r (t :: w) := by
  unfold te_ch
  by_cases h : g w t = true
  · rw [if_pos h]; exact ⟨fun z => ⟨h, z⟩, fun z => z.2⟩
  · rw [if_neg h]; exact ⟨fun z => (by cases z), fun z => absurd z.1 h⟩
theorem te_sub_m {g : List Nat → Nat → Bool} {r : Nat} {w x : List Nat} : x ∈ te_sub g (r + 1) w ↔ x = w ∨ ∃ t, t < 3 ∧ g w t = true ∧ x ∈ te_sub g r (t :: w) := by
  rw [te_sub_s, List.mem_cons, List.mem_append, List.mem_append, te_ch_m, te_ch_m, te_ch_m]
  constructor
  · rintro (h | h | h | h)
    · exact Or.inl h
    · exact Or.inr ⟨0, by omega, h⟩
    · exact Or.inr ⟨1, by omega, h⟩
    · exact Or.inr ⟨2, by omega, h⟩
  · rintro (h | ⟨t, ht, h⟩)
    · exact Or.inl h
    · rcases (by omega : t = 0 ∨ t = 1 ∨ t = 2) with e | e | e
      · subst e; exact Or.inr (Or.inl h)
      · subst e; exact Or.inr (Or.inr (Or.inl h))
      · subst e; exact Or.inr (Or.inr (Or.inr h))
theorem te_sub_self (g : List Nat → Nat → Bool) (r : Nat) (w : List Nat) : w ∈ te_sub g r w := by
  cases r with
  | zero => exact List.mem_singleton.mpr rfl
  | succ r => exact te_sub_m.mpr (Or.inl rfl)
theorem te_sub_vg {g : List Nat → Nat → Bool} : ∀ (r : Nat) (p : List Nat), te_vg g p → ∀ w, w ∈ te_sub g r p → te_vg g w := by
  intro r
  induction r with
  | zero =>
    intro p hp w hw
    rw [List.mem_singleton.mp hw]
    exact hp
  | succ r ih =>
    intro p hp w hw
    rcases te_sub_m.mp hw with h | ⟨t, ht, hg, h⟩
    · rw [h]; exact hp
    · exact ih (t :: p) ⟨hp, ht, hg⟩ w h
theorem te_sub_suf {g : List Nat → Nat → Bool} : ∀ (r : Nat) (p w : List Nat), w ∈ te_sub g r p → ∃ u, w = u ++ p := by
  intro r
  induction r with
  | zero =>
    intro p w hw
    exact ⟨[], List.mem_singleton.mp hw⟩
  | succ r ih =>
    intro p w hw
    rcases te_sub_m.mp hw with h | ⟨t, ht, hg, h⟩
    · exact ⟨[], h⟩
    · obtain ⟨u, e⟩ := ih (t :: p) w h
      exact ⟨u ++ [t], by rw [e, List.append_assoc]; rfl⟩
theorem te_sub_step {g : List Nat → Nat → Bool} : ∀ (r : Nat) (p w : List Nat) (t : Nat), w ∈ te_sub g r p → t < 3 → g w t = true → w.length < p.length + r → t :: w ∈ te_sub g r p := by
  intro r
  induction r with
  | zero =>
    intro p w t hw _ _ hl
    rw [List.mem_singleton.mp hw] at hl
    omega
  | succ r ih =>
    intro p w t hw ht hg hl
    rcases te_sub_m.mp hw with h | ⟨t', ht', hg', h⟩
    · subst h
      exact te_sub_m.mpr (Or.inr ⟨t, ht, hg, te_sub_self g r (t :: w)⟩)
    · exact te_sub_m.mpr (Or.inr ⟨t', ht', hg', ih (t' :: p) w t h ht hg (by rw [List.length_cons]; omega)⟩)
theorem te_sub_all {g : List Nat → Nat → Bool} : ∀ w : List Nat, te_vg g w → w.length ≤ 9 → w ∈ te_sub g 9 [] := by
  intro w
  induction w with
  | nil => intro _ _; exact te_sub_self g 9 []
  | cons t w ih =>
    intro h hl
    rw [List.length_cons] at hl
    exact te_sub_step 9 [] w t (ih h.1 (by omega)) h.2.1 h.2.2 (by rw [List.length_nil]; omega)
theorem te_ch_dis {g : List Nat → Nat → Bool} {r : Nat} {p x y : List Nat} {t t' : Nat} (h : t ≠ t') (hx : x ∈ te_ch g r p t) (hy : y ∈ te_ch g r p t') : x ≠ y := by
  intro e
  obtain ⟨u, e1⟩ := te_sub_suf r (t :: p) x (te_ch_m.mp hx).2
  obtain ⟨u', e2⟩ := te_sub_suf r (t' :: p) y (te_ch_m.mp hy).2
  rw [e1, e2] at e
  have := (List.append_inj' e rfl).2
  injection this with a _
  exact h a
theorem te_ch_ne {g : List Nat → Nat → Bool} {r : Nat} {p x : List Nat} {t : Nat} (hx : x ∈ te_ch g r p t) : p ≠ x := by
  intro e
  obtain ⟨u, e1⟩ := te_sub_suf r (t :: p) x (te_ch_m.mp hx).2
  have := congrArg List.length (e.trans e1)
  rw [List.length_append, List.length_cons] at this
  omega
theorem te_sub_nd {g : List Nat → Nat → Bool} : ∀ (r : Nat) (p : List Nat), (te_sub g r p).Nodup := by
  intro r
  induction r with
  | zero => intro p; exact List.nodup_cons.mpr ⟨(by intro h; cases h), List.nodup_nil⟩
  | succ r ih =>
    intro p
    have hc : ∀ t, (te_ch g r p t).Nodup := by
      intro t
      unfold te_ch
      by_cases h : g p t = true
      · rw [if_pos h]; exact ih (t :: p)
      · rw [if_neg h]; exact List.nodup_nil
    rw [te_sub_s, List.nodup_cons, List.nodup_append, List.nodup_append]
    refine ⟨?_, hc 0, ⟨hc 1, hc 2, fun a ha b hb => te_ch_dis (by omega) ha hb⟩, ?_⟩
    · intro h
      rw [List.mem_append, List.mem_append] at h
      rcases h with h | h | h
      · exact te_ch_ne h rfl
      · exact te_ch_ne h rfl
      · exact te_ch_ne h rfl
    · intro a ha b hb
      rcases List.mem_append.mp hb with hb | hb
      · exact te_ch_dis (by omega) ha hb
      · exact te_ch_dis (by omega) ha hb

/-! how many -/
def te_cN : Nat → Nat → Nat → Nat → Nat
  | 0, _, _, _ => 1
  | r + 1, a, b, c => 1 + (if a = 0 then 0 else te_cN r (a - 1) b c) + (if b = 0 then 0 else te_cN r a (b - 1) c) + (if c = 0 then 0 else te_cN r a b (c - 1))
def te_cE : Nat → Nat → Nat → Nat → Nat
  | 0, _, _, _ => 1
  | r + 1, a, b, c => if a = 0 ∧ b = 0 ∧ c = 0 then 1 else (if a = 0 then 0 else te_cE r (a - 1) b c) + (if b = 0 then 0 else te_cE r a (b - 1) c) + (if c = 0 then 0 else te_cE r a b (c - 1))
theorem te_cE_pos : ∀ (r a b c : Nat), 1 ≤ te_cE r a b c := by
  intro r
  induction r with
  | zero => intro a b c; exact Nat.le_refl 1
  | succ r ih =>
    intro a b c
    rw [te_cE]
    have h1 := ih (a - 1) b c
    have h2 := ih a (b - 1) c
    have h3 := ih a b (c - 1)
    by_cases ha : a = 0
    · by_cases hb : b = 0
      · by_cases hc : c = 0
        · rw [if_pos ⟨ha, hb, hc⟩]; omega
        · rw [if_neg (by omega), if_neg hc]; omega
      · rw [if_neg (by omega), if_neg hb]; omega
    · rw [if_neg (by omega), if_neg ha]; omega
theorem te_c_max : (List.range 4).all (fun a => (List.range 4).all (fun b => (List.range 4).all (fun c => decide (te_cN 9 a b c ≤ 5248) && decide (te_cE 9 a b c ≤ 1680)))) = true := by decide +kernel
theorem te_c_le {a b c : Nat} (ha : a ≤ 3) (hb : b ≤ 3) (hc : c ≤ 3) : te_cN 9 a b c ≤ 5248 ∧ te_cE 9 a b c ≤ 1680 := by
  have h := te_c_max
  rw [List.all_eq_true] at h
  have h1 := h a (List.mem_range.mpr (by omega))
  rw [List.all_eq_true] at h1
  have h2 := h1 b (List.mem_range.mpr (by omega))
  rw [List.all_eq_true] at h2
  have h3 := h2 c (List.mem_range.mpr (by omega))
  rw [Bool.and_eq_true, decide_eq_true_eq, decide_eq_true_eq] at h3
  exact h3
def te_end (P : te_P) (w : List Nat) : Bool := !te_en P (te_ex P w) 0 && !te_en P (te_ex P w) 1 && !te_en P (te_ex P w) 2
theorem te_end_g {P : te_P} {sl : Bool} {w : List Nat} {t : Nat} (ht : t < 3) (h : te_end P w = true) : te_g P sl w t = false := by
  unfold te_end at h
  simp only [Bool.and_eq_true, Bool.not_eq_true'] at h
  unfold te_g
  rcases (by omega : t = 0 ∨ t = 1 ∨ t = 2) with e | e | e
  · subst e; rw [h.1.1]; rfl
  · subst e; rw [h.1.2]; rfl
  · subst e; rw [h.2]; rfl
theorem te_g_en {P : te_P} {sl : Bool} {w : List Nat} {t : Nat} (h : te_g P sl w t = true) : te_en P (te_ex P w) t = true := by
  unfold te_g at h
  rw [Bool.and_eq_true] at h
  exact h.1
def te_rm (P : te_P) (w : List Nat) (t : Nat) : Nat := te_sz P t - (te_ex P w).1 t
theorem te_rm_s {P : te_P} {w : List Nat} {t : Nat} (h : te_en P (te_ex P w) t = true) : te_rm P (t :: w) t = te_rm P w t - 1 ∧ te_rm P w t ≠ 0 := by
  have := (te_en_t h).1
  unfold te_rm
  rw [te_ex1, te_set_s]
  omega
theorem te_rm_n {P : te_P} {w : List Nat} {t u : Nat} (h : u ≠ t) : te_rm P (t :: w) u = te_rm P w u := by
  unfold te_rm
  rw [te_ex1, te_set_n _ _ h]
theorem te_szN (P : te_P) (sl : Bool) : ∀ (r : Nat) (w : List Nat), (te_sub (te_g P sl) r w).length ≤ te_cN r (te_rm P w 0) (te_rm P w 1) (te_rm P w 2) := by
  intro r
  induction r with
  | zero => intro w; exact Nat.le_refl 1
  | succ r ih =>
    intro w
    rw [te_sub_s, te_cN, List.length_cons, List.length_append, List.length_append]
    have c0 : (te_ch (te_g P sl) r w 0).length ≤ if te_rm P w 0 = 0 then 0 else te_cN r (te_rm P w 0 - 1) (te_rm P w 1) (te_rm P w 2) := by
      unfold te_ch
      by_cases h : te_g P sl w 0 = true
      · have e := te_rm_s (te_g_en h)
        rw [if_pos h, if_neg e.2, ← e.1]
        have I := ih (0 :: w)
        rw [te_rm_n (t := 0) (u := 1) (by omega), te_rm_n (t := 0) (u := 2) (by omega)] at I
        exact I
      · rw [if_neg h]; exact Nat.zero_le _
    have c1 : (te_ch (te_g P sl) r w 1).length ≤ if te_rm P w 1 = 0 then 0 else te_cN r (te_rm P w 0) (te_rm P w 1 - 1) (te_rm P w 2) := by
      unfold te_ch
      by_cases h : te_g P sl w 1 = true
      · have e := te_rm_s (te_g_en h)
        rw [if_pos h, if_neg e.2, ← e.1]
        have I := ih (1 :: w)
        rw [te_rm_n (t := 1) (u := 0) (by omega), te_rm_n (t := 1) (u := 2) (by omega)] at I
        exact I
      · rw [if_neg h]; exact Nat.zero_le _
    have c2 : (te_ch (te_g P sl) r w 2).length ≤ if te_rm P w 2 = 0 then 0 else te_cN r (te_rm P w 0) (te_rm P w 1) (te_rm P w 2 - 1) := by
      unfold te_ch
      by_cases h : te_g P sl w 2 = true
      · have e := te_rm_s (te_g_en h)
        rw [if_pos h, if_neg e.2, ← e.1]
        have I := ih (2 :: w)
        rw [te_rm_n (t := 2) (u := 0) (by omega), te_rm_n (t := 2) (u := 1) (by omega)] at I
        exact I
      · rw [if_neg h]; exact Nat.zero_le _
    omega
theorem te_szE (P : te_P) (sl : Bool) : ∀ (r : Nat) (w : List Nat), ((te_sub (te_g P sl) r w).filter (te_end P)).length ≤ te_cE r (te_rm P w 0) (te_rm P w 1) (te_rm P w 2) := by
  intro r
  induction r with
  | zero => intro w; exact List.length_filter_le _ _
  | succ r ih =>
    intro w
    have c0 : ((te_ch (te_g P sl) r w 0).filter (te_end P)).length ≤ if te_rm P w 0 = 0 then 0 else te_cE r (te_rm P w 0 - 1) (te_rm P w 1) (te_rm P w 2) := by
      unfold te_ch
      by_cases h : te_g P sl w 0 = true
      · have e := te_rm_s (te_g_en h)
        rw [if_pos h, if_neg e.2, ← e.1]
        have I := ih (0 :: w)
        rw [te_rm_n (t := 0) (u := 1) (by omega), te_rm_n (t := 0) (u := 2) (by omega)] at I
        exact I
      · rw [if_neg h]; exact Nat.zero_le _
    have c1 : ((te_ch (te_g P sl) r w 1).filter (te_end P)).length ≤ if te_rm P w 1 = 0 then 0 else te_cE r (te_rm P w 0) (te_rm P w 1 - 1) (te_rm P w 2) := by
      unfold te_ch
      by_cases h : te_g P sl w 1 = true
      · have e := te_rm_s (te_g_en h)
        rw [if_pos h, if_neg e.2, ← e.1]
        have I := ih (1 :: w)
        rw [te_rm_n (t := 1) (u := 0) (by omega), te_rm_n (t := 1) (u := 2) (by omega)] at I
        exact I
      · rw [if_neg h]; exact Nat.zero_le _
    have c2 : ((te_ch (te_g P sl) r w 2).filter (te_end P)).length ≤ if te_rm P w 2 = 0 then 0 else te_cE r (te_rm P w 0) (te_rm P w 1) (te_rm P w 2 - 1) := by
      unfold te_ch
      by_cases h : te_g P sl w 2 = true
      · have e := te_rm_s (te_g_en h)
        rw [if_pos h, if_neg e.2, ← e.1]
        have I := ih (2 :: w)
        rw [te_rm_n (t := 2) (u := 0) (by omega), te_rm_n (t := 2) (u := 1) (by omega)] at I
        exact I
      · rw [if_neg h]; exact Nat.zero_le _
    cases he : te_end P w with
    | true =>
      have n : ∀ t, t < 3 → te_ch (te_g P sl) r w t = [] := by
        intro t ht
        unfold te_ch
        rw [te_end_g ht he]
        rfl
      rw [te_sub_s, n 0 (by omega), n 1 (by omega), n 2 (by omega), List.filter_cons_of_pos he]
      exact te_cE_pos (r + 1) _ _ _
    | false =>
      rw [te_sub_s, List.filter_cons_of_neg (by rw [he]; exact Bool.false_ne_true), List.filter_append, List.filter_append, List.length_append, List.length_append, te_cE]
      by_cases hz : te_rm P w 0 = 0 ∧ te_rm P w 1 = 0 ∧ te_rm P w 2 = 0
      · rw [if_pos hz]
        rw [if_pos hz.1] at c0
        rw [if_pos hz.2.1] at c1
        rw [if_pos hz.2.2] at c2
        omega
      · rw [if_neg hz]
        omega
def te_V (P : te_P) (sl : Bool) : List (List Nat) := te_sub (te_g P sl) 9 []
def te_L (P : te_P) (sl : Bool) : List (List Nat) := (te_V P sl).filter (te_end P)
theorem te_V_len {P : te_P} (ok : te_ok P) (sl : Bool) : (te_V P sl).length ≤ 5248 := by
  have h := te_szN P sl 9 []
  have := (te_c_le (a := te_rm P [] 0) (b := te_rm P [] 1) (c := te_rm P [] 2) (Nat.le_trans (Nat.sub_le _ _) (ok.1 0)) (Nat.le_trans (Nat.sub_le _ _) (ok.1 1)) (Nat.le_trans (Nat.sub_le _ _) (ok.1 2))).1
  exact Nat.le_trans h this
theorem te_L_len {P : te_P} (ok : te_ok P) (sl : Bool) : (te_L P sl).length ≤ 1680 := by
  have h := te_szE P sl 9 []
  have := (te_c_le (a := te_rm P [] 0) (b := te_rm P [] 1) (c := te_rm P [] 2) (Nat.le_trans (Nat.sub_le _ _) (ok.1 0)) (Nat.le_trans (Nat.sub_le _ _) (ok.1 1)) (Nat.le_trans (Nat.sub_le _ _) (ok.1 2))).2
  exact Nat.le_trans h this
theorem te_V_m {P : te_P} (ok : te_ok P) {sl : Bool} {w : List Nat} : w ∈ te_V P sl ↔ te_vg (te_g P sl) w :=
  ⟨fun h => te_sub_vg 9 [] trivial w h, fun h => te_sub_all w h (te_len9 ok (te_vs_fs h))⟩
theorem te_L_m {P : te_P} (ok : te_ok P) {sl : Bool} {w : List Nat} : w ∈ te_L P sl ↔ te_vg (te_g P sl) w ∧ te_end P w = true := by
  unfold te_L
  rw [List.mem_filter, te_V_m ok]
end
section
/-! keys -/
def te_kb (P : te_P) (w : List Nat) (s u : Nat) : Nat := if te_bf P w s u = true ∧ te_ti P s u = true then 1 else 0
def te_ki (P : te_P) (w : List Nat) (s k : Nat) : Nat → Nat
  | 0 => k
  | u + 1 => 2 * te_ki P w s k u + te_kb P w s u
def te_k0 (P : te_P) (w : List Nat) : Nat := (te_ex P w).1 0 + 4 * (te_ex P w).1 1 + 16 * (te_ex P w).1 2
def te_ko (P : te_P) (w : List Nat) : Nat → Nat
  | 0 => te_k0 P w
  | s + 1 => te_ki P w s (te_ko P w s) s
def te_ky (P : te_P) (w : List Nat) : Nat := te_ko P w 9
theorem te_kb_le (P : te_P) (w : List Nat) (s u : Nat) : te_kb P w s u ≤ 1 := by
  unfold te_kb
  split <;> omega
theorem te_ki_inj {P : te_P} {w w' : List Nat} {s k k' : Nat} : ∀ n, te_ki P w s k n = te_ki P w' s k' n → k = k' ∧ ∀ u, u < n → te_kb P w s u = te_kb P w' s u := by
  intro n
  induction n with
  | zero => intro h; exact ⟨h, fun u hu => absurd hu (Nat.not_lt_zero u)⟩
  | succ n ih =>
    intro h
    rw [te_ki, te_ki] at h
    have a := te_kb_le P w s n
    have b := te_kb_le P w' s n
    have I := ih (by omega)
    refine ⟨I.1, fun u hu => ?_⟩
    by_cases e : u = n
    · subst e; omega
    · exact I.2 u (by omega)
theorem te_ko_inj {P : te_P} {w w' : List Nat} : ∀ n, te_ko P w n = te_ko P w' n → te_k0 P w = te_k0 P w' ∧ ∀ s u, s < n → u < s → te_kb P w s u = te_kb P w' s u := by
  intro n
  induction n with
  | zero => intro h; exact ⟨h, fun s _ hs => absurd hs (Nat.not_lt_zero s)⟩
  | succ n ih =>
    intro h
    rw [te_ko, te_ko] at h
    have a := te_ki_inj n h
    have I := ih a.1
    refine ⟨I.1, fun s u hs hu => ?_⟩
    by_cases e : s = n
    · subst e; exact a.2 u hu
    · exact I.2 s u (by omega) hu
theorem te_ki_eq {P : te_P} {w w' : List Nat} {s k : Nat} : ∀ n, (∀ u, u < n → te_kb P w s u = te_kb P w' s u) → te_ki P w s k n = te_ki P w' s k n := by
  intro n
  induction n with
  | zero => intro _; rfl
  | succ n ih =>
    intro h
    rw [te_ki, te_ki, ih (fun u hu => h u (by omega)), h n (by omega)]
theorem te_ko_eq {P : te_P} {w w' : List Nat} (h0 : te_k0 P w = te_k0 P w') : ∀ n, (∀ s u, s < n → u < s → te_kb P w s u = te_kb P w' s u) → te_ko P w n = te_ko P w' n := by
  intro n
  induction n with
  | zero => intro _; exact h0
  | succ n ih =>
    intro h
    rw [te_ko, te_ko, ih (fun s u hs hu => h s u (by omega) hu)]
    exact te_ki_eq n (fun u hu => h n u (by omega) hu)
theorem te_pq_inj (P : te_P) : ∀ (w : List Nat) (s u : Nat), 0 < te_pq P w s → te_pq P w s = te_pq P w u → s = u := by
  intro w
  induction w with
  | nil => intro s u h _; exact absurd h (Nat.lt_irrefl 0)
  | cons c w ih =>
    intro s u h e
    have a := te_pq_le P w s
    have b := te_pq_le P w u
    by_cases es : s = te_nx (te_ex P w) c
    · by_cases eu : u = te_nx (te_ex P w) c
      · rw [es, eu]
      · rw [te_pq_n P eu, es, te_pq_s] at e
        omega
    · by_cases eu : u = te_nx (te_ex P w) c
      · rw [te_pq_n P es, eu, te_pq_s] at e
        omega
      · rw [te_pq_n P es] at h e
        rw [te_pq_n P eu] at e
        exact ih s u h e
theorem te_ky_eq {P : te_P} (ok : te_ok P) {w w' : List Nat} (f : te_fs P w) (f' : te_fs P w') : te_ky P w = te_ky P w' ↔ te_eq P w w' := by
  constructor
  · intro h
    obtain ⟨h0, hb⟩ := te_ko_inj 9 h
    have z : ∀ t, t < 3 → (te_ex P w).1 t = (te_ex P w').1 t := by
      unfold te_k0 at h0
      have b := fun t => Nat.le_trans (te_dn_le f t) (ok.1 t)
      have b' := fun t => Nat.le_trans (te_dn_le f' t) (ok.1 t)
      have b0 := b 0
      have b1 := b 1
      have b2 := b 2
      have c0 := b' 0
      have c1 := b' 1
      have c2 := b' 2
      intro t ht
      rcases (by omega : t = 0 ∨ t = 1 ∨ t = 2) with e | e | e <;> subst e <;> omega
    have pz : ∀ s, s < 9 → (0 < te_pq P w s ↔ 0 < te_pq P w' s) := by
      intro s hs
      rw [te_pq_pos ok f s hs, te_pq_pos ok f' s hs, z (s / 3) (by omega)]
    have low : ∀ s u, s < 9 → u < s → te_ti P s u = true → te_bf P w s u = te_bf P w' s u := by
      intro s u hs hu ht
      have k := hb s u hs hu
      unfold te_kb at k
      cases h1 : te_bf P w s u with
      | true =>
        cases h2 : te_bf P w' s u with
        | true => rfl
        | false =>
          rw [if_pos ⟨h1, ht⟩, if_neg (by rw [h2]; intro q; cases q.1)] at k
          omega
      | false =>
        cases h2 : te_bf P w' s u with
        | false => rfl
        | true =>
          rw [if_pos (c := te_bf P w' s u = true ∧ te_ti P s u = true) ⟨h2, ht⟩, if_neg (by rw [h1]; intro q; cases q.1)] at k
          omega
    refine ⟨z, fun s u hs hu ht => ?_⟩
    by_cases e1 : u < s
    · exact low s u hs e1 ht
    · by_cases e2 : s = u
      · subst e2
        unfold te_bf
        rw [decide_eq_decide]
        omega
      · have k := low u s hu (by omega) (by rw [te_ti_comm]; exact ht)
        unfold te_bf at k ⊢
        rw [decide_eq_decide] at k ⊢
        have p1 := pz s hs
        have p2 := pz u hu
        have i1 := te_pq_inj P w s u
        have i2 := te_pq_inj P w' s u
        have n1 : 0 < te_pq P w s → te_pq P w s ≠ te_pq P w u := fun a b => e2 (i1 a b)
        have n2 : 0 < te_pq P w' s → te_pq P w' s ≠ te_pq P w' u := fun a b => e2 (i2 a b)
        clear i1 i2 pz low z hb
        by_cases q1 : 0 < te_pq P w s
        · have n1 := n1 q1
          have n2 := n2 (p1.mp q1)
          have q1' := p1.mp q1
          omega
        · omega
  · intro h
    refine te_ko_eq ?_ 9 (fun s u hs hu => ?_)
    · unfold te_k0
      rw [h.1 0 (by omega), h.1 1 (by omega), h.1 2 (by omega)]
    · unfold te_kb
      cases ht : te_ti P s u with
      | true => rw [h.2 s u hs (by omega) ht]
      | false => rw [if_neg (by intro q; cases q.2), if_neg (by intro q; cases q.2)]
def te_tr : Nat → Nat
  | 0 => 0
  | s + 1 => te_tr s + s
theorem te_ki_le (P : te_P) (w : List Nat) (s k : Nat) : ∀ n, te_ki P w s k n + 1 ≤ (k + 1) * 2 ^ n := by
  intro n
  induction n with
  | zero => rw [te_ki]; omega
  | succ n ih =>
    have := te_kb_le P w s n
    rw [te_ki, Nat.pow_succ, ← Nat.mul_assoc]
    omega
theorem te_ko_le {P : te_P} (ok : te_ok P) {w : List Nat} (f : te_fs P w) : ∀ n, te_ko P w n + 1 ≤ 64 * 2 ^ te_tr n := by
  intro n
  induction n with
  | zero =>
    have b := fun t => Nat.le_trans (te_dn_le f t) (ok.1 t)
    have b0 := b 0
    have b1 := b 1
    have b2 := b 2
    show te_k0 P w + 1 ≤ 64 * 2 ^ 0
    unfold te_k0
    omega
  | succ n ih =>
    have h := te_ki_le P w n (te_ko P w n) n
    show te_ki P w n (te_ko P w n) n + 1 ≤ 64 * 2 ^ (te_tr n + n)
    rw [Nat.pow_add, ← Nat.mul_assoc]
    exact Nat.le_trans h (Nat.mul_le_mul_right _ ih)
theorem te_ki_lt {P : te_P} (ok : te_ok P) {w : List Nat} (f : te_fs P w) {s u : Nat} (hs : s < 9) (hu : u ≤ s) : te_ki P w s (te_ko P w s) u < 2 ^ 42 := by
  have a := te_ko_le ok f s
  have b := te_ki_le P w s (te_ko P w s) u
  have c : (te_ko P w s + 1) * 2 ^ u ≤ 64 * 2 ^ te_tr s * 2 ^ s := Nat.mul_le_mul a (Nat.pow_le_pow_right (by omega) hu)
  have d : ∀ s, s < 9 → 64 * 2 ^ te_tr s * 2 ^ s ≤ 2 ^ 42 := by decide
  have := d s hs
  omega
theorem te_ky_lt {P : te_P} (ok : te_ok P) {w : List Nat} (f : te_fs P w) : te_ky P w < 2 ^ 42 := te_ki_lt ok f (s := 8) (u := 8) (by omega) (by omega)

/-! counting -/
theorem te_cnt {α : Type} (key : α → Nat) : ∀ A B : List α, A.Pairwise (fun a b => key a ≠ key b) → B.Pairwise (fun a b => key a ≠ key b) → (∀ a, a ∈ A → ∃ b, b ∈ B ∧ key b = key a) → (∀ b, b ∈ B → ∃ a, a ∈ A ∧ key a = key b) → ∀ f : α → Bool, (∀ a, a ∈ A → ∀ b, b ∈ B → key a = key b → f a = f b) → A.countP f = B.countP f := by
  intro A
  induction A with
  | nil =>
    intro B _ _ _ h _ _
    cases B with
    | nil => rfl
    | cons b B =>
      obtain ⟨a, ha, _⟩ := h b (List.mem_cons_self ..)
      cases ha
  | cons a A ih =>
    intro B pa pb h1 h2 f hf
    obtain ⟨b, hb, e⟩ := h1 a (List.mem_cons_self ..)
    obtain ⟨B1, B2, eB⟩ := List.append_of_mem hb
    subst eB
    rw [List.pairwise_append, List.pairwise_cons] at pb
    obtain ⟨p1, ⟨p2, p3⟩, p4⟩ := pb
    rw [List.pairwise_cons] at pa
    have pb' : (B1 ++ B2).Pairwise (fun a b => key a ≠ key b) := by
      rw [List.pairwise_append]
      exact ⟨p1, p3, fun x hx y hy => p4 x hx y (List.mem_cons_of_mem _ hy)⟩
    have I := ih (B1 ++ B2) pa.2 pb' ?_ ?_ f ?_
    · rw [List.countP_cons, List.countP_append, List.countP_cons, hf a (List.mem_cons_self ..) b hb e.symm, I, List.countP_append]
      omega
    · intro x hx
      obtain ⟨y, hy, ey⟩ := h1 x (List.mem_cons_of_mem _ hx)
      have ne := pa.1 x hx
      rw [List.mem_append, List.mem_cons] at hy
      rcases hy with hy | hy | hy
      · exact ⟨y, List.mem_append.mpr (Or.inl hy), ey⟩
      · rw [hy] at ey
        exact absurd (e.symm.trans ey) ne
      · exact ⟨y, List.mem_append.mpr (Or.inr hy), ey⟩
    · intro y hy
      have hy' : y ∈ B1 ++ b :: B2 := by
        rw [List.mem_append, List.mem_cons]
        rcases List.mem_append.mp hy with z | z
        · exact Or.inl z
        · exact Or.inr (Or.inr z)
      obtain ⟨x, hx, ex⟩ := h2 y hy'
      rcases List.mem_cons.mp hx with z | z
      · rw [z] at ex
        have ne : key b ≠ key y := by
          rcases List.mem_append.mp hy with q | q
          · exact Ne.symm (p4 y q b (List.mem_cons_self ..))
          · exact p2 y q
        exact absurd (e.trans ex) ne
      · exact ⟨x, z, ex⟩
    · intro x hx y hy exy
      refine hf x (List.mem_cons_of_mem _ hx) y ?_ exy
      rw [List.mem_append, List.mem_cons]
      rcases List.mem_append.mp hy with z | z
      · exact Or.inl z
      · exact Or.inr (Or.inr z)
def te_ds (P : te_P) (D : List (List Nat)) (w : List Nat) : List (List Nat) := if D.any (fun d => decide (te_ky P d = te_ky P w)) = true then D else D ++ [w]
def te_dd (P : te_P) (L : List (List Nat)) : List (List Nat) := L.foldl (te_ds P) []
theorem te_dd_s (P : te_P) (L : List (List Nat)) (w : List Nat) : te_dd P (L ++ [w]) = te_ds P (te_dd P L) w := by
  unfold te_dd
  rw [List.foldl_append]
  rfl
theorem te_any_k {P : te_P} {D : List (List Nat)} {w : List Nat} : D.any (fun d => decide (te_ky P d = te_ky P w)) = true ↔ ∃ d, d ∈ D ∧ te_ky P d = te_ky P w := by
  rw [List.any_eq_true]
  constructor
  · rintro ⟨d, h, e⟩
    exact ⟨d, h, of_decide_eq_true e⟩
  · rintro ⟨d, h, e⟩
    exact ⟨d, h, decide_eq_true e⟩
/-- a list is well seen from its end -/
theorem te_rind {α : Type} {M : List α → Prop} (h0 : M []) (hs : ∀ L w, M L → M (L ++ [w])) : ∀ L, M L := by
  intro L
  have : ∀ n, ∀ L : List α, L.length = n → M L := by
    intro n
    induction n with
    | zero => intro L h; rw [List.eq_nil_of_length_eq_zero h]; exact h0
    | succ n ih =>
      intro L h
      have hne : L ≠ [] := by intro e; rw [e] at h; cases h
      have e := List.dropLast_concat_getLast hne
      rw [← e]
      exact hs _ _ (ih _ (by rw [List.length_dropLast]; omega))
  exact this L.length L rfl
theorem te_dd_p (P : te_P) : ∀ L : List (List Nat), (te_dd P L).Pairwise (fun a b => te_ky P a ≠ te_ky P b) ∧ (∀ d, d ∈ te_dd P L → d ∈ L) ∧ (∀ w, w ∈ L → ∃ d, d ∈ te_dd P L ∧ te_ky P d = te_ky P w) ∧ (te_dd P L).length ≤ L.length := by
  refine te_rind ⟨List.Pairwise.nil, fun d h => h, fun w h => (by cases h), Nat.le_refl _⟩ ?_
  intro L w ⟨h1, h2, h3, h4⟩
  rw [te_dd_s]
  unfold te_ds
  by_cases ha : (te_dd P L).any (fun d => decide (te_ky P d = te_ky P w)) = true
  · rw [if_pos ha]
    refine ⟨h1, fun d hd => List.mem_append.mpr (Or.inl (h2 d hd)), fun x hx => ?_, by rw [List.length_append]; omega⟩
    rcases List.mem_append.mp hx with z | z
    · exact h3 x z
    · rw [List.mem_singleton.mp z]
      exact te_any_k.mp ha
  · rw [if_neg ha]
    refine ⟨?_, ?_, ?_, by rw [List.length_append, List.length_append]; exact Nat.add_le_add_right h4 1⟩
    · rw [List.pairwise_append]
      refine ⟨h1, List.pairwise_singleton _ _, fun a ha' b hb => ?_⟩
      rw [List.mem_singleton.mp hb]
      intro e
      exact ha (te_any_k.mpr ⟨a, ha', e⟩)
    · intro d hd
      rcases List.mem_append.mp hd with z | z
      · exact List.mem_append.mpr (Or.inl (h2 d z))
      · exact List.mem_append.mpr (Or.inr z)
    · intro x hx
      rcases List.mem_append.mp hx with z | z
      · obtain ⟨d, hd, e⟩ := h3 x z
        exact ⟨d, List.mem_append.mpr (Or.inl hd), e⟩
      · exact ⟨w, List.mem_append.mpr (Or.inr (List.mem_singleton.mpr rfl)), by rw [List.mem_singleton.mp z]⟩

/-! what is gathered -/
def te_cm (P : te_P) (w : List Nat) : Bool := decide (w.length = te_sz P 0 + te_sz P 1 + te_sz P 2)
def te_res (P : te_P) (w : List Nat) : Nat := 64 * (te_ex P w).2.1 0 + 8 * (te_ex P w).2.1 1 + (te_ex P w).2.1 2
def te_pk (P : te_P) (V : List (List Nat)) (v : Nat) : Nat := V.foldl (fun m w => if (te_ex P w).2.1 v ≤ m then m else (te_ex P w).2.1 v) 0
def te_mn (P : te_P) (L : List (List Nat)) : Nat := L.foldl (fun m w => if te_cm P w = true then m else if m = 0 ∨ w.length < m then w.length else m) 0
def te_es (P : te_P) (L : List (List Nat)) (t : Nat) : Nat := L.foldl (fun m w => if te_cm P w = true then m ||| 2 ^ (te_ex P w).2.2.2 t else m) 0
def te_fr (P : te_P) (r : Nat) (w : List Nat) : Bool := te_cm P w && decide (te_res P w = r)
def te_fp (P : te_P) (w : List Nat) (a : Nat) : Nat := if te_pq P w a = 0 then w.length else te_pq P w a - 1
def te_io (P : te_P) (L : List (List Nat)) (a b : Nat) : Bool := L.any (fun w => te_cm P w && decide (te_fp P w a < te_fp P w b))
def te_ea (P : te_P) (L : List (List Nat)) (s u : Nat) : Bool := L.any (fun w => te_cm P w && te_bf P w s u)
theorem te_pk_s (P : te_P) (V : List (List Nat)) (w : List Nat) (v : Nat) : te_pk P (V ++ [w]) v = if (te_ex P w).2.1 v ≤ te_pk P V v then te_pk P V v else (te_ex P w).2.1 v := by
  unfold te_pk
  rw [List.foldl_append]
  rfl
theorem te_mn_s (P : te_P) (V : List (List Nat)) (w : List Nat) : te_mn P (V ++ [w]) = if te_cm P w = true then te_mn P V else if te_mn P V = 0 ∨ w.length < te_mn P V then w.length else te_mn P V := by
  unfold te_mn
  rw [List.foldl_append]
  rfl
theorem te_es_s (P : te_P) (V : List (List Nat)) (w : List Nat) (t : Nat) : te_es P (V ++ [w]) t = if te_cm P w = true then te_es P V t ||| 2 ^ (te_ex P w).2.2.2 t else te_es P V t := by
  unfold te_es
  rw [List.foldl_append]
  rfl
theorem te_pk_p (P : te_P) (v : Nat) : ∀ V : List (List Nat), (∀ w, w ∈ V → (te_ex P w).2.1 v ≤ te_pk P V v) ∧ (te_pk P V v = 0 ∨ ∃ w, w ∈ V ∧ (te_ex P w).2.1 v = te_pk P V v) := by
  refine te_rind ⟨fun w h => (by cases h), Or.inl rfl⟩ ?_
  intro L w ⟨h1, h2⟩
  rw [te_pk_s]
  by_cases e : (te_ex P w).2.1 v ≤ te_pk P L v
  · rw [if_pos e]
    refine ⟨fun x hx => ?_, ?_⟩
    · rcases List.mem_append.mp hx with z | z
      · exact h1 x z
      · rw [List.mem_singleton.mp z]; exact e
    · rcases h2 with h2 | ⟨x, hx, e2⟩
      · exact Or.inl h2
      · exact Or.inr ⟨x, List.mem_append.mpr (Or.inl hx), e2⟩
  · rw [if_neg e]
    refine ⟨fun x hx => ?_, Or.inr ⟨w, List.mem_append.mpr (Or.inr (List.mem_singleton.mpr rfl)), rfl⟩⟩
    rcases List.mem_append.mp hx with z | z
    · have := h1 x z; omega
    · rw [List.mem_singleton.mp z]; exact Nat.le_refl _
theorem te_pk_eq {P : te_P} {v : Nat} {A B : List (List Nat)} (h1 : ∀ a, a ∈ A → ∃ b, b ∈ B ∧ te_ex P b = te_ex P a) (h2 : ∀ b, b ∈ B → ∃ a, a ∈ A ∧ te_ex P a = te_ex P b) : te_pk P A v = te_pk P B v := by
  obtain ⟨a1, a2⟩ := te_pk_p P v A
  obtain ⟨b1, b2⟩ := te_pk_p P v B
  have le1 : te_pk P A v ≤ te_pk P B v := by
    rcases a2 with z | ⟨x, hx, e⟩
    · omega
    · obtain ⟨y, hy, ey⟩ := h1 x hx
      have := b1 y hy
      rw [ey] at this
      omega
  have le2 : te_pk P B v ≤ te_pk P A v := by
    rcases b2 with z | ⟨x, hx, e⟩
    · omega
    · obtain ⟨y, hy, ey⟩ := h2 x hx
      have := a1 y hy
      rw [ey] at this
      omega
  omega
theorem te_es_p (P : te_P) (t i : Nat) : ∀ L : List (List Nat), (te_es P L t).testBit i = true ↔ ∃ w, w ∈ L ∧ te_cm P w = true ∧ (te_ex P w).2.2.2 t = i := by
  refine te_rind ⟨fun h => (by rw [show te_es P [] t = 0 from rfl, Nat.zero_testBit] at h; cases h), fun ⟨w, h, _⟩ => (by cases h)⟩ ?_
  intro L w ih
  rw [te_es_s]
  by_cases e : te_cm P w = true
  · rw [if_pos e, Nat.testBit_or, Bool.or_eq_true, ih, Nat.testBit_two_pow, decide_eq_true_eq]
    constructor
    · rintro (⟨x, hx, h⟩ | h)
      · exact ⟨x, List.mem_append.mpr (Or.inl hx), h⟩
      · exact ⟨w, List.mem_append.mpr (Or.inr (List.mem_singleton.mpr rfl)), e, h⟩
    · rintro ⟨x, hx, h⟩
      rcases List.mem_append.mp hx with z | z
      · exact Or.inl ⟨x, z, h⟩
      · rw [List.mem_singleton.mp z] at h
        exact Or.inr h.2
  · rw [if_neg e, ih]
    constructor
    · rintro ⟨x, hx, h⟩
      exact ⟨x, List.mem_append.mpr (Or.inl hx), h⟩
    · rintro ⟨x, hx, h⟩
      rcases List.mem_append.mp hx with z | z
      · exact ⟨x, z, h⟩
      · rw [List.mem_singleton.mp z] at h
        exact absurd h.1 e
theorem te_es_eq {P : te_P} {t : Nat} {A B : List (List Nat)} (h1 : ∀ a, a ∈ A → ∃ b, b ∈ B ∧ te_ex P b = te_ex P a ∧ b.length = a.length) (h2 : ∀ b, b ∈ B → ∃ a, a ∈ A ∧ te_ex P a = te_ex P b ∧ a.length = b.length) : te_es P A t = te_es P B t := by
  apply Nat.eq_of_testBit_eq
  intro i
  rw [Bool.eq_iff_iff, te_es_p, te_es_p]
  constructor
  · rintro ⟨x, hx, c, e⟩
    obtain ⟨y, hy, ey, ly⟩ := h1 x hx
    refine ⟨y, hy, ?_, by rw [ey]; exact e⟩
    unfold te_cm at c ⊢
    rw [ly]
    exact c
  · rintro ⟨x, hx, c, e⟩
    obtain ⟨y, hy, ey, ly⟩ := h2 x hx
    refine ⟨y, hy, ?_, by rw [ey]; exact e⟩
    unfold te_cm at c ⊢
    rw [ly]
    exact c
theorem te_mn_p (P : te_P) : ∀ L : List (List Nat), (∀ w, w ∈ L → te_cm P w = false → 0 < w.length) → (∀ w, w ∈ L → te_cm P w = false → te_mn P L ≠ 0 ∧ te_mn P L ≤ w.length) ∧ (te_mn P L = 0 ∨ ∃ w, w ∈ L ∧ te_cm P w = false ∧ w.length = te_mn P L) := by
  refine te_rind (fun _ => ⟨fun w h => (by cases h), Or.inl rfl⟩) ?_
  intro L w ih hpos
  obtain ⟨h1, h2⟩ := ih (fun x hx => hpos x (List.mem_append.mpr (Or.inl hx)))
  rw [te_mn_s]
  cases c : te_cm P w with
  | true =>
    rw [if_pos rfl]
    refine ⟨fun x hx cx => ?_, ?_⟩
    · rcases List.mem_append.mp hx with z | z
      · exact h1 x z cx
      · rw [List.mem_singleton.mp z, c] at cx
        cases cx
    · rcases h2 with h2 | ⟨x, hx, e2⟩
      · exact Or.inl h2
      · exact Or.inr ⟨x, List.mem_append.mpr (Or.inl hx), e2⟩
  | false =>
    rw [if_neg Bool.false_ne_true]
    have hw := hpos w (List.mem_append.mpr (Or.inr (List.mem_singleton.mpr rfl))) c
    by_cases e : te_mn P L = 0 ∨ w.length < te_mn P L
    · rw [if_pos e]
      refine ⟨fun x hx cx => ?_, Or.inr ⟨w, List.mem_append.mpr (Or.inr (List.mem_singleton.mpr rfl)), c, rfl⟩⟩
      rcases List.mem_append.mp hx with z | z
      · have := h1 x z cx
        omega
      · rw [List.mem_singleton.mp z]
        omega
    · rw [if_neg e]
      refine ⟨fun x hx cx => ?_, ?_⟩
      · rcases List.mem_append.mp hx with z | z
        · exact h1 x z cx
        · rw [List.mem_singleton.mp z]
          omega
      · rcases h2 with h2 | ⟨x, hx, e2⟩
        · exact Or.inl h2
        · exact Or.inr ⟨x, List.mem_append.mpr (Or.inl hx), e2⟩
theorem te_mn_eq {P : te_P} {A B : List (List Nat)} (pA : ∀ w, w ∈ A → te_cm P w = false → 0 < w.length) (pB : ∀ w, w ∈ B → te_cm P w = false → 0 < w.length) (h1 : ∀ a, a ∈ A → ∃ b, b ∈ B ∧ b.length = a.length) (h2 : ∀ b, b ∈ B → ∃ a, a ∈ A ∧ a.length = b.length) : te_mn P A = te_mn P B := by
  obtain ⟨a1, a2⟩ := te_mn_p P A pA
  obtain ⟨b1, b2⟩ := te_mn_p P B pB
  have t1 : ∀ x, x ∈ A → te_cm P x = false → te_mn P B ≠ 0 ∧ te_mn P B ≤ x.length := by
    intro x hx c
    obtain ⟨y, hy, ly⟩ := h1 x hx
    have := b1 y hy (by unfold te_cm at c ⊢; rw [ly]; exact c)
    rw [ly] at this
    exact this
  have t2 : ∀ x, x ∈ B → te_cm P x = false → te_mn P A ≠ 0 ∧ te_mn P A ≤ x.length := by
    intro x hx c
    obtain ⟨y, hy, ly⟩ := h2 x hx
    have := a1 y hy (by unfold te_cm at c ⊢; rw [ly]; exact c)
    rw [ly] at this
    exact this
  rcases a2 with z | ⟨x, hx, cx, e⟩
  · rcases b2 with z' | ⟨y, hy, cy, e'⟩
    · omega
    · have := t2 y hy cy
      omega
  · have := t1 x hx cx
    rcases b2 with z' | ⟨y, hy, cy, e'⟩
    · omega
    · have := t2 y hy cy
      omega

/-! the two searches agree -/
theorem te_end_x {P : te_P} {w w' : List Nat} (h : te_ex P w = te_ex P w') : te_end P w = te_end P w' := by
  unfold te_end
  rw [h]
theorem te_dn_l {P : te_P} {w w' : List Nat} (f : te_fs P w) (f' : te_fs P w') (h : te_ex P w = te_ex P w') : w.length = w'.length := by
  rw [te_len f, te_len f', h]
theorem te_tf {P : te_P} (ok : te_ok P) {w : List Nat} (h : w ∈ te_V P true) : w ∈ te_V P false := (te_V_m ok).mpr (te_fs_vs (te_vs_fs ((te_V_m ok).mp h)))
theorem te_LtV {P : te_P} {sl : Bool} {w : List Nat} (h : w ∈ te_L P sl) : w ∈ te_V P sl := (List.mem_filter.mp h).1
theorem te_Vfs {P : te_P} (ok : te_ok P) {sl : Bool} {w : List Nat} (h : w ∈ te_V P sl) : te_fs P w := te_vs_fs ((te_V_m ok).mp h)
theorem te_tfL {P : te_P} (ok : te_ok P) {w : List Nat} (h : w ∈ te_L P true) : w ∈ te_L P false := List.mem_filter.mpr ⟨te_tf ok (te_LtV h), (List.mem_filter.mp h).2⟩
theorem te_ft {P : te_P} (ok : te_ok P) {w : List Nat} (h : w ∈ te_V P false) : ∃ w', w' ∈ te_V P true ∧ te_ex P w' = te_ex P w ∧ te_eq P w' w := by
  obtain ⟨w', v, e, q⟩ := te_E ok (te_Vfs ok h)
  exact ⟨w', (te_V_m ok).mpr v, e, q⟩
theorem te_ftL {P : te_P} (ok : te_ok P) {w : List Nat} (h : w ∈ te_L P false) : ∃ w', w' ∈ te_L P true ∧ te_ex P w' = te_ex P w ∧ te_eq P w' w ∧ w'.length = w.length := by
  obtain ⟨w', v, e, q⟩ := te_ft ok (te_LtV h)
  exact ⟨w', List.mem_filter.mpr ⟨v, by rw [te_end_x e]; exact (List.mem_filter.mp h).2⟩, e, q, te_dn_l (te_Vfs ok v) (te_Vfs ok (te_LtV h)) e⟩
theorem te_F_pk {P : te_P} (ok : te_ok P) (v : Nat) : te_pk P (te_V P true) v = te_pk P (te_V P false) v :=
  te_pk_eq (fun a ha => ⟨a, te_tf ok ha, rfl⟩) (fun b hb => by obtain ⟨w, h, e, _⟩ := te_ft ok hb; exact ⟨w, h, e⟩)
theorem te_F_es {P : te_P} (ok : te_ok P) (t : Nat) : te_es P (te_L P true) t = te_es P (te_L P false) t :=
  te_es_eq (fun a ha => ⟨a, te_tfL ok ha, rfl, rfl⟩) (fun b hb => by obtain ⟨w, h, e, _, l⟩ := te_ftL ok hb; exact ⟨w, h, e, l⟩)
theorem te_stuck0 {P : te_P} {w : List Nat} (he : te_end P w = true) (hc : te_cm P w = false) : 0 < w.length := by
  cases w with
  | cons t w => rw [List.length_cons]; omega
  | nil =>
    exfalso
    have h : ∀ t, te_en P (te_ex P []) t = false → te_sz P t = 0 := by
      intro t ht
      unfold te_en at ht
      have z := of_decide_eq_false ht
      by_cases e : te_sz P t = 0
      · exact e
      · exact absurd ⟨Nat.pos_of_ne_zero e, fun _ => rfl⟩ z
    unfold te_end at he
    simp only [Bool.and_eq_true, Bool.not_eq_true'] at he
    unfold te_cm at hc
    have hc := of_decide_eq_false hc
    rw [h 0 he.1.1, h 1 he.1.2, h 2 he.2] at hc
    exact hc rfl
theorem te_F_mn {P : te_P} (ok : te_ok P) : te_mn P (te_L P true) = te_mn P (te_L P false) :=
  te_mn_eq (fun w hw hc => te_stuck0 (List.mem_filter.mp hw).2 hc) (fun w hw hc => te_stuck0 (List.mem_filter.mp hw).2 hc) (fun a ha => ⟨a, te_tfL ok ha, rfl⟩) (fun b hb => by obtain ⟨w, h, e, _, l⟩ := te_ftL ok hb; exact ⟨w, h, l⟩)
theorem te_F_cnt {P : te_P} (ok : te_ok P) (f : List Nat → Bool) (hf : ∀ a b, te_ex P a = te_ex P b → a.length = b.length → f a = f b) : (te_dd P (te_L P false)).countP f = (te_L P true).countP f := by
  obtain ⟨d1, d2, d3, _⟩ := te_dd_p P (te_L P false)
  refine te_cnt (te_ky P) _ _ d1 ?_ ?_ ?_ f ?_
  · have nd : (te_L P true).Nodup := List.Pairwise.filter _ (te_sub_nd 9 [])
    refine List.Pairwise.imp_of_mem ?_ nd
    intro a b ha hb hne e
    have va := (te_V_m ok).mp (te_LtV ha)
    have vb := (te_V_m ok).mp (te_LtV hb)
    exact hne (te_U ok va vb ((te_ky_eq ok (te_vs_fs va) (te_vs_fs vb)).mp e))
  · intro a ha
    have ha' := d2 a ha
    obtain ⟨w, h, e, q, l⟩ := te_ftL ok ha'
    exact ⟨w, h, (te_ky_eq ok (te_Vfs ok (te_LtV h)) (te_Vfs ok (te_LtV ha'))).mpr q⟩
  · intro b hb
    exact d3 b (te_tfL ok hb)
  · intro a ha b hb e
    have fa := te_Vfs ok (te_LtV (d2 a ha))
    have fb := te_Vfs ok (te_LtV hb)
    have ee := te_one ok fa fb ((te_ky_eq ok fa fb).mp e)
    exact hf a b ee (te_dn_l fa fb ee)
theorem te_F_len {P : te_P} (ok : te_ok P) : (te_dd P (te_L P false)).length = (te_L P true).length := by
  have h := te_F_cnt ok (fun _ => true) (fun _ _ _ _ => rfl)
  rw [List.countP_true] at h
  exact h
theorem te_F_sk {P : te_P} (ok : te_ok P) : (te_dd P (te_L P false)).countP (fun w => !te_cm P w) = (te_L P true).countP (fun w => !te_cm P w) :=
  te_F_cnt ok _ (fun a b _ l => by unfold te_cm; rw [l])
theorem te_F_fr {P : te_P} (ok : te_ok P) (r : Nat) : (te_dd P (te_L P false)).countP (te_fr P r) = (te_L P true).countP (te_fr P r) :=
  te_F_cnt ok _ (fun a b e l => by unfold te_fr te_cm te_res; rw [e, l])
/-- in a complete run X's places are Y's -/
theorem te_F_io {P : te_P} (ok : te_ok P) {a b : Nat} (ha : a < 9) (hb : b < 9) (ha' : a % 3 < te_sz P (a / 3)) (hb' : b % 3 < te_sz P (b / 3)) : te_io P (te_L P false) a b = te_ea P (te_L P false) a b := by
  unfold te_io te_ea
  rw [Bool.eq_iff_iff, List.any_eq_true, List.any_eq_true]
  have K : ∀ w, w ∈ te_L P false → te_cm P w = true → decide (te_fp P w a < te_fp P w b) = te_bf P w a b := by
    intro w hw hc
    have f := te_Vfs ok (te_LtV hw)
    have hl := te_len f
    have hc' : w.length = te_sz P 0 + te_sz P 1 + te_sz P 2 := of_decide_eq_true hc
    have d0 := te_dn_le f 0
    have d1 := te_dn_le f 1
    have d2 := te_dn_le f 2
    have full : ∀ t, t < 3 → (te_ex P w).1 t = te_sz P t := by
      intro t ht
      rcases (by omega : t = 0 ∨ t = 1 ∨ t = 2) with e | e | e <;> subst e <;> omega
    have pa : 0 < te_pq P w a := by rw [te_pq_pos ok f a ha, full _ (by omega)]; exact ha'
    have pb : 0 < te_pq P w b := by rw [te_pq_pos ok f b hb, full _ (by omega)]; exact hb'
    unfold te_bf te_fp
    rw [if_neg (by omega), if_neg (by omega), decide_eq_decide]
    omega
  constructor
  · rintro ⟨w, hw, h⟩
    rw [Bool.and_eq_true] at h
    exact ⟨w, hw, by rw [Bool.and_eq_true]; exact ⟨h.1, by rw [← K w hw h.1]; exact h.2⟩⟩
  · rintro ⟨w, hw, h⟩
    rw [Bool.and_eq_true] at h
    exact ⟨w, hw, by rw [Bool.and_eq_true]; exact ⟨h.1, by rw [K w hw h.1]; exact h.2⟩⟩
end
section
/-! a search by three rules goes through te_sub -/
def te_tl (g : List Nat → Nat → Bool) : Nat → List Nat → List (List Nat)
  | 0, _ => []
  | r + 1, w => te_ch g r w 0 ++ (te_ch g r w 1 ++ te_ch g r w 2)
theorem te_sub_tl (g : List Nat → Nat → Bool) (r : Nat) (w : List Nat) : te_sub g r w = w :: te_tl g r w := by
  cases r with
  | zero => rfl
  | succ r => exact te_sub_s g r w
theorem te_tl_e {g : List Nat → Nat → Bool} {r : Nat} {w : List Nat} (h : ∀ t, t < 3 → g w t = false) : te_tl g r w = [] := by
  cases r with
  | zero => rfl
  | succ r =>
    have n : ∀ t, t < 3 → te_ch g r w t = [] := by
      intro t ht
      unfold te_ch
      rw [h t ht]
      rfl
    rw [te_tl, n 0 (by omega), n 1 (by omega), n 2 (by omega)]
    rfl
theorem te_flt {g : List Nat → Nat → Bool} {e : List Nat → Bool} (he : ∀ w t, t < 3 → e w = true → g w t = false) (r : Nat) (w : List Nat) : (te_tl g r w).filter e ++ [w].filter e = (te_sub g r w).filter e := by
  rw [te_sub_tl]
  cases h : e w with
  | true => rw [te_tl_e (fun t ht => he w t ht h)]; rfl
  | false =>
    have hn : ¬ e w = true := by rw [h]; exact Bool.false_ne_true
    rw [List.filter_cons_of_neg hn, List.filter_cons_of_neg hn, List.filter_nil, List.append_nil]
section
variable {g : List Nat → Nat → Bool} {e : List Nat → Bool} {Q : List Nat → Nat → List (List Nat) → List (List Nat) → Nat → Prop} {M B : Nat}
theorem te_dfs1 (he : ∀ w t, t < 3 → e w = true → g w t = false)
    (h1 : ∀ w t V L k, t < 3 → g w t = true → k < M → Q (t :: w) 0 (V ++ [t :: w]) L (k + 1) → Q w t V L k)
    (h2 : ∀ w t V L k, t < 3 → g w t = false → k < M → (∀ k', k' ≤ k + 1 → Q w (t + 1) V L k') → Q w t V L k)
    (h3 : ∀ c w V L k, c < 3 → k < M → (L ++ [c :: w].filter e).length ≤ B → Q w (c + 1) V (L ++ [c :: w].filter e) (k + 1) → Q (c :: w) 3 V L k)
    (r : Nat)
    (ih : ∀ w V L k, w.length + r = 9 → te_vg g w → k + 4 * (te_sub g r w).length ≤ M → L.length + ((te_sub g r w).filter e).length ≤ B → (∀ k', k' < k + 4 * (te_sub g r w).length → Q w 3 (V ++ te_tl g r w) (L ++ (te_tl g r w).filter e) k') → Q w 0 V L k)
    (w : List Nat) (t : Nat) (V L : List (List Nat)) (k : Nat) (hl : w.length + (r + 1) = 9) (hv : te_vg g w) (ht : t < 3) (hk : k + 4 * (te_ch g r w t).length + 1 ≤ M) (hB : L.length + ((te_ch g r w t).filter e).length ≤ B)
    (H : ∀ k', k' ≤ k + 4 * (te_ch g r w t).length + 1 → Q w (t + 1) (V ++ te_ch g r w t) (L ++ (te_ch g r w t).filter e) k') : Q w t V L k := by
  cases hg : g w t with
  | false =>
    have ec : te_ch g r w t = [] := by unfold te_ch; rw [hg]; rfl
    rw [ec] at H hk
    rw [List.filter_nil, List.append_nil, List.append_nil, List.length_nil] at H
    exact h2 w t V L k ht hg (by omega) (fun k' hk' => H k' (by omega))
  | true =>
    have ec : te_ch g r w t = te_sub g r (t :: w) := by unfold te_ch; rw [if_pos hg]
    rw [ec] at H hk hB
    refine h1 w t V L k ht hg (by omega) ?_
    refine ih (t :: w) (V ++ [t :: w]) L (k + 1) (by rw [List.length_cons]; omega) ⟨hv, ht, hg⟩ (by omega) hB ?_
    intro k' hk'
    have F := te_flt he r (t :: w)
    have eL : L ++ (te_tl g r (t :: w)).filter e ++ [t :: w].filter e = L ++ (te_sub g r (t :: w)).filter e := by
      rw [List.append_assoc, F]
    have eV : V ++ [t :: w] ++ te_tl g r (t :: w) = V ++ te_sub g r (t :: w) := by
      rw [te_sub_tl, List.append_assoc]
      rfl
    refine h3 t w _ _ k' ht (by omega) ?_ ?_
    · rw [eL, List.length_append]
      exact hB
    · rw [eL, eV]
      exact H (k' + 1) (by omega)
theorem te_dfs (he : ∀ w t, t < 3 → e w = true → g w t = false)
    (h9 : ∀ w t, te_vg g w → w.length = 9 → t < 3 → g w t = false)
    (h1 : ∀ w t V L k, t < 3 → g w t = true → k < M → Q (t :: w) 0 (V ++ [t :: w]) L (k + 1) → Q w t V L k)
    (h2 : ∀ w t V L k, t < 3 → g w t = false → k < M → (∀ k', k' ≤ k + 1 → Q w (t + 1) V L k') → Q w t V L k)
    (h3 : ∀ c w V L k, c < 3 → k < M → (L ++ [c :: w].filter e).length ≤ B → Q w (c + 1) V (L ++ [c :: w].filter e) (k + 1) → Q (c :: w) 3 V L k) :
    ∀ (r : Nat) (w : List Nat) (V L : List (List Nat)) (k : Nat), w.length + r = 9 → te_vg g w → k + 4 * (te_sub g r w).length ≤ M → L.length + ((te_sub g r w).filter e).length ≤ B → (∀ k', k' < k + 4 * (te_sub g r w).length → Q w 3 (V ++ te_tl g r w) (L ++ (te_tl g r w).filter e) k') → Q w 0 V L k := by
  intro r
  induction r with
  | zero =>
    intro w V L k hl hv hk _ H
    have e1 : (te_sub g 0 w).length = 1 := rfl
    have e2 : te_tl g 0 w = [] := rfl
    rw [e1] at H hk
    rw [e2, List.filter_nil, List.append_nil, List.append_nil] at H
    refine h2 w 0 V L k (by omega) (h9 w 0 hv (by omega) (by omega)) (by omega) (fun a ha => ?_)
    refine h2 w 1 V L a (by omega) (h9 w 1 hv (by omega) (by omega)) (by omega) (fun b hb => ?_)
    refine h2 w 2 V L b (by omega) (h9 w 2 hv (by omega) (by omega)) (by omega) (fun c hc => ?_)
    exact H c (by omega)
  | succ r ih =>
    intro w V L k hl hv hk hB H
    have e1 : (te_sub g (r + 1) w).length = (te_ch g r w 0).length + ((te_ch g r w 1).length + (te_ch g r w 2).length) + 1 := by
      rw [te_sub_s, List.length_cons, List.length_append, List.length_append]
    have e2 : te_tl g (r + 1) w = te_ch g r w 0 ++ (te_ch g r w 1 ++ te_ch g r w 2) := rfl
    have e3 : ((te_ch g r w 0).filter e).length + (((te_ch g r w 1).filter e).length + ((te_ch g r w 2).filter e).length) ≤ ((te_sub g (r + 1) w).filter e).length := by
      rw [te_sub_s]
      cases hw : e w with
      | true => rw [List.filter_cons_of_pos hw, List.length_cons, List.filter_append, List.filter_append, List.length_append, List.length_append]; omega
      | false => rw [List.filter_cons_of_neg (by rw [hw]; exact Bool.false_ne_true), List.filter_append, List.filter_append, List.length_append, List.length_append]; omega
    rw [e1] at H hk
    rw [e2, List.filter_append, List.filter_append] at H
    refine te_dfs1 he h1 h2 h3 r ih w 0 V L k hl hv (by omega) (by omega) (by omega) (fun a ha => ?_)
    refine te_dfs1 he h1 h2 h3 r ih w 1 _ _ a hl hv (by omega) (by omega) (by rw [List.length_append]; omega) (fun b hb => ?_)
    refine te_dfs1 he h1 h2 h3 r ih w 2 _ _ b hl hv (by omega) (by omega) (by rw [List.length_append, List.length_append]; omega) (fun c hc => ?_)
    have H' := H c (by omega)
    rw [← List.append_assoc, ← List.append_assoc, ← List.append_assoc, ← List.append_assoc] at H'
    exact H'
end
theorem te_h9 {P : te_P} (ok : te_ok P) {sl : Bool} (w : List Nat) (t : Nat) (hv : te_vg (te_g P sl) w) (hl : w.length = 9) (ht : t < 3) : te_g P sl w t = false := by
  cases h : te_g P sl w t with
  | false => rfl
  | true =>
    have := te_len9 ok (te_vs_fs (sl := sl) (w := t :: w) ⟨hv, ht, h⟩)
    rw [List.length_cons] at this
    omega
/-- the whole search: from the empty word to its end -/
theorem te_all {P : te_P} (ok : te_ok P) {sl : Bool} {Q : List Nat → Nat → List (List Nat) → List (List Nat) → Nat → Prop}
    (h1 : ∀ w t V L k, t < 3 → te_g P sl w t = true → k < 99999 → Q (t :: w) 0 (V ++ [t :: w]) L (k + 1) → Q w t V L k)
    (h2 : ∀ w t V L k, t < 3 → te_g P sl w t = false → k < 99999 → (∀ k', k' ≤ k + 1 → Q w (t + 1) V L k') → Q w t V L k)
    (h3 : ∀ c w V L k, c < 3 → k < 99999 → (L ++ [c :: w].filter (te_end P)).length ≤ 1690 → Q w (c + 1) V (L ++ [c :: w].filter (te_end P)) (k + 1) → Q (c :: w) 3 V L k)
    (hf : ∀ V L k, k < 99999 → L.length ≤ 1690 → V = te_V P sl → L ++ [[]].filter (te_end P) = te_L P sl → Q [] 3 V L k) : Q [] 0 [[]] [] 0 := by
  have a := te_V_len ok sl
  have b := te_L_len ok sl
  have sV : te_sub (te_g P sl) 9 [] = te_V P sl := rfl
  have sL : (te_sub (te_g P sl) 9 []).filter (te_end P) = te_L P sl := rfl
  have F := te_flt (g := te_g P sl) (e := te_end P) (fun w t ht h => te_end_g ht h) 9 ([] : List Nat)
  rw [sL] at F
  refine te_dfs (g := te_g P sl) (e := te_end P) (Q := Q) (M := 99999) (B := 1690) (fun w t ht h => te_end_g ht h) (te_h9 ok) h1 h2 h3 9 [] [[]] [] 0 rfl trivial (by rw [sV]; omega) (by rw [sL, List.length_nil]; omega) ?_
  intro k' hk'
  rw [sV] at hk'
  refine hf _ _ k' (by omega) ?_ (te_sub_tl (te_g P sl) 9 []).symm ?_
  · have := congrArg List.length F
    rw [List.length_append] at this
    rw [List.nil_append]
    omega
  · rw [List.nil_append]
    exact F
end
section
/-! numbers that hold fields -/
theorem te_or (a b : Nat) : nI a ||| nI b = nI (a ||| b) := by
  apply Int32.toBitVec_inj.1
  show BitVec.ofNat 32 a ||| BitVec.ofNat 32 b = BitVec.ofNat 32 (a ||| b)
  apply BitVec.eq_of_getLsbD_eq
  intro i hi
  simp [hi]
theorem te_shr {n k : Nat} (h : n < 2 ^ 31) (hk : k < 32) : nI n >>> (nI k &&& 31) = nI (n / 2 ^ k) := pk_shrN h _ k (s_l k hk)
theorem te_shl {n k : Nat} (hk : k < 32) (h : n * 2 ^ k < 2 ^ 32) : nI n <<< (nI k &&& 31) = nI (n * 2 ^ k) := pk_shlN _ k (s_l k hk) h
theorem te_m7 {n : Nat} (h : n < 2 ^ 32) : nI n &&& 7 = nI (n % 8) := pk_andN h 3 (by decide)
theorem te_m3 {n : Nat} (h : n < 2 ^ 32) : nI n &&& 3 = nI (n % 4) := pk_andN h 2 (by decide)
theorem te_m1 {n : Nat} (h : n < 2 ^ 32) : nI n &&& 1 = nI (n % 2) := pk_andN h 1 (by decide)
/-- a field of b bits at k set anew, by naturals -/
theorem te_fldN {k b n lo d hi x : Nat} (hn : n = 2 ^ k * (2 ^ b * hi + d) + lo) (hlo : lo < 2 ^ k) (hd : d < 2 ^ b) (hx : x < 2 ^ b) (h32 : n < 2 ^ 32) : (n &&& (((2 ^ b - 1) * 2 ^ k) ^^^ (2 ^ 32 - 1))) ||| (x * 2 ^ k) = 2 ^ k * (2 ^ b * hi + x) + lo := by
  apply Nat.eq_of_testBit_eq
  intro i
  have hb : n.testBit i = true → i < 32 := by
    intro h
    rcases Nat.lt_or_ge i 32 with z | z
    · exact z
    · have : n < 2 ^ i := Nat.lt_of_lt_of_le h32 (Nat.pow_le_pow_right (by omega) z)
      rw [Nat.testBit_lt_two_pow this] at h
      cases h
  have en : n.testBit i = if i < k then lo.testBit i else if i - k < b then d.testBit (i - k) else hi.testBit (i - k - b) := by
    rw [hn, Nat.testBit_two_pow_mul_add _ hlo, Nat.testBit_two_pow_mul_add _ hd]
  rw [Nat.testBit_or, Nat.testBit_and, Nat.testBit_xor, Nat.testBit_two_pow_sub_one, Nat.testBit_mul_two_pow, Nat.testBit_mul_two_pow, Nat.testBit_two_pow_sub_one, Nat.testBit_two_pow_mul_add _ hlo, Nat.testBit_two_pow_mul_add _ hx]
  by_cases c1 : i < k
  · rw [if_pos c1] at en ⊢
    have nk : ¬ k ≤ i := by omega
    rw [← en]
    cases hh : n.testBit i with
    | false => simp [nk]
    | true => simp [nk, hb hh]
  · have hk : k ≤ i := by omega
    rw [if_neg c1] at en ⊢
    by_cases c2 : i - k < b
    · rw [if_pos c2] at en ⊢
      by_cases h3 : i < 32
      · simp [hk, c2, h3]
      · cases hh : n.testBit i with
        | true => exact absurd (hb hh) h3
        | false => simp [hk]
    · rw [if_neg c2] at en ⊢
      have xz : x.testBit (i - k) = false := Nat.testBit_lt_two_pow (Nat.lt_of_lt_of_le hx (Nat.pow_le_pow_right (by omega) (by omega)))
      rw [xz, ← en]
      cases hh : n.testBit i with
      | false => simp
      | true => simp [c2, hb hh]
theorem te_fldO {k b n lo hi x : Nat} (hn : n = 2 ^ k * (2 ^ b * hi + 0) + lo) (hlo : lo < 2 ^ k) (hx : x < 2 ^ b) : n ||| (x * 2 ^ k) = 2 ^ k * (2 ^ b * hi + x) + lo := by
  apply Nat.eq_of_testBit_eq
  intro i
  rw [hn, Nat.testBit_or, Nat.testBit_mul_two_pow, Nat.testBit_two_pow_mul_add _ hlo, Nat.testBit_two_pow_mul_add _ hlo, Nat.testBit_two_pow_mul_add _ hx, Nat.testBit_two_pow_mul_add _ (Nat.pow_pos (by omega))]
  by_cases c1 : i < k
  · have nk : ¬ k ≤ i := by omega
    rw [if_pos c1, if_pos c1]
    simp [nk]
  · have hk : k ≤ i := by omega
    rw [if_neg c1, if_neg c1]
    by_cases c2 : i - k < b
    · rw [if_pos c2, if_pos c2]
      simp [hk]
    · rw [if_neg c2, if_neg c2]
      have xz : x.testBit (i - k) = false := Nat.testBit_lt_two_pow (Nat.lt_of_lt_of_le hx (Nat.pow_le_pow_right (by omega) (by omega)))
      simp [xz]
theorem te_neg1 : (-1 : Int32) = nI (2 ^ 32 - 1) := by decide
/-- the same over ints: three bits at k -/
theorem te_fld {k n lo d hi x : Nat} (hk : k < 29) (hn : n = 2 ^ k * (8 * hi + d) + lo) (hlo : lo < 2 ^ k) (hd : d < 8) (hx : x < 8) (h32 : n < 2 ^ 31) : (nI n &&& (((7 : Int32) <<< (nI k &&& 31)) ^^^ (-1))) ||| (nI x <<< (nI k &&& 31)) = nI (2 ^ k * (8 * hi + x) + lo) := by
  have p : 2 ^ k ≤ 2 ^ 28 := Nat.pow_le_pow_right (by omega) (by omega)
  have e7 : (7 : Int32) <<< (nI k &&& 31) = nI (7 * 2 ^ k) := te_shl (n := 7) (by omega) (by omega)
  have ex : nI x <<< (nI k &&& 31) = nI (x * 2 ^ k) := te_shl (by omega) (Nat.lt_of_le_of_lt (Nat.mul_le_mul (Nat.le_of_lt_succ (show x < Nat.succ 7 from hx)) p) (by decide))
  rw [e7, ex, te_neg1, nx_xor, nx_and, te_or]
  exact congrArg nI (te_fldN (b := 3) hn hlo hd hx (by omega))
/-- two bits at k made 0 -/
theorem te_fld2 {k n lo d hi : Nat} (hk : k < 29) (hn : n = 2 ^ k * (4 * hi + d) + lo) (hlo : lo < 2 ^ k) (hd : d < 4) (h32 : n < 2 ^ 31) : nI n &&& (((3 : Int32) <<< (nI k &&& 31)) ^^^ (-1)) = nI (2 ^ k * (4 * hi + 0) + lo) := by
  have p : 2 ^ k ≤ 2 ^ 28 := Nat.pow_le_pow_right (by omega) (by omega)
  have e3 : (3 : Int32) <<< (nI k &&& 31) = nI (3 * 2 ^ k) := te_shl (n := 3) (by omega) (by omega)
  rw [e3, te_neg1, nx_xor, nx_and]
  have h := te_fldN (b := 2) (x := 0) hn hlo hd (by omega) (by omega)
  rw [Nat.zero_mul, Nat.or_zero] at h
  exact congrArg nI h
/-- two bits at k, 0 before, set -/
theorem te_fld1 {k n lo hi x : Nat} (hk : k < 29) (hn : n = 2 ^ k * (4 * hi + 0) + lo) (hlo : lo < 2 ^ k) (hx : x < 4) : nI n ||| (nI x <<< (nI k &&& 31)) = nI (2 ^ k * (4 * hi + x) + lo) := by
  have p : 2 ^ k ≤ 2 ^ 28 := Nat.pow_le_pow_right (by omega) (by omega)
  have ex : nI x <<< (nI k &&& 31) = nI (x * 2 ^ k) := te_shl (by omega) (Nat.lt_of_le_of_lt (Nat.mul_le_mul (Nat.le_of_lt_succ (show x < Nat.succ 3 from hx)) p) (by decide))
  rw [ex, te_or]
  exact congrArg nI (te_fldO (b := 2) hn hlo hx)

/-! the state of X as a number -/
def te_e8 (v0 v1 v2 a0 a1 a2 h0 h1 : Nat) : Nat := v0 + 8 * v1 + 64 * v2 + 512 * a0 + 4096 * a1 + 32768 * a2 + 262144 * h0 + 1048576 * h1
def te_ec (c : te_C) : Nat := te_e8 (c.2.1 0) (c.2.1 1) (c.2.1 2) (c.2.2.2 0) (c.2.2.2 1) (c.2.2.2 2) (c.2.2.1 0) (c.2.2.1 1)
def te_dc (c : te_C) : Nat := c.1 0 + 4 * c.1 1 + 16 * c.1 2
def te_cb (c : te_C) : Prop := (∀ v, c.2.1 v ≤ 7) ∧ (∀ v, c.2.2.2 v ≤ 7) ∧ (∀ v, c.2.2.1 v ≤ 3) ∧ (∀ t, c.1 t ≤ 3)
theorem te_cb_ex {P : te_P} (ok : te_ok P) : ∀ {w : List Nat}, te_fs P w → te_cb (te_ex P w) := by
  intro w
  induction w with
  | nil => intro _; exact ⟨ok.2.2.2.2.2, fun _ => Nat.zero_le _, fun _ => Nat.zero_le _, fun _ => Nat.zero_le _⟩
  | cons t w ih =>
    intro h
    obtain ⟨h1, h2, h3, _⟩ := ih h.1
    have ht := h.2.1
    have ha := ok.2.2.2.2.1
    refine ⟨?_, ?_, ?_, fun u => Nat.le_trans (te_dn_le h u) (ok.1 u)⟩
    · intro v
      show te_fv _ _ _ _ _ _ v ≤ 7
      unfold te_fv
      have := h1 v
      have := ha (te_nx (te_ex P w) t)
      split
      · split
        · omega
        · split
          · omega
          · split <;> omega
      · omega
    · intro v
      show te_fa _ _ _ _ _ v ≤ 7
      unfold te_fa
      have := h2 v
      have := h1 (te_pl P (te_nx (te_ex P w) t))
      split
      · split <;> omega
      · omega
    · intro v
      show te_fh _ _ _ _ v ≤ 3
      unfold te_fh
      have := h3 v
      split
      · split
        · omega
        · split
          · split <;> omega
          · omega
      · omega
theorem te_e8_lt {v0 v1 v2 a0 a1 a2 h0 h1 : Nat} (b0 : v0 ≤ 7) (b1 : v1 ≤ 7) (b2 : v2 ≤ 7) (b3 : a0 ≤ 7) (b4 : a1 ≤ 7) (b5 : a2 ≤ 7) (b6 : h0 ≤ 3) (b7 : h1 ≤ 3) : te_e8 v0 v1 v2 a0 a1 a2 h0 h1 < 4194304 := by
  unfold te_e8
  omega
theorem te_ec_lt {c : te_C} (h : te_cb c) : te_ec c < 4194304 := te_e8_lt (h.1 0) (h.1 1) (h.1 2) (h.2.1 0) (h.2.1 1) (h.2.1 2) (h.2.2.1 0) (h.2.2.1 1)
theorem te_dc_lt {c : te_C} (h : te_cb c) : te_dc c < 64 := by
  have := h.2.2.2 0
  have := h.2.2.2 1
  have := h.2.2.2 2
  unfold te_dc
  omega
/-- reading a value -/
theorem te_rv {c : te_C} (h : te_cb c) {v : Nat} (hv : v < 3) : te_ec c / 2 ^ (3 * v) % 8 = c.2.1 v := by
  have := h.1 0
  have := h.1 1
  have := h.1 2
  unfold te_ec te_e8
  rcases (by omega : v = 0 ∨ v = 1 ∨ v = 2) with e | e | e <;> subst e <;> simp only [Nat.reduceMul, Nat.reducePow] <;> omega
theorem te_ra {c : te_C} (h : te_cb c) {t : Nat} (ht : t < 3) : te_ec c / 2 ^ (9 + 3 * t) % 8 = c.2.2.2 t := by
  have := h.1 0
  have := h.1 1
  have := h.1 2
  have := h.2.1 0
  have := h.2.1 1
  have := h.2.1 2
  unfold te_ec te_e8
  rcases (by omega : t = 0 ∨ t = 1 ∨ t = 2) with e | e | e <;> subst e <;> simp only [Nat.reduceMul, Nat.reduceAdd, Nat.reducePow] <;> omega
theorem te_rh {c : te_C} (h : te_cb c) {l : Nat} (hl : l < 2) : te_ec c / 2 ^ (18 + 2 * l) % 4 = c.2.2.1 l := by
  have := h.1 0
  have := h.1 1
  have := h.1 2
  have := h.2.1 0
  have := h.2.1 1
  have := h.2.1 2
  have := h.2.2.1 0
  have := h.2.2.1 1
  unfold te_ec te_e8
  rcases (by omega : l = 0 ∨ l = 1) with e | e <;> subst e <;> simp only [Nat.reduceMul, Nat.reduceAdd, Nat.reducePow] <;> omega
theorem te_rd {c : te_C} (h : te_cb c) {t : Nat} (ht : t < 3) : te_dc c / 2 ^ (2 * t) % 4 = c.1 t := by
  have := h.2.2.2 0
  have := h.2.2.2 1
  have := h.2.2.2 2
  unfold te_dc
  rcases (by omega : t = 0 ∨ t = 1 ∨ t = 2) with e | e | e <;> subst e <;> simp only [Nat.reduceMul, Nat.reducePow] <;> omega
/-- writing a value: three bits at 3 v -/
theorem te_wv {c : te_C} (h : te_cb c) {v x : Nat} (hv : v < 3) (hx : x < 8) : (nI (te_ec c) &&& (((7 : Int32) <<< (nI (3 * v) &&& 31)) ^^^ (-1))) ||| (nI x <<< (nI (3 * v) &&& 31)) = nI (te_ec (c.1, te_set c.2.1 v x, c.2.2)) := by
  have b0 := h.1 0
  have b1 := h.1 1
  have b2 := h.1 2
  have b3 := te_ec_lt h
  have e : te_ec c = te_e8 (c.2.1 0) (c.2.1 1) (c.2.1 2) (c.2.2.2 0) (c.2.2.2 1) (c.2.2.2 2) (c.2.2.1 0) (c.2.2.1 1) := rfl
  have e' : te_ec (c.1, te_set c.2.1 v x, c.2.2) = te_e8 (te_set c.2.1 v x 0) (te_set c.2.1 v x 1) (te_set c.2.1 v x 2) (c.2.2.2 0) (c.2.2.2 1) (c.2.2.2 2) (c.2.2.1 0) (c.2.2.1 1) := rfl
  rw [e']
  rw [e] at b3 ⊢
  generalize c.2.1 = V at *
  generalize c.2.2.2 = A at *
  generalize c.2.2.1 = H at *
  unfold te_e8 at *
  rcases (by omega : v = 0 ∨ v = 1 ∨ v = 2) with q | q | q
  · subst q
    rw [te_fld (k := 3 * 0) (lo := 0) (d := V 0) (hi := V 1 + 8 * V 2 + 64 * A 0 + 512 * A 1 + 4096 * A 2 + 32768 * H 0 + 131072 * H 1) (by omega) (by simp only [Nat.reduceMul, Nat.reducePow]; omega) (by simp only [Nat.reduceMul, Nat.reducePow]; omega) (by omega) hx (by omega)]
    refine congrArg nI ?_
    rw [te_set_s, te_set_n _ _ (by omega), te_set_n _ _ (by omega)]
    simp only [Nat.reduceMul, Nat.reducePow]
    omega
  · subst q
    rw [te_fld (k := 3 * 1) (lo := V 0) (d := V 1) (hi := V 2 + 8 * A 0 + 64 * A 1 + 512 * A 2 + 4096 * H 0 + 16384 * H 1) (by omega) (by simp only [Nat.reduceMul, Nat.reducePow]; omega) (by simp only [Nat.reduceMul, Nat.reducePow]; omega) (by omega) hx (by omega)]
    refine congrArg nI ?_
    rw [te_set_s, te_set_n _ _ (by omega), te_set_n _ _ (by omega)]
    simp only [Nat.reduceMul, Nat.reducePow]
    omega
  · subst q
    rw [te_fld (k := 3 * 2) (lo := V 0 + 8 * V 1) (d := V 2) (hi := A 0 + 8 * A 1 + 64 * A 2 + 512 * H 0 + 2048 * H 1) (by omega) (by simp only [Nat.reduceMul, Nat.reducePow]; omega) (by simp only [Nat.reduceMul, Nat.reducePow]; omega) (by omega) hx (by omega)]
    refine congrArg nI ?_
    rw [te_set_s, te_set_n _ _ (by omega), te_set_n _ _ (by omega)]
    simp only [Nat.reduceMul, Nat.reducePow]
    omega
/-- an accumulator: three bits at 9 + 3 t -/
theorem te_wa {c : te_C} (h : te_cb c) {t x : Nat} (ht : t < 3) (hx : x < 8) : (nI (te_ec c) &&& (((7 : Int32) <<< (nI (9 + 3 * t) &&& 31)) ^^^ (-1))) ||| (nI x <<< (nI (9 + 3 * t) &&& 31)) = nI (te_ec (c.1, c.2.1, c.2.2.1, te_set c.2.2.2 t x)) := by
  have b0 := h.1 0
  have b1 := h.1 1
  have b2 := h.1 2
  have d0 := h.2.1 0
  have d1 := h.2.1 1
  have d2 := h.2.1 2
  have b3 := te_ec_lt h
  have e : te_ec c = te_e8 (c.2.1 0) (c.2.1 1) (c.2.1 2) (c.2.2.2 0) (c.2.2.2 1) (c.2.2.2 2) (c.2.2.1 0) (c.2.2.1 1) := rfl
  have e' : te_ec (c.1, c.2.1, c.2.2.1, te_set c.2.2.2 t x) = te_e8 (c.2.1 0) (c.2.1 1) (c.2.1 2) (te_set c.2.2.2 t x 0) (te_set c.2.2.2 t x 1) (te_set c.2.2.2 t x 2) (c.2.2.1 0) (c.2.2.1 1) := rfl
  rw [e']
  rw [e] at b3 ⊢
  generalize c.2.1 = V at *
  generalize c.2.2.2 = A at *
  generalize c.2.2.1 = H at *
  unfold te_e8 at *
  rcases (by omega : t = 0 ∨ t = 1 ∨ t = 2) with q | q | q
  · subst q
    rw [te_fld (k := 9 + 3 * 0) (lo := V 0 + 8 * V 1 + 64 * V 2) (d := A 0) (hi := A 1 + 8 * A 2 + 64 * H 0 + 256 * H 1) (by omega) (by simp only [Nat.reduceMul, Nat.reduceAdd, Nat.reducePow]; omega) (by simp only [Nat.reduceMul, Nat.reduceAdd, Nat.reducePow]; omega) (by omega) hx (by omega)]
    refine congrArg nI ?_
    rw [te_set_s, te_set_n _ _ (by omega), te_set_n _ _ (by omega)]
    simp only [Nat.reduceMul, Nat.reduceAdd, Nat.reducePow]
    omega
  · subst q
    rw [te_fld (k := 9 + 3 * 1) (lo := V 0 + 8 * V 1 + 64 * V 2 + 512 * A 0) (d := A 1) (hi := A 2 + 8 * H 0 + 32 * H 1) (by omega) (by simp only [Nat.reduceMul, Nat.reduceAdd, Nat.reducePow]; omega) (by simp only [Nat.reduceMul, Nat.reduceAdd, Nat.reducePow]; omega) (by omega) hx (by omega)]
    refine congrArg nI ?_
    rw [te_set_s, te_set_n _ _ (by omega), te_set_n _ _ (by omega)]
    simp only [Nat.reduceMul, Nat.reduceAdd, Nat.reducePow]
    omega
  · subst q
    rw [te_fld (k := 9 + 3 * 2) (lo := V 0 + 8 * V 1 + 64 * V 2 + 512 * A 0 + 4096 * A 1) (d := A 2) (hi := H 0 + 4 * H 1) (by omega) (by simp only [Nat.reduceMul, Nat.reduceAdd, Nat.reducePow]; omega) (by simp only [Nat.reduceMul, Nat.reduceAdd, Nat.reducePow]; omega) (by omega) hx (by omega)]
    refine congrArg nI ?_
    rw [te_set_s, te_set_n _ _ (by omega), te_set_n _ _ (by omega)]
    simp only [Nat.reduceMul, Nat.reduceAdd, Nat.reducePow]
    omega
/-- taking a free lock: two bits at 18 + 2 l -/
theorem te_wl {c : te_C} (h : te_cb c) {l x : Nat} (hl : l < 2) (hx : x < 4) (h0 : c.2.2.1 l = 0) : nI (te_ec c) ||| (nI x <<< (nI (18 + 2 * l) &&& 31)) = nI (te_ec (c.1, c.2.1, te_set c.2.2.1 l x, c.2.2.2)) := by
  have b0 := h.1 0
  have b1 := h.1 1
  have b2 := h.1 2
  have d0 := h.2.1 0
  have d1 := h.2.1 1
  have d2 := h.2.1 2
  have g0 := h.2.2.1 0
  have g1 := h.2.2.1 1
  have e : te_ec c = te_e8 (c.2.1 0) (c.2.1 1) (c.2.1 2) (c.2.2.2 0) (c.2.2.2 1) (c.2.2.2 2) (c.2.2.1 0) (c.2.2.1 1) := rfl
  have e' : te_ec (c.1, c.2.1, te_set c.2.2.1 l x, c.2.2.2) = te_e8 (c.2.1 0) (c.2.1 1) (c.2.1 2) (c.2.2.2 0) (c.2.2.2 1) (c.2.2.2 2) (te_set c.2.2.1 l x 0) (te_set c.2.2.1 l x 1) := rfl
  rw [e']
  rw [e]
  generalize c.2.1 = V at *
  generalize c.2.2.2 = A at *
  generalize c.2.2.1 = H at *
  unfold te_e8 at *
  rcases (by omega : l = 0 ∨ l = 1) with q | q
  · subst q
    rw [te_fld1 (k := 18 + 2 * 0) (lo := V 0 + 8 * V 1 + 64 * V 2 + 512 * A 0 + 4096 * A 1 + 32768 * A 2) (hi := H 1) (by omega) (by simp only [Nat.reduceMul, Nat.reduceAdd, Nat.reducePow]; omega) (by simp only [Nat.reduceMul, Nat.reduceAdd, Nat.reducePow]; omega) hx]
    refine congrArg nI ?_
    rw [te_set_s, te_set_n _ _ (by omega)]
    simp only [Nat.reduceMul, Nat.reduceAdd, Nat.reducePow]
    omega
  · subst q
    rw [te_fld1 (k := 18 + 2 * 1) (lo := V 0 + 8 * V 1 + 64 * V 2 + 512 * A 0 + 4096 * A 1 + 32768 * A 2 + 262144 * H 0) (hi := 0) (by omega) (by simp only [Nat.reduceMul, Nat.reduceAdd, Nat.reducePow]; omega) (by simp only [Nat.reduceMul, Nat.reduceAdd, Nat.reducePow]; omega) hx]
    refine congrArg nI ?_
    rw [te_set_s, te_set_n _ _ (by omega)]
    simp only [Nat.reduceMul, Nat.reduceAdd, Nat.reducePow]
    omega
/-- letting a lock go -/
theorem te_wu {c : te_C} (h : te_cb c) {l : Nat} (hl : l < 2) : nI (te_ec c) &&& (((3 : Int32) <<< (nI (18 + 2 * l) &&& 31)) ^^^ (-1)) = nI (te_ec (c.1, c.2.1, te_set c.2.2.1 l 0, c.2.2.2)) := by
  have b0 := h.1 0
  have b1 := h.1 1
  have b2 := h.1 2
  have d0 := h.2.1 0
  have d1 := h.2.1 1
  have d2 := h.2.1 2
  have g0 := h.2.2.1 0
  have g1 := h.2.2.1 1
  have b3 := te_ec_lt h
  have e : te_ec c = te_e8 (c.2.1 0) (c.2.1 1) (c.2.1 2) (c.2.2.2 0) (c.2.2.2 1) (c.2.2.2 2) (c.2.2.1 0) (c.2.2.1 1) := rfl
  have e' : te_ec (c.1, c.2.1, te_set c.2.2.1 l 0, c.2.2.2) = te_e8 (c.2.1 0) (c.2.1 1) (c.2.1 2) (c.2.2.2 0) (c.2.2.2 1) (c.2.2.2 2) (te_set c.2.2.1 l 0 0) (te_set c.2.2.1 l 0 1) := rfl
  rw [e']
  rw [e] at b3 ⊢
  generalize c.2.1 = V at *
  generalize c.2.2.2 = A at *
  generalize c.2.2.1 = H at *
  unfold te_e8 at *
  rcases (by omega : l = 0 ∨ l = 1) with q | q
  · subst q
    rw [te_fld2 (k := 18 + 2 * 0) (lo := V 0 + 8 * V 1 + 64 * V 2 + 512 * A 0 + 4096 * A 1 + 32768 * A 2) (d := H 0) (hi := H 1) (by omega) (by simp only [Nat.reduceMul, Nat.reduceAdd, Nat.reducePow]; omega) (by simp only [Nat.reduceMul, Nat.reduceAdd, Nat.reducePow]; omega) (by omega) (by omega)]
    refine congrArg nI ?_
    rw [te_set_s, te_set_n _ _ (by omega)]
    simp only [Nat.reduceMul, Nat.reduceAdd, Nat.reducePow]
    omega
  · subst q
    rw [te_fld2 (k := 18 + 2 * 1) (lo := V 0 + 8 * V 1 + 64 * V 2 + 512 * A 0 + 4096 * A 1 + 32768 * A 2 + 262144 * H 0) (d := H 1) (hi := 0) (by omega) (by simp only [Nat.reduceMul, Nat.reduceAdd, Nat.reducePow]; omega) (by simp only [Nat.reduceMul, Nat.reduceAdd, Nat.reducePow]; omega) (by omega) (by omega)]
    refine congrArg nI ?_
    rw [te_set_s, te_set_n _ _ (by omega)]
    simp only [Nat.reduceMul, Nat.reduceAdd, Nat.reducePow]
    omega

/-! three bits out of a function -/
def te_bs (f : Nat → Bool) : Nat → Nat
  | 0 => 0
  | j + 1 => te_bs f j + (if f j = true then 2 ^ j else 0)
theorem te_bs_lt (f : Nat → Bool) : ∀ j, te_bs f j < 2 ^ j := by
  intro j
  induction j with
  | zero => exact Nat.zero_lt_one
  | succ j ih =>
    rw [te_bs, Nat.pow_succ]
    split <;> omega
theorem te_bs_or (f : Nat → Bool) (j : Nat) : te_bs f j ||| 2 ^ j = te_bs f j + 2 ^ j := by
  have h := te_bs_lt f j
  have := te_fldO (k := j) (b := 1) (n := te_bs f j) (lo := te_bs f j) (hi := 0) (x := 1) (by simp) h (by omega)
  rw [Nat.one_mul] at this
  rw [this]
  omega
theorem te_bs_e {f g : Nat → Bool} : ∀ {j : Nat}, (∀ i, i < j → f i = g i) → te_bs f j = te_bs g j := by
  intro j
  induction j with
  | zero => intro _; rfl
  | succ j ih => intro h; rw [te_bs, te_bs, ih (fun i hi => h i (by omega)), h j (by omega)]
theorem te_bs_r (f : Nat → Bool) {b : Nat} (hb : b < 3) : te_bs f 3 / 2 ^ b % 2 = if f b = true then 1 else 0 := by
  simp only [te_bs]
  rcases (by omega : b = 0 ∨ b = 1 ∨ b = 2) with e | e | e <;> subst e <;> generalize f 0 = x <;> generalize f 1 = y <;> generalize f 2 = z <;> revert x y z <;> decide
theorem te_bs_s (f : Nat → Bool) {b : Nat} (hb : b < 3) : te_bs f 3 ||| 2 ^ b = te_bs (fun i => f i || decide (i = b)) 3 := by
  simp only [te_bs]
  rcases (by omega : b = 0 ∨ b = 1 ∨ b = 2) with e | e | e <;> subst e <;> generalize f 0 = x <;> generalize f 1 = y <;> generalize f 2 = z <;> revert x y z <;> decide
end
section
/-! X: the methods that only read -/
def te_n (f : Nat → Nat) : Nat → Int32 := fun i => nI (f i)
theorem te_na (f : Nat → Nat) {i : Nat} (h : i < 2 ^ 31) : te_n f (nI i).toNatClampNeg = nI (f i) := by rw [nI_clamp h]; rfl
theorem te_ca {f : Nat → Int32} {i : Nat} {x : Int32} (e : f i = x) (h : i < 2 ^ 31) : f (nI i).toNatClampNeg = x := by rw [nI_clamp h]; exact e
theorem te_pif {c d : Prop} [Decidable c] [Decidable d] (e : c ↔ d) {post : Int32 → Prop} (h : post (if d then 1 else 0)) : post (if c then 1 else 0) := by
  by_cases z : c
  · rw [if_pos z]; rw [if_pos (e.mp z)] at h; exact h
  · rw [if_neg z]; rw [if_neg (fun q => z (e.mpr q))] at h; exact h
theorem te_div31 {a : Nat} (b : Nat) (h : a < 2 ^ 31) : a / b < 2 ^ 32 := Nat.lt_of_le_of_lt (Nat.div_le_self a b) (by omega)
section
variable {P : te_P} {rc kc sc sh f1 f2 io : Int32} {xS xD xZ xT xO xF xK xE : Nat → Int32}
theorem te_xnext (ok : te_ok P) {post : Int32 → Prop} {c : te_C} (hc : te_cb c) {t : Nat} (ht : t < 3) (h1 : c.1 t < te_sz P t → post (nI (te_nx c t))) (h0 : ¬ c.1 t < te_sz P t → post (-1)) : wpX_nextOf post (rc, kc, sc, sh, f1, f2, io, (te_n (te_sz P)), (te_n (te_op P)), (te_n (te_pl P)), (te_n (te_am P)), (te_n (te_st P)), xS, xD, xZ, xT, xO, xF, xK, xE) (nI t) (nI (te_dc c)) := by
  have hd := te_dc_lt hc
  have hz := ok.1 t
  have ht' := hc.2.2.2 t
  refine nm_r (e' := nI (c.1 t)) ?_ ⟨vp_in_nI ht (by omega), pk_le (te_sz P t) (c.1 t) (fun h => h0 (by omega)) (fun h => ?_) (te_na (te_sz P) (by omega)) rfl (by omega) (by omega)⟩
  · rw [show (2 : Int32) * nI t = nI (2 * t) from pk_mul 2 t, te_shr (by omega) (by omega), te_m3 (te_div31 _ (by omega)), te_rd hc ht]
  · have e : (3 : Int32) * nI t + nI (c.1 t) = nI (te_nx c t) := by
      rw [show (3 : Int32) * nI t = nI (3 * t) from pk_mul 3 t, nI_add]
      rfl
    rw [e]
    exact h1 h
theorem te_xcan (ok : te_ok P) {post : Int32 → Prop} {c : te_C} (hc : te_cb c) {s : Nat} (hs : s < 9) (h1 : (te_op P s = 4 → c.2.2.1 (te_pl P s) = 0) → post 1) (h0 : ¬ (te_op P s = 4 → c.2.2.1 (te_pl P s) = 0) → post 0) : wpX_canDo post (rc, kc, sc, sh, f1, f2, io, (te_n (te_sz P)), (te_n (te_op P)), (te_n (te_pl P)), (te_n (te_am P)), (te_n (te_st P)), xS, xD, xZ, xT, xO, xF, xK, xE) (nI s) (nI (te_ec c)) := by
  have he := te_ec_lt hc
  have ho := ok.2.1 s
  refine ⟨vp_in_nI hs (by omega), pk_eq (te_op P s) 4 (fun h => ⟨vp_in_nI hs (by omega), ?_⟩) (fun h => h1 (fun e => absurd e h)) (te_na (te_op P) (by omega)) rfl (by omega) (by omega)⟩
  have hp := ok.2.2.2.1 s (by omega)
  have hh := hc.2.2.1 (te_pl P s)
  have e : (nI (te_ec c) >>> ((18 + 2 * te_n (te_pl P) (nI s).toNatClampNeg) &&& 31)) &&& 3 = nI (c.2.2.1 (te_pl P s)) := by
    have e1 : (18 : Int32) + 2 * nI (te_pl P s) = nI (18 + 2 * te_pl P s) := by
      rw [← nI_add, ← pk_mul]
      rfl
    rw [te_na (te_pl P) (by omega), e1, te_shr (by omega) (by omega), te_m3 (te_div31 _ (by omega)), te_rh hc (by omega)]
  exact pk_eq (c.2.2.1 (te_pl P s)) 0 (fun z => h1 (fun _ => z)) (fun z => h0 (fun q => z (q h))) e rfl (by omega) (by omega)

theorem te_fv_k {o p a t : Nat} (v c : Nat → Nat) (h1 : o ≠ 1) (h2 : o ≠ 2) (h3 : o ≠ 3) : te_fv o p a t v c = v := by
  funext j
  unfold te_fv
  rw [if_neg h1, if_neg h2, if_neg h3]
  split <;> rfl
theorem te_fv_1 {p a t : Nat} (v c : Nat → Nat) : te_fv 1 p a t v c = te_set v p a := by
  funext j
  unfold te_fv te_set
  rw [if_pos rfl]
theorem te_fv_2 {p a t : Nat} (v c : Nat → Nat) : te_fv 2 p a t v c = te_set v p ((c t + a) % 8) := by
  funext j
  unfold te_fv te_set
  simp
theorem te_fv_3 {p a t : Nat} (v c : Nat → Nat) : te_fv 3 p a t v c = te_set v p ((v p + a) % 8) := by
  funext j
  unfold te_fv te_set
  simp
theorem te_fh_k {o p t : Nat} (h : Nat → Nat) (h4 : o ≠ 4) (h5 : o ≠ 5) : te_fh o p t h = h := by
  funext j
  unfold te_fh
  rw [if_neg h4, if_neg h5]
  split <;> rfl
theorem te_fh_4 {p t : Nat} (h : Nat → Nat) : te_fh 4 p t h = te_set h p (t + 1) := by
  funext j
  unfold te_fh te_set
  rw [if_pos rfl]
theorem te_fh_5 {p t : Nat} (h : Nat → Nat) (e : h p = t + 1) : te_fh 5 p t h = te_set h p 0 := by
  funext j
  unfold te_fh te_set
  simp [e]
theorem te_fh_6 {p t : Nat} (h : Nat → Nat) (e : h p ≠ t + 1) : te_fh 5 p t h = h := by
  funext j
  unfold te_fh
  simp [e]
theorem te_fa_0 {p t : Nat} (v c : Nat → Nat) : te_fa 0 p t v c = te_set c t (v p) := by
  funext j
  unfold te_fa te_set
  rw [if_pos rfl]
theorem te_fa_k {o p t : Nat} (v c : Nat → Nat) (h : o ≠ 0) : te_fa o p t v c = c := by
  funext j
  unfold te_fa
  rw [if_neg h]
  split <;> rfl
theorem te_ec_d4 (s t : Nat) (c : te_C) : te_ec (te_d4 P s t c) = te_ec (c.1, te_fv (te_op P s) (te_pl P s) (te_am P s) t c.2.1 c.2.2.2, te_fh (te_op P s) (te_pl P s) t c.2.2.1, te_fa (te_op P s) (te_pl P s) t c.2.1 c.2.2.2) := rfl
theorem te_xafter (ok : te_ok P) {post : Int32 → Prop} {c : te_C} (hc : te_cb c) {s t : Nat} (hs : s < 9) (ht : s / 3 = t) (hl : te_op P s = 4 → c.2.2.1 (te_pl P s) = 0) (h : post (nI (te_ec (te_d4 P s t c)))) : wpX_after post (rc, kc, sc, sh, f1, f2, io, (te_n (te_sz P)), (te_n (te_op P)), (te_n (te_pl P)), (te_n (te_am P)), (te_n (te_st P)), xS, xD, xZ, xT, xO, xF, xK, xE) (nI s) (nI (te_ec c)) := by
  have he := te_ec_lt hc
  have ho := ok.2.1 s
  have hp := ok.2.2.1 s
  have ha := ok.2.2.2.2.1 s
  have hv := hc.1 (te_pl P s)
  have hac := hc.2.1 t
  have ht3 : t < 3 := by omega
  have q3 : (3 : Int32) * nI (te_pl P s) = nI (3 * te_pl P s) := pk_mul 3 _
  refine ⟨by decide, nm_r (e' := nI t) ?_ ⟨vp_in_nI hs (by omega), nm_r (e' := nI (3 * te_pl P s)) ?_ (nm_r (e' := nI (9 + 3 * t)) ?_ (nm_r (e' := nI (c.2.1 (te_pl P s))) ?_ (nm_r (e' := nI (c.2.2.2 t)) ?_ ⟨vp_in_nI hs (by omega), nm_r (e' := nI (te_op P s)) (te_na (te_op P) (by omega)) ?_⟩)))⟩⟩
  · rw [show (3 : Int32) = nI 3 from rfl, pk_div (by omega) (by omega) (by omega), ht]
  · rw [te_na (te_pl P) (by omega), q3]
  · rw [show (3 : Int32) * nI t = nI (3 * t) from pk_mul 3 _, show (9 : Int32) = nI 9 from rfl, nI_add]
  · rw [te_shr (by omega) (by omega), te_m7 (te_div31 _ (by omega)), te_rv hc (by omega)]
  · rw [te_shr (by omega) (by omega), te_m7 (te_div31 _ (by omega)), te_ra hc ht3]
  rw [te_ec_d4] at h
  refine pk_eq (te_op P s) 0 (fun e => ?_) (fun n0 => pk_eq (te_op P s) 1 (fun e => ⟨vp_in_nI hs (by omega), ?_⟩) (fun n1 => pk_eq (te_op P s) 2 (fun e => ⟨vp_in_nI hs (by omega), ?_⟩) (fun n2 => pk_eq (te_op P s) 3 (fun e => ⟨vp_in_nI hs (by omega), ?_⟩) (fun n3 => ⟨vp_in_nI hs (by omega), nm_r (e' := nI (18 + 2 * te_pl P s)) ?_ (nm_r (e' := nI (c.2.2.1 (te_pl P s))) ?_ (pk_eq (te_op P s) 4 (fun e => ?_) (fun n4 => pk_eq (c.2.2.1 (te_pl P s)) (t + 1) (fun e => ?_) (fun n5 => ?_) rfl (nI_1 t) ?_ (by omega))))⟩))))
  · rw [te_wa hc ht3 (by omega)]
    rw [e, te_fv_k _ _ (by omega) (by omega) (by omega), te_fh_k _ (by omega) (by omega), te_fa_0] at h
    exact h
  · rw [te_na (te_am P) (by omega), te_wv hc (by omega) (by omega)]
    rw [e, te_fv_1, te_fh_k _ (by omega) (by omega), te_fa_k _ _ (by omega)] at h
    exact h
  · rw [te_na (te_am P) (by omega), nI_add, te_m7 (by omega), te_wv hc (by omega) (by omega)]
    rw [e, te_fv_2, te_fh_k _ (by omega) (by omega), te_fa_k _ _ (by omega)] at h
    exact h
  · rw [te_na (te_am P) (by omega), nI_add, te_m7 (by omega), te_wv hc (by omega) (by omega)]
    rw [e, te_fv_3, te_fh_k _ (by omega) (by omega), te_fa_k _ _ (by omega)] at h
    exact h
  · rw [te_na (te_pl P) (by omega), show (2 : Int32) * nI (te_pl P s) = nI (2 * te_pl P s) from pk_mul 2 _, show (18 : Int32) = nI 18 from rfl, nI_add]
  · have := ok.2.2.2.1 s (by omega)
    rw [te_shr (by omega) (by omega), te_m3 (te_div31 _ (by omega)), te_rh hc (by omega)]
  · have := ok.2.2.2.1 s (by omega)
    rw [nI_1, te_wl hc (by omega) (by omega) (hl e)]
    rw [e, te_fv_k _ _ (by omega) (by omega) (by omega), te_fh_4, te_fa_k _ _ (by omega)] at h
    exact h
  · have := ok.2.2.2.1 s (by omega)
    have e5 : te_op P s = 5 := by omega
    rw [te_wu hc (by omega)]
    rw [e5, te_fv_k _ _ (by omega) (by omega) (by omega), te_fh_5 _ e, te_fa_k _ _ (by omega)] at h
    exact h
  · have e5 : te_op P s = 5 := by omega
    rw [e5, te_fv_k _ _ (by omega) (by omega) (by omega), te_fh_6 _ n5, te_fa_k _ _ (by omega)] at h
    exact h
  · have := hc.2.2.1 (te_pl P s)
    omega

/-! tied steps -/
theorem te_x87 (ok : te_ok P) {post : Int32 → Prop} {s u : Nat} (hs : s < 9) (hu : u < 9) (x3 x4 z0 : Int32) (h : post (if te_pl P s = te_pl P u ∧ (x3 ≠ 0 ∨ (x4 ≠ 0 ∧ z0 = 0)) then 1 else 0)) : wX_areTied_87 post (nI s) (nI u) x3 x4 z0 rc kc sc sh f1 f2 io (te_n (te_sz P)) (te_n (te_op P)) (te_n (te_pl P)) (te_n (te_am P)) (te_n (te_st P)) xS xD xZ xT xO xF xK xE := by
  have p1 := ok.2.2.1 s
  have p2 := ok.2.2.1 u
  refine ⟨vp_in_nI hs (by omega), vp_in_nI hu (by omega), pk_eq (te_pl P s) (te_pl P u) (fun e => br_c (fun a => br_c (fun b => ?_) (fun b => br_c (fun d => ?_) (fun d => ?_))) (fun a => ?_)) (fun e => ?_) (te_na (te_pl P) (by omega)) (te_na (te_pl P) (by omega)) (by omega) (by omega)⟩
  · rw [if_neg (fun q => q.2.elim (fun z => z a) (fun z => z.1 b))] at h; exact h
  · rw [if_pos ⟨e, Or.inr ⟨b, d⟩⟩] at h; exact h
  · rw [if_neg (fun q => q.2.elim (fun z => z a) (fun z => d z.2))] at h; exact h
  · rw [if_pos ⟨e, Or.inl a⟩] at h; exact h
  · rw [if_neg (fun q => e q.1)] at h; exact h
theorem te_x62 (ok : te_ok P) {post : Int32 → Prop} {s u : Nat} (hs : s < 9) (hu : u < 9) (x3 x4 : Int32) (h : post (if te_pl P s = te_pl P u ∧ (x3 ≠ 0 ∨ (x4 ≠ 0 ∧ ¬ (te_op P s = 0 ∧ te_op P u = 0))) then 1 else 0)) : wX_areTied_62 post (nI s) (nI u) x3 x4 rc kc sc sh f1 f2 io (te_n (te_sz P)) (te_n (te_op P)) (te_n (te_pl P)) (te_n (te_am P)) (te_n (te_st P)) xS xD xZ xT xO xF xK xE := by
  have p1 := ok.2.1 s
  have p2 := ok.2.1 u
  refine ⟨vp_in_nI hs (by omega), pk_eq (te_op P s) 0 (fun e => ⟨vp_in_nI hu (by omega), pk_eq (te_op P u) 0 (fun e' => te_x87 ok hs hu _ _ _ ?_) (fun e' => te_x87 ok hs hu _ _ _ ?_) (te_na (te_op P) (by omega)) rfl (by omega) (by omega)⟩) (fun e => te_x87 ok hs hu _ _ _ ?_) (te_na (te_op P) (by omega)) rfl (by omega) (by omega)⟩
  · have : (te_pl P s = te_pl P u ∧ (x3 ≠ 0 ∨ (x4 ≠ 0 ∧ (1 : Int32) = 0))) ↔ (te_pl P s = te_pl P u ∧ (x3 ≠ 0 ∨ (x4 ≠ 0 ∧ ¬ (te_op P s = 0 ∧ te_op P u = 0)))) :=
      ⟨fun q => ⟨q.1, q.2.elim Or.inl (fun z => absurd z.2 (by decide))⟩, fun q => ⟨q.1, q.2.elim Or.inl (fun z => absurd ⟨e, e'⟩ z.2)⟩⟩
    exact te_pif this h
  · have : (te_pl P s = te_pl P u ∧ (x3 ≠ 0 ∨ (x4 ≠ 0 ∧ (0 : Int32) = 0))) ↔ (te_pl P s = te_pl P u ∧ (x3 ≠ 0 ∨ (x4 ≠ 0 ∧ ¬ (te_op P s = 0 ∧ te_op P u = 0)))) :=
      ⟨fun q => ⟨q.1, q.2.elim Or.inl (fun z => Or.inr ⟨z.1, fun y => e' y.2⟩)⟩, fun q => ⟨q.1, q.2.elim Or.inl (fun z => Or.inr ⟨z.1, rfl⟩)⟩⟩
    exact te_pif this h
  · have : (te_pl P s = te_pl P u ∧ (x3 ≠ 0 ∨ (x4 ≠ 0 ∧ (0 : Int32) = 0))) ↔ (te_pl P s = te_pl P u ∧ (x3 ≠ 0 ∨ (x4 ≠ 0 ∧ ¬ (te_op P s = 0 ∧ te_op P u = 0)))) :=
      ⟨fun q => ⟨q.1, q.2.elim Or.inl (fun z => Or.inr ⟨z.1, fun y => e y.1⟩)⟩, fun q => ⟨q.1, q.2.elim Or.inl (fun z => Or.inr ⟨z.1, rfl⟩)⟩⟩
    exact te_pif this h
theorem te_x36 (ok : te_ok P) {post : Int32 → Prop} {s u : Nat} (hs : s < 9) (hu : u < 9) (x3 : Int32) (h : post (if te_pl P s = te_pl P u ∧ (x3 ≠ 0 ∨ (te_op P s < 4 ∧ te_op P u < 4 ∧ ¬ (te_op P s = 0 ∧ te_op P u = 0))) then 1 else 0)) : wX_areTied_36 post (nI s) (nI u) x3 rc kc sc sh f1 f2 io (te_n (te_sz P)) (te_n (te_op P)) (te_n (te_pl P)) (te_n (te_am P)) (te_n (te_st P)) xS xD xZ xT xO xF xK xE := by
  have p1 := ok.2.1 s
  have p2 := ok.2.1 u
  refine ⟨vp_in_nI hs (by omega), pk_le 4 (te_op P s) (fun e => te_x62 ok hs hu _ _ ?_) (fun e => ⟨vp_in_nI hu (by omega), pk_le 4 (te_op P u) (fun e' => te_x62 ok hs hu _ _ ?_) (fun e' => te_x62 ok hs hu _ _ ?_) rfl (te_na (te_op P) (by omega)) (by omega) (by omega)⟩) rfl (te_na (te_op P) (by omega)) (by omega) (by omega)⟩
  · have : (te_pl P s = te_pl P u ∧ (x3 ≠ 0 ∨ ((0 : Int32) ≠ 0 ∧ ¬ (te_op P s = 0 ∧ te_op P u = 0)))) ↔ (te_pl P s = te_pl P u ∧ (x3 ≠ 0 ∨ (te_op P s < 4 ∧ te_op P u < 4 ∧ ¬ (te_op P s = 0 ∧ te_op P u = 0)))) :=
      ⟨fun q => ⟨q.1, q.2.elim Or.inl (fun z => absurd rfl z.1)⟩, fun q => ⟨q.1, q.2.elim Or.inl (fun z => absurd z.1 (by omega))⟩⟩
    exact te_pif this h
  · have : (te_pl P s = te_pl P u ∧ (x3 ≠ 0 ∨ ((0 : Int32) ≠ 0 ∧ ¬ (te_op P s = 0 ∧ te_op P u = 0)))) ↔ (te_pl P s = te_pl P u ∧ (x3 ≠ 0 ∨ (te_op P s < 4 ∧ te_op P u < 4 ∧ ¬ (te_op P s = 0 ∧ te_op P u = 0)))) :=
      ⟨fun q => ⟨q.1, q.2.elim Or.inl (fun z => absurd rfl z.1)⟩, fun q => ⟨q.1, q.2.elim Or.inl (fun z => absurd z.2.1 (by omega))⟩⟩
    exact te_pif this h
  · have : (te_pl P s = te_pl P u ∧ (x3 ≠ 0 ∨ ((1 : Int32) ≠ 0 ∧ ¬ (te_op P s = 0 ∧ te_op P u = 0)))) ↔ (te_pl P s = te_pl P u ∧ (x3 ≠ 0 ∨ (te_op P s < 4 ∧ te_op P u < 4 ∧ ¬ (te_op P s = 0 ∧ te_op P u = 0)))) :=
      ⟨fun q => ⟨q.1, q.2.elim Or.inl (fun z => Or.inr ⟨e, e', z.2⟩)⟩, fun q => ⟨q.1, q.2.elim Or.inl (fun z => Or.inr ⟨by decide, z.2.2⟩)⟩⟩
    exact te_pif this h
theorem te_xtied (ok : te_ok P) {post : Int32 → Prop} {s u : Nat} (hs : s < 9) (hu : u < 9) (h : post (if te_ti P s u = true then 1 else 0)) : wpX_areTied post (rc, kc, sc, sh, f1, f2, io, (te_n (te_sz P)), (te_n (te_op P)), (te_n (te_pl P)), (te_n (te_am P)), (te_n (te_st P)), xS, xD, xZ, xT, xO, xF, xK, xE) (nI s) (nI u) := by
  have p1 := ok.2.1 s
  have p2 := ok.2.1 u
  have hi : (te_ti P s u = true) ↔ (s / 3 = u / 3 ∨ (te_pl P s = te_pl P u ∧ ((4 ≤ te_op P s ∧ 4 ≤ te_op P u) ∨ (te_op P s < 4 ∧ te_op P u < 4 ∧ ¬ (te_op P s = 0 ∧ te_op P u = 0))))) := decide_eq_true_iff
  simp only [hi] at h
  have d3 : ∀ x, x < 9 → nI x / (3 : Int32) = nI (x / 3) := fun x hx => pk_div (d := 3) (by omega) (by omega) (by omega)
  refine ⟨by decide, by decide, pk_eq (s / 3) (u / 3) (fun e => ?_) (fun e => ⟨vp_in_nI hs (by omega), pk_lt (te_op P s) 4 (fun a => te_x36 ok hs hu _ ?_) (fun a => ⟨vp_in_nI hu (by omega), pk_lt (te_op P u) 4 (fun b => te_x36 ok hs hu _ ?_) (fun b => te_x36 ok hs hu _ ?_) (te_na (te_op P) (by omega)) rfl (by omega) (by omega)⟩) (te_na (te_op P) (by omega)) rfl (by omega) (by omega)⟩) (d3 s hs) (d3 u hu) (by omega) (by omega)⟩
  · rw [if_pos (Or.inl e)] at h; exact h
  · have : (te_pl P s = te_pl P u ∧ ((0 : Int32) ≠ 0 ∨ (te_op P s < 4 ∧ te_op P u < 4 ∧ ¬ (te_op P s = 0 ∧ te_op P u = 0)))) ↔ (s / 3 = u / 3 ∨ (te_pl P s = te_pl P u ∧ ((4 ≤ te_op P s ∧ 4 ≤ te_op P u) ∨ (te_op P s < 4 ∧ te_op P u < 4 ∧ ¬ (te_op P s = 0 ∧ te_op P u = 0))))) :=
      ⟨fun q => Or.inr ⟨q.1, q.2.elim (fun z => absurd rfl z) Or.inr⟩, fun q => q.elim (fun z => absurd z e) (fun z => ⟨z.1, z.2.elim (fun y => absurd y.1 (by omega)) Or.inr⟩)⟩
    exact te_pif this h
  · have : (te_pl P s = te_pl P u ∧ ((0 : Int32) ≠ 0 ∨ (te_op P s < 4 ∧ te_op P u < 4 ∧ ¬ (te_op P s = 0 ∧ te_op P u = 0)))) ↔ (s / 3 = u / 3 ∨ (te_pl P s = te_pl P u ∧ ((4 ≤ te_op P s ∧ 4 ≤ te_op P u) ∨ (te_op P s < 4 ∧ te_op P u < 4 ∧ ¬ (te_op P s = 0 ∧ te_op P u = 0))))) :=
      ⟨fun q => Or.inr ⟨q.1, q.2.elim (fun z => absurd rfl z) Or.inr⟩, fun q => q.elim (fun z => absurd z e) (fun z => ⟨z.1, z.2.elim (fun y => absurd y.2 (by omega)) Or.inr⟩)⟩
    exact te_pif this h
  · have : (te_pl P s = te_pl P u ∧ ((1 : Int32) ≠ 0 ∨ (te_op P s < 4 ∧ te_op P u < 4 ∧ ¬ (te_op P s = 0 ∧ te_op P u = 0)))) ↔ (s / 3 = u / 3 ∨ (te_pl P s = te_pl P u ∧ ((4 ≤ te_op P s ∧ 4 ≤ te_op P u) ∨ (te_op P s < 4 ∧ te_op P u < 4 ∧ ¬ (te_op P s = 0 ∧ te_op P u = 0))))) :=
      ⟨fun q => Or.inr ⟨q.1, Or.inl ⟨a, b⟩⟩, fun q => q.elim (fun z => absurd z e) (fun z => ⟨z.1, Or.inl (by decide)⟩)⟩
    exact te_pif this h

/-! the end of a run -/
theorem te_xie1 (ok : te_ok P) {post : Int32 → Prop} {c : te_C} (hc : te_cb c) {d t n : Nat} (hd : d < 11) (ht : t < 3) (hS : xS d = nI (te_ec c)) (hD : xD d = nI (te_dc c)) (h1 : te_en P c t = true → post 0) (h0 : te_en P c t = false → wX_isEnd_2 post (nI d) rc kc sc sh f1 f2 io (te_n (te_sz P)) (te_n (te_op P)) (te_n (te_pl P)) (te_n (te_am P)) (te_n (te_st P)) xS xD xZ xT xO xF xK xE n (nI (t + 1))) : wX_isEnd_2 post (nI d) rc kc sc sh f1 f2 io (te_n (te_sz P)) (te_n (te_op P)) (te_n (te_pl P)) (te_n (te_am P)) (te_n (te_st P)) xS xD xZ xT xO xF xK xE (n + 1) (nI t) := by
  refine br_f (nI_ge (a := t) (b := 3) ht (by omega)) ⟨vp_in_nI hd (by omega), ?_⟩
  rw [te_ca hD (by omega)]
  refine te_xnext ok hc ht (fun h => br_f (nI_pos ?_) ⟨vp_in_nI hd (by omega), ?_⟩) (fun h => br_t (by decide) (nm_r (nI_1 t) (h0 ?_)))
  · have := ok.1 t
    unfold te_nx
    omega
  · rw [te_ca hS (by omega)]
    refine te_xcan ok hc ?_ (fun q => br_f (by decide) (h1 ?_)) (fun q => br_t rfl (nm_r (nI_1 t) (h0 ?_)))
    · have := ok.1 t
      unfold te_nx
      omega
    · exact decide_eq_true ⟨h, q⟩
    · exact decide_eq_false (fun z => q z.2)
  · exact decide_eq_false (fun z => h z.1)
theorem te_xisend (ok : te_ok P) {post : Int32 → Prop} {w : List Nat} (f : te_fs P w) {d : Nat} (hd : d < 11) (hS : xS d = nI (te_ec (te_ex P w))) (hD : xD d = nI (te_dc (te_ex P w))) (h : post (if te_end P w = true then 1 else 0)) : wpX_isEnd post (rc, kc, sc, sh, f1, f2, io, (te_n (te_sz P)), (te_n (te_op P)), (te_n (te_pl P)), (te_n (te_am P)), (te_n (te_st P)), xS, xD, xZ, xT, xO, xF, xK, xE) (nI d) := by
  have hc := te_cb_ex ok f
  unfold te_end at h
  refine ⟨4, ?_⟩
  refine te_xie1 ok hc (t := 0) hd (by omega) hS hD (fun e => ?_) (fun e0 => te_xie1 ok hc (t := 1) hd (by omega) hS hD (fun e => ?_) (fun e1 => te_xie1 ok hc (t := 2) hd (by omega) hS hD (fun e => ?_) (fun e2 => br_t (nI_le (a := 3) (b := 3) (by omega) (by omega)) ?_)))
  · rw [e] at h; exact h
  · rw [e0, e] at h; exact h
  · rw [e0, e1, e] at h; exact h
  · rw [e0, e1, e2] at h; exact h
end
end
section
/-! X: what is gathered, and finish -/
def te_AX (P : te_P) (V L : List (List Nat)) (a b : Nat) (rc kc sc sh io : Int32) (xF xK xE : Nat → Int32) : Prop :=
  rc = nI L.length ∧ kc = nI L.length ∧ sc = nI (L.countP (fun w => !te_cm P w)) ∧ sh = nI (te_mn P L) ∧ te_mn P L ≤ 9 ∧ io = (if te_io P L a b = true then 1 else 0) ∧ (∀ r, r < 512 → xF r = nI (L.countP (te_fr P r))) ∧ (∀ v, v < 3 → xK v = nI (te_pk P V v) ∧ te_pk P V v ≤ 7) ∧ (∀ t, t < 3 → xE t = nI (te_es P L t))
theorem te_len1 (L : List (List Nat)) (w : List Nat) : nI L.length + 1 = nI (L ++ [w]).length := by
  rw [nI_1, List.length_append]
  rfl
theorem te_cnt1 (L : List (List Nat)) (w : List Nat) (f : List Nat → Bool) : (L ++ [w]).countP f = L.countP f + (if f w = true then 1 else 0) := by
  rw [List.countP_append, List.countP_singleton]
theorem te_io1 (P : te_P) (L : List (List Nat)) (w : List Nat) (a b : Nat) : te_io P (L ++ [w]) a b = (te_io P L a b || (te_cm P w && decide (te_fp P w a < te_fp P w b))) := by
  unfold te_io
  rw [List.any_append]
  simp only [List.any_cons, List.any_nil, Bool.or_false]
theorem te_mn9 {P : te_P} {L : List (List Nat)} {w : List Nat} (h : te_mn P L ≤ 9) (hw : w.length ≤ 9) : te_mn P (L ++ [w]) ≤ 9 := by
  rw [te_mn_s]
  split
  · exact h
  · split <;> assumption
theorem te_AXs {P : te_P} {V L : List (List Nat)} {a b : Nat} {rc kc sc sh io : Int32} {xF xK xE : Nat → Int32} {w : List Nat} (hw : w.length ≤ 9) (hc : te_cm P w = false) (A : te_AX P V L a b rc kc sc sh io xF xK xE) : te_AX P V (L ++ [w]) a b (rc + 1) (kc + 1) (sc + 1) (nI (te_mn P (L ++ [w]))) io xF xK xE := by
  obtain ⟨h1, h2, h3, h4, h5, h6, h7, h8, h9⟩ := A
  refine ⟨by rw [h1]; exact te_len1 L w, by rw [h2]; exact te_len1 L w, ?_, rfl, te_mn9 h5 hw, ?_, ?_, h8, ?_⟩
  · rw [h3, nI_1, te_cnt1, hc]
    rfl
  · rw [h6, te_io1, hc, Bool.false_and, Bool.or_false]
  · intro r hr
    have : te_fr P r w = false := by unfold te_fr; rw [hc]; rfl
    rw [h7 r hr, te_cnt1, this]
    rfl
  · intro t ht
    rw [h9 t ht, te_es_s, hc, if_neg Bool.false_ne_true]
theorem te_AXc {P : te_P} {V L : List (List Nat)} {a b : Nat} {rc kc sc sh io : Int32} {xF xK xE xE' : Nat → Int32} {w : List Nat} (hw : w.length ≤ 9) (hc : te_cm P w = true) (A : te_AX P V L a b rc kc sc sh io xF xK xE) (hE : ∀ t, t < 3 → xE' t = nI (te_es P L t ||| 2 ^ (te_ex P w).2.2.2 t)) : te_AX P V (L ++ [w]) a b (rc + 1) (kc + 1) sc sh (if io = 0 ∧ ¬ te_fp P w a < te_fp P w b then 0 else 1) (upd xF (te_res P w) (xF (te_res P w) + 1)) xK xE' := by
  obtain ⟨h1, h2, h3, h4, h5, h6, h7, h8, h9⟩ := A
  have em : te_mn P (L ++ [w]) = te_mn P L := by rw [te_mn_s, if_pos hc]
  refine ⟨by rw [h1]; exact te_len1 L w, by rw [h2]; exact te_len1 L w, ?_, by rw [h4, em], by rw [em]; exact h5, ?_, ?_, h8, ?_⟩
  · rw [h3, te_cnt1, hc]
    rfl
  · rw [te_io1, hc, Bool.true_and, h6]
    cases te_io P L a b with
    | true => rfl
    | false =>
      by_cases q : te_fp P w a < te_fp P w b
      · simp [q]
      · simp [q]
  · intro r hr
    rw [te_cnt1]
    by_cases e : r = te_res P w
    · have : te_fr P r w = true := by unfold te_fr; rw [hc, decide_eq_true e.symm]; rfl
      rw [this, e, pk_us, ← e, h7 r hr, nI_1]
      rfl
    · have : te_fr P r w = false := by unfold te_fr; rw [hc, decide_eq_false (fun z => e z.symm)]; rfl
      rw [this, pk_un e, h7 r hr]
      rfl
  · intro t ht
    rw [hE t ht, te_es_s, if_pos hc]
def te_fk (P : te_P) (w : List Nat) (a k : Nat) : Nat := if te_pq P w a = 0 ∨ k < te_pq P w a then w.length else te_pq P w a - 1
theorem te_fk_le {P : te_P} {w : List Nat} {a k : Nat} (h : w.length ≤ 9) : te_fk P w a k ≤ 9 := by
  have := te_pq_le P w a
  unfold te_fk
  split <;> omega
theorem te_fk_0 (P : te_P) (w : List Nat) (a : Nat) : te_fk P w a 0 = w.length := by
  unfold te_fk
  rw [if_pos (by omega)]
theorem te_fk_e (P : te_P) (w : List Nat) (a : Nat) : te_fk P w a w.length = te_fp P w a := by
  have := te_pq_le P w a
  unfold te_fk te_fp
  by_cases e : te_pq P w a = 0
  · rw [if_pos (Or.inl e), if_pos e]
  · rw [if_neg (by omega), if_neg e]
theorem te_fk_y {P : te_P} {w : List Nat} {a k : Nat} (h : te_pq P w a = k + 1) : te_fk P w a (k + 1) = k := by
  unfold te_fk
  rw [if_neg (by omega)]
  omega
theorem te_fk_n {P : te_P} {w : List Nat} {a k : Nat} (h : te_pq P w a ≠ k + 1) : te_fk P w a (k + 1) = te_fk P w a k := by
  unfold te_fk
  by_cases e : te_pq P w a = 0 ∨ k < te_pq P w a
  · rw [if_pos e, if_pos (by omega)]
  · rw [if_neg e, if_neg (by omega)]
section
variable {P : te_P} {rc kc sc sh f1 f2 io : Int32} {xS xD xZ xT xO xF xK xE : Nat → Int32}
theorem te_xf217 {post : SX → Prop} {J : Int32 → Int32 → Int32 → Prop} {w : List Nat} {b k s : Nat} (hb : b < 9) (hk : k < 9) (hs : s < 9) (hO : xO k = nI s) (hq : ∀ x, te_pq P w x = k + 1 ↔ x = s) (x1 z0 : Int32) (hJ : J z0 (nI (te_fk P w b (k + 1))) (nI (k + 1))) : wX_finish_217 post J x1 (nI (te_fk P w b k)) (nI k) z0 rc kc sc sh f1 (nI b) io (te_n (te_sz P)) (te_n (te_op P)) (te_n (te_pl P)) (te_n (te_am P)) (te_n (te_st P)) xS xD xZ xT xO xF xK xE := by
  refine ⟨vp_in_nI (by omega) (by omega), pk_eq s b (fun e => nm_r (nI_1 k) ?_) (fun e => nm_r (nI_1 k) ?_) (te_ca hO (by omega)) rfl (by omega) (by omega)⟩
  · rw [te_fk_y ((hq b).mpr e.symm)] at hJ
    exact hJ
  · rw [te_fk_n (fun z => e ((hq b).mp z).symm)] at hJ
    exact hJ
theorem te_xf190 {post : SX → Prop} {w : List Nat} {a b : Nat} (ha : a < 9) (hb : b < 9) (hw : w.length ≤ 9) (hO : ∀ k, k < w.length → ∃ s, s < 9 ∧ xO k = nI s ∧ ∀ x, te_pq P w x = k + 1 ↔ x = s) (K : post (rc, kc, sc, sh, nI a, nI b, (if io = 0 ∧ ¬ te_fp P w a < te_fp P w b then 0 else 1), (te_n (te_sz P)), (te_n (te_op P)), (te_n (te_pl P)), (te_n (te_am P)), (te_n (te_st P)), xS, xD, xZ, xT, xO, xF, xK, xE)) : ∀ m k, k + m = w.length → wX_finish_190 post (nI w.length) rc kc sc sh (nI a) (nI b) io (te_n (te_sz P)) (te_n (te_op P)) (te_n (te_pl P)) (te_n (te_am P)) (te_n (te_st P)) xS xD xZ xT xO xF xK xE (m + 1) (nI (te_fk P w a k)) (nI (te_fk P w b k)) (nI k) := by
  intro m
  induction m with
  | zero =>
    intro k hk
    have ek : k = w.length := by omega
    subst ek
    have la := te_fk_le (P := P) (a := a) (k := w.length) hw
    have lb := te_fk_le (P := P) (a := b) (k := w.length) hw
    rw [← te_fk_e, ← te_fk_e] at K
    refine br_t (nI_le (Nat.le_refl _) (by omega)) (br_c (fun e => pk_le (te_fk P w b w.length) (te_fk P w a w.length) (fun q => ?_) (fun q => ?_) rfl rfl (by omega) (by omega)) (fun e => ?_))
    · rw [if_pos ⟨e, by omega⟩] at K; exact K
    · rw [if_neg (fun z => z.2 q)] at K; exact K
    · rw [if_neg (fun z => e z.1)] at K; exact K
  | succ m ih =>
    intro k hk
    obtain ⟨s, hs, eO, hq⟩ := hO k (by omega)
    have I := ih (k + 1) (by omega)
    refine br_f (nI_ge (by omega) (by omega)) ⟨vp_in_nI (by omega) (by omega), pk_eq s a (fun e => te_xf217 (P := P) hb (by omega) hs eO hq _ _ ?_) (fun e => te_xf217 (P := P) hb (by omega) hs eO hq _ _ ?_) (te_ca eO (by omega)) rfl (by omega) (by omega)⟩
    · rw [te_fk_y (a := a) ((hq a).mpr e.symm)] at I
      exact I
    · rw [te_fk_n (a := a) (fun z => e ((hq a).mp z).symm)] at I
      exact I
theorem te_xf140 {post : SX → Prop} {c : te_C} (hc : te_cb c) (x1 : Int32) (E : Nat → Nat) (K : ∀ xE', (∀ t, t < 3 → xE' t = nI (E t ||| 2 ^ c.2.2.2 t)) → ∃ n190 : Nat, wX_finish_190 post x1 rc kc sc sh f1 f2 io (te_n (te_sz P)) (te_n (te_op P)) (te_n (te_pl P)) (te_n (te_am P)) (te_n (te_st P)) xS xD xZ xT xO xF xK xE' n190 x1 x1 0) : ∀ m j, j + m = 3 → ∀ xE, (∀ t, t < 3 → xE t = if t < j then nI (E t ||| 2 ^ c.2.2.2 t) else nI (E t)) → wX_finish_140 post x1 (nI (te_ec c)) rc kc sc sh f1 f2 io (m + 1) (nI j) (te_n (te_sz P)) (te_n (te_op P)) (te_n (te_pl P)) (te_n (te_am P)) (te_n (te_st P)) xS xD xZ xT xO xF xK xE := by
  have he := te_ec_lt hc
  intro m
  induction m with
  | zero =>
    intro j hj xE hE
    refine br_t (nI_le (a := 3) (by omega) (by omega)) (K xE (fun t ht => ?_))
    rw [hE t ht, if_pos (by omega)]
  | succ m ih =>
    intro j hj xE hE
    refine br_f (nI_ge (b := 3) (by omega) (by omega)) ⟨vp_in_nI (by omega) (by omega), vp_in_nI (by omega) (by omega), nm_e (nm_r (nI_1 j) (ih (j + 1) (by omega) _ (fun t ht => ?_)))⟩
    rw [nI_clamp (n := j) (by omega)]
    by_cases e : t = j
    · subst e
      have hac := hc.2.1 t
      rw [pk_us, if_pos (by omega), hE t ht, if_neg (by omega), show (3 : Int32) * nI t = nI (3 * t) from pk_mul 3 _, show (9 : Int32) = nI 9 from rfl, nI_add, te_shr (by omega) (by omega), te_m7 (te_div31 _ (by omega)), te_ra hc ht, show (1 : Int32) = nI 1 from rfl, te_shl (by omega) (Nat.lt_of_le_of_lt (Nat.mul_le_mul_left 1 (Nat.pow_le_pow_right (by omega) hac)) (by decide)), te_or, Nat.one_mul]
    · rw [pk_un e, hE t ht]
      by_cases e2 : t < j
      · rw [if_pos e2, if_pos (by omega)]
      · rw [if_neg e2, if_neg (by omega)]
theorem te_res_e {c : te_C} (hc : te_cb c) : ((64 * (nI (te_ec c) &&& 7)) + (8 * ((nI (te_ec c) >>> ((3 : Int32) &&& 31)) &&& 7))) + ((nI (te_ec c) >>> ((6 : Int32) &&& 31)) &&& 7) = nI (64 * c.2.1 0 + 8 * c.2.1 1 + c.2.1 2) := by
  have he := te_ec_lt hc
  have r0 := te_rv hc (v := 0) (by omega)
  have r1 := te_rv hc (v := 1) (by omega)
  have r2 := te_rv hc (v := 2) (by omega)
  rw [show (3 : Int32) = nI 3 from rfl, show (6 : Int32) = nI 6 from rfl, te_shr (by omega) (by omega), te_shr (by omega) (by omega), te_m7 (by omega), te_m7 (te_div31 _ (by omega)), te_m7 (te_div31 _ (by omega))]
  rw [Nat.mul_zero, Nat.pow_zero, Nat.div_one] at r0
  rw [r0, show (3 : Nat) = 3 * 1 from rfl, r1, show (6 : Nat) = 3 * 2 from rfl, r2, show (64 : Int32) = nI 64 from rfl, show (8 : Int32) = nI 8 from rfl, pk_mul, pk_mul, nI_add, nI_add]
theorem te_xfin (ok : te_ok P) {post : SX → Prop} {w : List Nat} {V L : List (List Nat)} {a b : Nat} (f : te_fs P w) (ha : a < 9) (hb : b < 9) (hS : xS w.length = nI (te_ec (te_ex P w))) (hO : ∀ k, k < w.length → ∃ s, s < 9 ∧ xO k = nI s ∧ ∀ x, te_pq P w x = k + 1 ↔ x = s) (A : te_AX P V L a b rc kc sc sh io xF xK xE) (K : ∀ rc kc sc sh io xF xE, te_AX P V (L ++ [w]) a b rc kc sc sh io xF xK xE → post (rc, kc, sc, sh, nI a, nI b, io, (te_n (te_sz P)), (te_n (te_op P)), (te_n (te_pl P)), (te_n (te_am P)), (te_n (te_st P)), xS, xD, xZ, xT, xO, xF, xK, xE)) : wpX_finish post (rc, kc, sc, sh, nI a, nI b, io, (te_n (te_sz P)), (te_n (te_op P)), (te_n (te_pl P)), (te_n (te_am P)), (te_n (te_st P)), xS, xD, xZ, xT, xO, xF, xK, xE) (nI w.length) := by
  have hw := te_len9 ok f
  have hc := te_cb_ex ok f
  have z0 := ok.1 0
  have z1 := ok.1 1
  have z2 := ok.1 2
  have et : te_n (te_sz P) 0 + te_n (te_sz P) 1 + te_n (te_sz P) 2 = nI (te_sz P 0 + te_sz P 1 + te_sz P 2) := by
    show nI (te_sz P 0) + nI (te_sz P 1) + nI (te_sz P 2) = _
    rw [nI_add, nI_add]
  refine nm_e (nm_e (pk_eq w.length (te_sz P 0 + te_sz P 1 + te_sz P 2) (fun e => ?_) (fun e => ?_) rfl et (by omega) (by omega)))
  · have cm : te_cm P w = true := decide_eq_true e
    have v0 := hc.1 0
    have v1 := hc.1 1
    have v2 := hc.1 2
    have hr : te_res P w < 512 := by unfold te_res; omega
    refine br_f (by decide) ⟨vp_in_nI (by omega) (by omega), nm_r (te_ca hS (by omega)) (nm_r (te_res_e hc) ⟨vp_in_nI hr (by omega), vp_in_nI hr (by omega), nm_e ⟨4, ?_⟩⟩)⟩
    rw [nI_clamp (n := 64 * (te_ex P w).2.1 0 + 8 * (te_ex P w).2.1 1 + (te_ex P w).2.1 2) (by omega)]
    refine te_xf140 hc _ (te_es P L) (fun xE' hE' => ⟨w.length + 1, ?_⟩) 3 0 (by omega) xE (fun t ht => ?_)
    · have R := te_xf190 (P := P) (post := post) (xE := xE') (xF := upd xF (te_res P w) (xF (te_res P w) + 1)) (rc := rc + 1) (kc := kc + 1) (sc := sc) (sh := sh) (io := io) (xS := xS) (xD := xD) (xZ := xZ) (xT := xT) (xK := xK) ha hb hw hO (K _ _ _ _ _ _ _ (te_AXc hw cm A hE')) w.length 0 (by omega)
      rw [te_fk_0, te_fk_0] at R
      exact R
    · rw [if_neg (by omega)]
      exact A.2.2.2.2.2.2.2.2 t ht
  · have cm : te_cm P w = false := decide_eq_false e
    have AA := te_AXs hw cm A
    have h5 := A.2.2.2.2.1
    have es := A.2.2.2.1
    rw [te_mn_s, cm, if_neg Bool.false_ne_true] at AA
    refine br_t rfl (nm_e (pk_eq (te_mn P L) 0 (fun q => ?_) (fun q => pk_le (te_mn P L) w.length (fun q2 => ?_) (fun q2 => ?_) es rfl (by omega) (by omega)) es rfl (by omega) (by omega)))
    · rw [if_pos (Or.inl q)] at AA
      exact K _ _ _ _ _ _ _ AA
    · rw [if_neg (by omega), ← es] at AA
      exact K _ _ _ _ _ _ _ AA
    · rw [if_pos (Or.inr q2)] at AA
      exact K _ _ _ _ _ _ _ AA
end
end
section
/-! X: enter and clear -/
def te_zz (P : te_P) (sl : Bool) (w : List Nat) (t b : Nat) : Bool := sl && (te_Z P w b || (decide (b < t) && te_en P (te_ex P w) b))
def te_zb (P : te_P) (sl : Bool) (w : List Nat) (t : Nat) : Nat := te_bs (te_zz P sl w t) 3
def te_zn (P : te_P) (sl : Bool) (w : List Nat) (t b : Nat) : Bool := te_zz P sl w t b && (decide ((te_ex P w).1 b < te_sz P b) && !te_ti P (te_nx (te_ex P w) b) (te_nx (te_ex P w) t))
theorem te_zb_lt (P : te_P) (sl : Bool) (w : List Nat) (t : Nat) : te_zb P sl w t < 8 := te_bs_lt _ 3
theorem te_zb_c (P : te_P) (sl : Bool) (w : List Nat) (t : Nat) : te_zb P sl (t :: w) 0 = te_bs (te_zn P sl w t) 3 := by
  unfold te_zb
  refine te_bs_e (fun b _ => ?_)
  unfold te_zn te_zz
  rw [te_Z]
  cases sl <;> simp
theorem te_sh1 {k : Nat} (hk : k < 31) : (1 : Int32) <<< (nI k &&& 31) = nI (2 ^ k) := by
  have p : 2 ^ k ≤ 2 ^ 30 := Nat.pow_le_pow_right (by omega) (by omega)
  rw [show (1 : Int32) = nI 1 from rfl, te_shl (by omega) (by omega), Nat.one_mul]
theorem te_ca1 {f : Nat → Int32} {i : Nat} {x : Int32} (e : f (i + 1) = x) (h : i + 1 < 2 ^ 31) : f (nI i + 1).toNatClampNeg = x := by rw [nI_1, nI_clamp h]; exact e
theorem te_in1 {i N : Nat} (h : i + 1 < N) (hN : N < 2 ^ 31) : vp_in (nI i + 1) N := by rw [nI_1]; exact vp_in_nI h hN
section
variable {P : te_P} {rc kc sc sh f1 f2 io : Int32} {xS xD xZ xT xO xF xK xE : Nat → Int32}
theorem te_xe139 {post : SX → Prop} {c : te_C} (hc : te_cb c) {d : Nat} (hd : d < 9) (hS : xS (d + 1) = nI (te_ec c)) (K K' : Nat → Nat) (hK : ∀ v, v < 3 → K v ≤ 7) (hK' : ∀ v, v < 3 → K' v = if c.2.1 v ≤ K v then K v else c.2.1 v) (H : ∀ xK', (∀ v, v < 3 → xK' v = nI (K' v)) → post (rc, kc, sc, sh, f1, f2, io, (te_n (te_sz P)), (te_n (te_op P)), (te_n (te_pl P)), (te_n (te_am P)), (te_n (te_st P)), xS, xD, xZ, xT, xO, xF, xK', xE)) : ∀ m j, j + m = 3 → ∀ xK, (∀ v, v < 3 → xK v = if v < j then nI (K' v) else nI (K v)) → wX_enter_139 post (nI d) rc kc sc sh f1 f2 io (m + 1) (nI j) (te_n (te_sz P)) (te_n (te_op P)) (te_n (te_pl P)) (te_n (te_am P)) (te_n (te_st P)) xS xD xZ xT xO xF xK xE := by
  have he := te_ec_lt hc
  intro m
  induction m with
  | zero =>
    intro j hj xK hx
    refine br_t (nI_le (a := 3) (by omega) (by omega)) (H xK (fun v hv => ?_))
    rw [hx v hv, if_pos (by omega)]
  | succ m ih =>
    intro j hj xK hx
    have hj3 : j < 3 := by omega
    have hv := hc.1 j
    have hk := hK j hj3
    have ex : xK j = nI (K j) := by rw [hx j hj3, if_neg (by omega)]
    have e6 : (xS (nI d + 1).toNatClampNeg >>> ((3 * nI j) &&& 31)) &&& 7 = nI (c.2.1 j) := by
      rw [te_ca1 hS (by omega), show (3 : Int32) * nI j = nI (3 * j) from pk_mul 3 _, te_shr (by omega) (by omega), te_m7 (te_div31 _ (by omega)), te_rv hc hj3]
    have key : ∀ x : Int32, x = nI (K' j) → ∀ v, v < 3 → upd xK (nI j).toNatClampNeg x v = if v < j + 1 then nI (K' v) else nI (K v) := by
      intro x hxx v hv3
      rw [nI_clamp (n := j) (by omega)]
      by_cases e : v = j
      · subst e
        rw [pk_us, if_pos (by omega), hxx]
      · rw [pk_un e, hx v hv3]
        by_cases e2 : v < j
        · rw [if_pos e2, if_pos (by omega)]
        · rw [if_neg e2, if_neg (by omega)]
    refine br_f (nI_ge (b := 3) hj3 (by omega)) ⟨te_in1 (by omega) (by omega), nm_r e6 ⟨vp_in_nI hj3 (by omega), pk_le (c.2.1 j) (K j) (fun q => ⟨vp_in_nI hj3 (by omega), vp_in_nI hj3 (by omega), nm_e (nm_r (nI_1 j) (ih (j + 1) (by omega) _ (key _ ?_)))⟩) (fun q => ⟨vp_in_nI hj3 (by omega), nm_e (nm_r (nI_1 j) (ih (j + 1) (by omega) _ (key _ ?_)))⟩) rfl (te_ca ex (by omega)) (by omega) (by omega)⟩⟩
    · rw [te_ca ex (by omega), hK' j hj3, if_pos q]
    · rw [hK' j hj3, if_neg (by omega)]
theorem te_xe52 (ok : te_ok P) {post : SX → Prop} {sl : Bool} {w : List Nat} {t : Nat} (f : te_fs P w) (ht : t < 3) (he : te_en P (te_ex P w) t = true) (hd : w.length < 9) (hD : xD w.length = nI (te_dc (te_ex P w))) (hZ : xZ w.length = nI (te_zb P sl w t)) (H : ∃ n139 : Nat, wX_enter_139 post (nI w.length) rc kc sc sh f1 f2 io n139 0 (te_n (te_sz P)) (te_n (te_op P)) (te_n (te_pl P)) (te_n (te_am P)) (te_n (te_st P)) xS xD (upd xZ (w.length + 1) (nI (te_zb P sl (t :: w) 0))) (upd xT (w.length + 1) 0) xO xF xK xE) : ∀ m j, j + m = 3 → wX_enter_52 post (nI w.length) (nI (te_nx (te_ex P w) t)) rc kc sc sh f1 f2 io (te_n (te_sz P)) (te_n (te_op P)) (te_n (te_pl P)) (te_n (te_am P)) (te_n (te_st P)) xS xD xZ xT xO xF xK xE (m + 1) (nI (te_bs (te_zn P sl w t) j)) (nI j) := by
  have hc := te_cb_ex ok f
  have N := te_nx_i ok ht he
  have hz8 := te_zb_lt P sl w t
  intro m
  induction m with
  | zero =>
    intro j hj
    have ej : j = 3 := by omega
    subst ej
    refine br_t (nI_le (a := 3) (by omega) (by omega)) ⟨te_in1 (by omega) (by omega), nm_e ⟨te_in1 (by omega) (by omega), nm_e ?_⟩⟩
    rw [nI_1, nI_clamp (by omega), ← te_zb_c]
    exact H
  | succ m ih =>
    intro j hj
    have hj3 : j < 3 := by omega
    have hb : ((xZ (nI w.length).toNatClampNeg) >>> (nI j &&& 31)) &&& 1 = nI (if te_zz P sl w t j = true then 1 else 0) := by
      rw [te_ca hZ (by omega), te_shr (by omega) (by omega), te_m1 (te_div31 _ (by omega))]
      unfold te_zb
      rw [te_bs_r _ hj3]
    have I := ih (j + 1) (by omega)
    rw [te_bs] at I
    have no : te_zn P sl w t j = false → wX_enter_52 post (nI w.length) (nI (te_nx (te_ex P w) t)) rc kc sc sh f1 f2 io (te_n (te_sz P)) (te_n (te_op P)) (te_n (te_pl P)) (te_n (te_am P)) (te_n (te_st P)) xS xD xZ xT xO xF xK xE (m + 1) (nI (te_bs (te_zn P sl w t) j)) (nI (j + 1)) := by
      intro z
      rw [z, if_neg Bool.false_ne_true, Nat.add_zero] at I
      exact I
    refine br_f (nI_ge (b := 3) hj3 (by omega)) ⟨vp_in_nI (by omega) (by omega), ?_⟩
    rw [te_ca hD (by omega)]
    refine te_xnext ok hc hj3 (fun h => ⟨vp_in_nI (by omega) (by omega), pk_eq (if te_zz P sl w t j = true then 1 else 0) 1 (fun q => br_f (nI_pos ?_) (te_xtied ok ?_ N.1 ?_)) (fun q => nm_r (nI_1 j) (no ?_)) hb rfl ?_ (by omega)⟩) (fun h => ⟨vp_in_nI (by omega) (by omega), pk_eq (if te_zz P sl w t j = true then 1 else 0) 1 (fun q => br_t (by decide) (nm_r (nI_1 j) (no ?_))) (fun q => nm_r (nI_1 j) (no ?_)) hb rfl ?_ (by omega)⟩)
    · have := ok.1 j
      unfold te_nx
      omega
    · have := ok.1 j
      unfold te_nx
      omega
    · have zt : te_zz P sl w t j = true := by
        cases zz : te_zz P sl w t j with
        | true => rfl
        | false => rw [zz, if_neg Bool.false_ne_true] at q; omega
      cases ti : te_ti P (te_nx (te_ex P w) j) (te_nx (te_ex P w) t) with
      | true =>
        rw [if_pos rfl]
        refine br_f (by decide) (nm_r (nI_1 j) (no ?_))
        unfold te_zn
        rw [ti]
        simp
      | false =>
        rw [if_neg Bool.false_ne_true]
        have zn : te_zn P sl w t j = true := by
          unfold te_zn
          rw [ti, zt, decide_eq_true h]
          rfl
        rw [zn, if_pos rfl] at I
        refine br_t rfl (nm_r (e' := nI (te_bs (te_zn P sl w t) j + 2 ^ j)) ?_ (nm_r (nI_1 j) I))
        rw [show (1 : Int32) = nI 1 from rfl, te_shl (by omega) (Nat.lt_of_le_of_lt (Nat.mul_le_mul_left 1 (Nat.pow_le_pow_right (by omega) (Nat.le_of_lt hj3))) (by decide)), te_or, Nat.one_mul, te_bs_or]
    · unfold te_zn
      cases zz : te_zz P sl w t j with
      | true => rw [zz, if_pos rfl] at q; exact absurd rfl q
      | false => rfl
    · split <;> omega
    · unfold te_zn
      rw [decide_eq_false h]
      simp
    · unfold te_zn
      rw [decide_eq_false h]
      simp
    · split <;> omega
theorem te_dc_c {w : List Nat} {t : Nat} (ht : t < 3) : te_dc (te_ex P (t :: w)) = te_dc (te_ex P w) + 2 ^ (2 * t) := by
  unfold te_dc
  rw [te_ex1]
  unfold te_set
  rcases (by omega : t = 0 ∨ t = 1 ∨ t = 2) with e | e | e <;> subst e <;> simp <;> omega
theorem te_xenter (ok : te_ok P) {post : SX → Prop} {sl : Bool} {w : List Nat} {t : Nat} {V : List (List Nat)} (f : te_fs P w) (ht : t < 3) (he : te_en P (te_ex P w) t = true) (hd : w.length < 9) (hS : xS w.length = nI (te_ec (te_ex P w))) (hD : xD w.length = nI (te_dc (te_ex P w))) (hZ : xZ w.length = nI (te_zb P sl w t)) (hK : ∀ v, v < 3 → xK v = nI (te_pk P V v) ∧ te_pk P V v ≤ 7) (H : ∀ xK', (∀ v, v < 3 → xK' v = nI (te_pk P (V ++ [t :: w]) v)) → post (rc, kc, sc, sh, f1, f2, io, (te_n (te_sz P)), (te_n (te_op P)), (te_n (te_pl P)), (te_n (te_am P)), (te_n (te_st P)), upd xS (w.length + 1) (nI (te_ec (te_ex P (t :: w)))), upd xD (w.length + 1) (nI (te_dc (te_ex P (t :: w)))), upd xZ (w.length + 1) (nI (te_zb P sl (t :: w) 0)), upd xT (w.length + 1) 0, upd xO w.length (nI (te_nx (te_ex P w) t)), xF, xK', xE)) : wpX_enter post (rc, kc, sc, sh, f1, f2, io, (te_n (te_sz P)), (te_n (te_op P)), (te_n (te_pl P)), (te_n (te_am P)), (te_n (te_st P)), xS, xD, xZ, xT, xO, xF, xK, xE) (nI w.length) (nI t) (nI (te_nx (te_ex P w) t)) := by
  have hc := te_cb_ex ok f
  have f' : te_fs P (t :: w) := ⟨f, ht, he⟩
  have hc' := te_cb_ex ok f'
  have N := te_nx_i ok ht he
  have ed : xD (nI w.length).toNatClampNeg + ((1 : Int32) <<< ((2 * nI t) &&& 31)) = nI (te_dc (te_ex P (t :: w))) := by
    rw [te_ca hD (by omega), te_dc_c ht, show (2 : Int32) * nI t = nI (2 * t) from pk_mul 2 _, te_sh1 (k := 2 * t) (by omega), nI_add]
  refine ⟨vp_in_nI (by omega) (by omega), ?_⟩
  rw [te_ca hS (by omega)]
  refine te_xafter ok hc N.1 N.2.1 (te_en_t he).2 ⟨te_in1 (by omega) (by omega), nm_e ⟨vp_in_nI (by omega) (by omega), te_in1 (by omega) (by omega), nm_e ⟨vp_in_nI (by omega) (by omega), nm_e ⟨4, ?_⟩⟩⟩⟩
  rw [ed, nI_1, nI_clamp (n := w.length + 1) (by omega), nI_clamp (n := w.length) (by omega)]
  have R := te_xe52 (P := P) (post := post) (sl := sl) (rc := rc) (kc := kc) (sc := sc) (sh := sh) (f1 := f1) (f2 := f2) (io := io) (xS := upd xS (w.length + 1) (nI (te_ec (te_d4 P (te_nx (te_ex P w) t) t (te_ex P w))))) (xD := upd xD (w.length + 1) (nI (te_dc (te_ex P (t :: w))))) (xZ := xZ) (xT := xT) (xO := upd xO w.length (nI (te_nx (te_ex P w) t))) (xF := xF) (xK := xK) (xE := xE) ok f ht he hd (by rw [pk_un (by omega)]; exact hD) hZ ?_ 3 0 (by omega)
  · exact R
  · refine ⟨4, te_xe139 hc' hd pk_us (te_pk P V) (te_pk P (V ++ [t :: w])) (fun v hv => (hK v hv).2) (fun v _ => te_pk_s P V (t :: w) v) H 3 0 (by omega) xK (fun v hv => ?_)⟩
    rw [if_neg (by omega)]
    exact (hK v hv).1
theorem te_xc49 {post : SX → Prop} (H : ∀ xK' xE', (∀ v, v < 3 → xK' v = nI (te_st P v)) → (∀ v, v < 3 → xE' v = 0) → post (rc, kc, sc, sh, f1, f2, io, (te_n (te_sz P)), (te_n (te_op P)), (te_n (te_pl P)), (te_n (te_am P)), (te_n (te_st P)), xS, xD, xZ, xT, xO, xF, xK', xE')) : ∀ m j, j + m = 3 → ∀ xK xE, (∀ v, v < j → xK v = nI (te_st P v)) → (∀ v, v < j → xE v = 0) → wX_clear_49 post rc kc sc sh f1 f2 io (m + 1) (nI j) (te_n (te_sz P)) (te_n (te_op P)) (te_n (te_pl P)) (te_n (te_am P)) (te_n (te_st P)) xS xD xZ xT xO xF xK xE := by
  intro m
  induction m with
  | zero =>
    intro j hj xK xE h1 h2
    have ej : j = 3 := by omega
    subst ej
    exact br_t (nI_le (a := 3) (by omega) (by omega)) (H xK xE h1 h2)
  | succ m ih =>
    intro j hj xK xE h1 h2
    refine br_f (nI_ge (b := 3) (by omega) (by omega)) ⟨vp_in_nI (by omega) (by omega), vp_in_nI (by omega) (by omega), nm_e ⟨vp_in_nI (by omega) (by omega), nm_e (nm_r (nI_1 j) (ih (j + 1) (by omega) _ _ (fun v hv => ?_) (fun v hv => ?_)))⟩⟩
    · rw [nI_clamp (n := j) (by omega)]
      by_cases e : v = j
      · rw [e, pk_us]; rfl
      · rw [pk_un e]; exact h1 v (by omega)
    · rw [nI_clamp (n := j) (by omega)]
      by_cases e : v = j
      · rw [e, pk_us]
      · rw [pk_un e]; exact h2 v (by omega)
theorem te_xc27 {post : SX → Prop} (H : ∀ xF', (∀ r, r < 512 → xF' r = 0) → ∃ n49 : Nat, wX_clear_49 post rc kc sc sh f1 f2 io n49 0 (te_n (te_sz P)) (te_n (te_op P)) (te_n (te_pl P)) (te_n (te_am P)) (te_n (te_st P)) xS xD xZ xT xO xF' xK xE) : ∀ m j, j + m = 512 → ∀ xF, (∀ v, v < j → xF v = 0) → wX_clear_27 post rc kc sc sh f1 f2 io (m + 1) (nI j) (te_n (te_sz P)) (te_n (te_op P)) (te_n (te_pl P)) (te_n (te_am P)) (te_n (te_st P)) xS xD xZ xT xO xF xK xE := by
  intro m
  induction m with
  | zero =>
    intro j hj xF h1
    have ej : j = 512 := by omega
    subst ej
    exact br_t (nI_le (a := 512) (by omega) (by omega)) (H xF h1)
  | succ m ih =>
    intro j hj xF h1
    refine br_f (nI_ge (b := 512) (by omega) (by omega)) ⟨vp_in_nI (by omega) (by omega), nm_e (nm_r (nI_1 j) (ih (j + 1) (by omega) _ (fun v hv => ?_)))⟩
    rw [nI_clamp (n := j) (by omega)]
    by_cases e : v = j
    · rw [e, pk_us]
    · rw [pk_un e]; exact h1 v (by omega)
theorem te_xclear {post : SX → Prop} (H : ∀ xF' xK' xE', (∀ r, r < 512 → xF' r = 0) → (∀ v, v < 3 → xK' v = nI (te_st P v)) → (∀ v, v < 3 → xE' v = 0) → post (0, 0, 0, 0, f1, f2, 0, (te_n (te_sz P)), (te_n (te_op P)), (te_n (te_pl P)), (te_n (te_am P)), (te_n (te_st P)), xS, xD, xZ, xT, xO, xF', xK', xE')) : wpX_clear post (rc, kc, sc, sh, f1, f2, io, (te_n (te_sz P)), (te_n (te_op P)), (te_n (te_pl P)), (te_n (te_am P)), (te_n (te_st P)), xS, xD, xZ, xT, xO, xF, xK, xE) :=
  ⟨513, te_xc27 (P := P) (fun xF' h => ⟨4, te_xc49 (P := P) (fun xK' xE' h1 h2 => H xF' xK' xE' h h1 h2) 3 0 (by omega) xK xE (fun v hv => absurd hv (Nat.not_lt_zero v)) (fun v hv => absurd hv (Nat.not_lt_zero v))⟩) 512 0 (by omega) xF (fun v hv => absurd hv (Nat.not_lt_zero v))⟩
end
end
section
/-! X: the search -/
def te_fm (P : te_P) (sl : Bool) (xS xD xZ xT xO : Nat → Int32) : List Nat → Prop
  | [] => True
  | c :: w => te_fm P sl xS xD xZ xT xO w ∧ xS w.length = nI (te_ec (te_ex P w)) ∧ xD w.length = nI (te_dc (te_ex P w)) ∧ xZ w.length = nI (te_zb P sl w (c + 1)) ∧ xT w.length = nI (c + 1) ∧ xO w.length = nI (te_nx (te_ex P w) c)
theorem te_fm_e {P : te_P} {sl : Bool} {xS xD xZ xT xO yS yD yZ yT yO : Nat → Int32} : ∀ {w : List Nat}, (∀ i, i < w.length → yS i = xS i ∧ yD i = xD i ∧ yZ i = xZ i ∧ yT i = xT i ∧ yO i = xO i) → te_fm P sl xS xD xZ xT xO w → te_fm P sl yS yD yZ yT yO w := by
  intro w
  induction w with
  | nil => intro _ _; trivial
  | cons c w ih =>
    intro h ⟨h0, h1, h2, h3, h4, h5⟩
    have q := h w.length (by rw [List.length_cons]; omega)
    refine ⟨ih (fun i hi => h i (by rw [List.length_cons]; omega)) h0, ?_, ?_, ?_, ?_, ?_⟩
    · rw [q.1]; exact h1
    · rw [q.2.1]; exact h2
    · rw [q.2.2.1]; exact h3
    · rw [q.2.2.2.1]; exact h4
    · rw [q.2.2.2.2]; exact h5
theorem te_fm_O {P : te_P} (ok : te_ok P) {sl : Bool} {xS xD xZ xT xO : Nat → Int32} : ∀ {w : List Nat}, te_fs P w → te_fm P sl xS xD xZ xT xO w → ∀ k, k < w.length → ∃ s, s < 9 ∧ xO k = nI s ∧ ∀ x, te_pq P w x = k + 1 ↔ x = s := by
  intro w
  induction w with
  | nil => intro _ _ k hk; exact absurd hk (Nat.not_lt_zero k)
  | cons c w ih =>
    intro f h k hk
    rw [List.length_cons] at hk
    have N := te_nx_i ok f.2.1 f.2.2
    have Z := te_pq_new ok f.1 f.2.1 f.2.2
    by_cases e : k = w.length
    · subst e
      refine ⟨te_nx (te_ex P w) c, N.1, h.2.2.2.2.2, fun x => ?_⟩
      by_cases ex : x = te_nx (te_ex P w) c
      · subst ex
        rw [te_pq_s]
        exact ⟨fun _ => rfl, fun _ => rfl⟩
      · rw [te_pq_n P ex]
        have := te_pq_le P w x
        exact ⟨fun z => absurd z (by omega), fun z => absurd z ex⟩
    · obtain ⟨s, hs, eO, hq⟩ := ih f.1 h.1 k (by omega)
      refine ⟨s, hs, eO, fun x => ?_⟩
      by_cases ex : x = te_nx (te_ex P w) c
      · subst ex
        rw [te_pq_s]
        have q := hq (te_nx (te_ex P w) c)
        rw [Z] at q
        exact ⟨fun z => absurd z (by omega), fun z => absurd (q.mpr z) (by omega)⟩
      · rw [te_pq_n P ex]
        exact hq x
theorem te_zz_t (P : te_P) (sl : Bool) (w : List Nat) (t : Nat) : te_zz P sl w t t = (sl && te_Z P w t) := by
  unfold te_zz
  rw [decide_eq_false (Nat.lt_irrefl t), Bool.false_and, Bool.or_false]
theorem te_zb_f (P : te_P) (w : List Nat) (t u : Nat) : te_zb P false w t = te_zb P false w u := by
  unfold te_zb
  exact te_bs_e (fun i _ => rfl)
theorem te_zb_skip {P : te_P} {sl : Bool} {w : List Nat} {t : Nat} (h : te_g P sl w t = false) : te_zb P sl w (t + 1) = te_zb P sl w t := by
  unfold te_zb
  refine te_bs_e (fun i _ => ?_)
  by_cases e : i = t
  · subst e
    rw [te_zz_t]
    unfold te_zz
    unfold te_g at h
    rw [decide_eq_true (Nat.lt_succ_self i), Bool.true_and]
    revert h
    generalize te_en P (te_ex P w) i = x
    generalize te_Z P w i = y
    revert sl x y
    decide
  · unfold te_zz
    have : decide (i < t + 1) = decide (i < t) := by rw [decide_eq_decide]; omega
    rw [this]
theorem te_zb_go {P : te_P} {w : List Nat} {t : Nat} (ht : t < 3) (h : te_en P (te_ex P w) t = true) : te_zb P true w t ||| 2 ^ t = te_zb P true w (t + 1) := by
  unfold te_zb
  rw [te_bs_s _ ht]
  refine te_bs_e (fun i _ => ?_)
  by_cases e : i = t
  · subst e
    unfold te_zz
    rw [h, decide_eq_true (Nat.lt_succ_self i), decide_eq_true rfl]
    simp
  · unfold te_zz
    have : decide (i < t + 1) = decide (i < t) := by rw [decide_eq_decide]; omega
    rw [this, decide_eq_false e, Bool.or_false]
def te_x1 (sl : Bool) : Int32 := if sl = true then 1 else 0
section
variable {P : te_P} {rc kc sc sh f1 f2 io : Int32} {xS xD xZ xT xO xF xK xE : Nat → Int32}
theorem te_x151 (ok : te_ok P) {post : SX → Prop} {sl : Bool} {w : List Nat} {t k : Nat} {V : List (List Nat)} {J : Int32 → Int32 → Int32 → Int32 → Int32 → Int32 → Int32 → Int32 → Int32 → (Nat → Int32) → (Nat → Int32) → (Nat → Int32) → (Nat → Int32) → (Nat → Int32) → (Nat → Int32) → (Nat → Int32) → (Nat → Int32) → (Nat → Int32) → (Nat → Int32) → (Nat → Int32) → (Nat → Int32) → (Nat → Int32) → Prop} (f : te_fs P w) (ht : t < 3) (hd : w.length ≤ 9) (hk : k < 100000) (hs : (te_ex P w).1 t < te_sz P t) (hz : (sl && te_Z P w t) = false) (hS : xS w.length = nI (te_ec (te_ex P w))) (hD : xD w.length = nI (te_dc (te_ex P w))) (hZ : xZ w.length = nI (te_zb P sl w t)) (hK : ∀ v, v < 3 → xK v = nI (te_pk P V v) ∧ te_pk P V v ≤ 7)
    (skip : te_g P sl w t = false → J (nI w.length) (nI (k + 1)) rc kc sc sh f1 f2 io (te_n (te_sz P)) (te_n (te_op P)) (te_n (te_pl P)) (te_n (te_am P)) (te_n (te_st P)) xS xD xZ xT xO xF xK xE)
    (go : te_g P sl w t = true → ∀ xZ' xK', xZ' w.length = nI (te_zb P sl w (t + 1)) → xZ' (w.length + 1) = nI (te_zb P sl (t :: w) 0) → (∀ i, i < w.length → xZ' i = xZ i) → (∀ v, v < 3 → xK' v = nI (te_pk P (V ++ [t :: w]) v)) → J (nI (w.length + 1)) (nI (k + 1)) rc kc sc sh f1 f2 io (te_n (te_sz P)) (te_n (te_op P)) (te_n (te_pl P)) (te_n (te_am P)) (te_n (te_st P)) (upd xS (w.length + 1) (nI (te_ec (te_ex P (t :: w))))) (upd xD (w.length + 1) (nI (te_dc (te_ex P (t :: w))))) xZ' (upd xT (w.length + 1) 0) (upd xO w.length (nI (te_nx (te_ex P w) t))) xF xK' xE) : wX_explore_151 post J (te_x1 sl) (nI w.length) (nI k) (nI t) (nI (te_nx (te_ex P w) t)) 1 rc kc sc sh f1 f2 io (te_n (te_sz P)) (te_n (te_op P)) (te_n (te_pl P)) (te_n (te_am P)) (te_n (te_st P)) xS xD xZ xT xO xF xK xE := by
  have hc := te_cb_ex ok f
  have n9 : te_nx (te_ex P w) t < 9 := by
    have := ok.1 t
    unfold te_nx
    omega
  refine br_f (by decide) ⟨vp_in_nI (by omega) (by omega), ?_⟩
  rw [te_ca hS (by omega)]
  refine te_xcan ok hc n9 (fun q => br_f (by decide) ?_) (fun q => br_t rfl (nm_r (nI_1 k) (skip ?_)))
  · have en : te_en P (te_ex P w) t = true := decide_eq_true ⟨hs, q⟩
    have hg : te_g P sl w t = true := by unfold te_g; rw [en, hz]; rfl
    have d9 : w.length < 9 := by
      have := te_len9 ok (w := t :: w) ⟨f, ht, en⟩
      rw [List.length_cons] at this
      omega
    refine te_xenter ok f ht en d9 hS hD hZ hK (fun xK' hK' => ?_)
    have G := go hg
    cases sl with
    | false =>
      refine br_t rfl (nm_r (nI_1 _) (nm_r (nI_1 k) (G _ xK' ?_ ?_ ?_ hK')))
      · rw [pk_un (by omega), te_zb_f P w (t + 1) t]; exact hZ
      · exact pk_us
      · intro i hi; exact pk_un (by omega)
    | true =>
      refine br_f (by decide) ⟨vp_in_nI (by omega) (by omega), vp_in_nI (by omega) (by omega), nm_e (nm_r (nI_1 _) (nm_r (nI_1 k) (G _ xK' ?_ ?_ ?_ hK')))⟩
      · rw [nI_clamp (n := w.length) (by omega), pk_us, pk_un (by omega), hZ, show (1 : Int32) = nI 1 from rfl, te_shl (by omega) (Nat.lt_of_le_of_lt (Nat.mul_le_mul_left 1 (Nat.pow_le_pow_right (by omega) (Nat.le_of_lt ht))) (by decide)), te_or, Nat.one_mul, te_zb_go ht en]
      · rw [nI_clamp (n := w.length) (by omega), pk_un (by omega), pk_us]
      · intro i hi
        rw [nI_clamp (n := w.length) (by omega), pk_un (by omega), pk_un (by omega)]
  · unfold te_g
    rw [show te_en P (te_ex P w) t = false from decide_eq_false (fun z => q z.2)]
    rfl
theorem te_xbody (ok : te_ok P) {post : SX → Prop} {sl : Bool} {w : List Nat} {t k n : Nat} {V : List (List Nat)} (f : te_fs P w) (ht : t < 3) (hk : k < 100000) (hS : xS w.length = nI (te_ec (te_ex P w))) (hD : xD w.length = nI (te_dc (te_ex P w))) (hZ : xZ w.length = nI (te_zb P sl w t)) (hT : xT w.length = nI t) (hK : ∀ v, v < 3 → xK v = nI (te_pk P V v) ∧ te_pk P V v ≤ 7)
    (skip : te_g P sl w t = false → wX_explore_60 post (te_x1 sl) n (nI w.length) (nI (k + 1)) rc kc sc sh f1 f2 io (te_n (te_sz P)) (te_n (te_op P)) (te_n (te_pl P)) (te_n (te_am P)) (te_n (te_st P)) xS xD xZ (upd xT w.length (nI (t + 1))) xO xF xK xE)
    (go : te_g P sl w t = true → ∀ xZ' xK', xZ' w.length = nI (te_zb P sl w (t + 1)) → xZ' (w.length + 1) = nI (te_zb P sl (t :: w) 0) → (∀ i, i < w.length → xZ' i = xZ i) → (∀ v, v < 3 → xK' v = nI (te_pk P (V ++ [t :: w]) v)) → wX_explore_60 post (te_x1 sl) n (nI (w.length + 1)) (nI (k + 1)) rc kc sc sh f1 f2 io (te_n (te_sz P)) (te_n (te_op P)) (te_n (te_pl P)) (te_n (te_am P)) (te_n (te_st P)) (upd xS (w.length + 1) (nI (te_ec (te_ex P (t :: w))))) (upd xD (w.length + 1) (nI (te_dc (te_ex P (t :: w))))) xZ' (upd (upd xT w.length (nI (t + 1))) (w.length + 1) 0) (upd xO w.length (nI (te_nx (te_ex P w) t))) xF xK' xE) : wX_explore_60 post (te_x1 sl) (n + 1) (nI w.length) (nI k) rc kc sc sh f1 f2 io (te_n (te_sz P)) (te_n (te_op P)) (te_n (te_pl P)) (te_n (te_am P)) (te_n (te_st P)) xS xD xZ xT xO xF xK xE := by
  have hc := te_cb_ex ok f
  have hd := te_len9 ok f
  have hz8 := te_zb_lt P sl w t
  have eT : upd xT (nI w.length).toNatClampNeg (xT (nI w.length).toNatClampNeg + 1) = upd xT w.length (nI (t + 1)) := by
    rw [nI_clamp (n := w.length) (by omega), hT, nI_1]
  refine br_f (nI_ge (b := 100000) hk (by omega)) (br_f (nI_pos (by omega)) ⟨vp_in_nI (by omega) (by omega), nm_r (te_ca hT (by omega)) (br_f (fun z => ?_) ⟨vp_in_nI (by omega) (by omega), vp_in_nI (by omega) (by omega), nm_r eT ⟨vp_in_nI (by omega) (by omega), ?_⟩⟩)⟩)
  · exact absurd ((nI_eq (b := 3) (by omega) (by omega)).mp z) (by omega)
  · rw [te_ca hD (by omega)]
    refine te_xnext ok hc ht (fun h => br_f (nI_pos ?_) ⟨vp_in_nI (by omega) (by omega), pk_eq (if te_zz P sl w t t = true then 1 else 0) 0 (fun q => ?_) (fun q => ?_) ?_ rfl ?_ (by omega)⟩) (fun h => ?_)
    · have := ok.1 t
      unfold te_nx
      omega
    · refine te_x151 ok f ht hd hk h ?_ hS hD hZ hK skip go
      rw [← te_zz_t]
      cases zz : te_zz P sl w t t with
      | false => rfl
      | true => rw [zz, if_pos rfl] at q; omega
    · refine br_t rfl (nm_r (nI_1 k) (skip ?_))
      unfold te_g
      rw [← te_zz_t]
      cases zz : te_zz P sl w t t with
      | false => rw [zz, if_neg Bool.false_ne_true] at q; exact absurd rfl q
      | true => simp
    · rw [te_ca hZ (by omega), te_shr (by omega) (by omega), te_m1 (te_div31 _ (by omega))]
      unfold te_zb
      rw [te_bs_r _ ht]
    · split <;> omega
    · refine br_t (by decide) (br_t rfl (nm_r (nI_1 k) (skip ?_)))
      unfold te_g
      rw [show te_en P (te_ex P w) t = false from decide_eq_false (fun z => h z.1)]
      rfl
theorem te_xleave (ok : te_ok P) {post : SX → Prop} {sl : Bool} {w : List Nat} {k n : Nat} {V L : List (List Nat)} {a b : Nat} {y : Int32} (f : te_fs P w) (ha : a < 9) (hb : b < 9) (hk : k < 100000) (fm : te_fm P sl xS xD xZ xT xO w) (hS : xS w.length = nI (te_ec (te_ex P w))) (hD : xD w.length = nI (te_dc (te_ex P w))) (hT : xT w.length = 3) (ey : nI w.length + (-1) = y) (A : te_AX P V L a b rc kc sc sh io xF xK xE)
    (H : ∀ rc kc sc sh io xF xE, te_AX P V (L ++ [w].filter (te_end P)) a b rc kc sc sh io xF xK xE → wX_explore_60 post (te_x1 sl) n y (nI (k + 1)) rc kc sc sh (nI a) (nI b) io (te_n (te_sz P)) (te_n (te_op P)) (te_n (te_pl P)) (te_n (te_am P)) (te_n (te_st P)) xS xD xZ xT xO xF xK xE) : wX_explore_60 post (te_x1 sl) (n + 1) (nI w.length) (nI k) rc kc sc sh (nI a) (nI b) io (te_n (te_sz P)) (te_n (te_op P)) (te_n (te_pl P)) (te_n (te_am P)) (te_n (te_st P)) xS xD xZ xT xO xF xK xE := by
  have hd := te_len9 ok f
  refine br_f (nI_ge (b := 100000) hk (by omega)) (br_f (nI_pos (by omega)) ⟨vp_in_nI (by omega) (by omega), nm_r (te_ca hT (by omega)) (br_t rfl (te_xisend ok f (by omega) hS hD ?_))⟩)
  cases e : te_end P w with
  | false =>
    have el : L ++ [w].filter (te_end P) = L := by rw [List.filter_cons_of_neg (by rw [e]; exact Bool.false_ne_true), List.filter_nil, List.append_nil]
    rw [el] at H
    exact br_t rfl (nm_r ey (nm_r (nI_1 k) (H _ _ _ _ _ _ _ A)))
  | true =>
    have el : L ++ [w].filter (te_end P) = L ++ [w] := by rw [List.filter_cons_of_pos e, List.filter_nil]
    rw [el] at H
    exact br_f (by decide) (te_xfin ok f ha hb hS (te_fm_O ok f fm) A (fun rc kc sc sh io xF xE A' => nm_r ey (nm_r (nI_1 k) (H _ _ _ _ _ _ _ A'))))
end
def te_QX (P : te_P) (sl : Bool) (a b : Nat) (post : SX → Prop) (w : List Nat) (t : Nat) (V L : List (List Nat)) (k : Nat) : Prop :=
  ∀ (rc kc sc sh io : Int32) (xS xD xZ xT xO xF xK xE : Nat → Int32) (n : Nat), n + k = 100001 → te_vg (te_g P sl) w → te_fm P sl xS xD xZ xT xO w → xS w.length = nI (te_ec (te_ex P w)) → xD w.length = nI (te_dc (te_ex P w)) → xZ w.length = nI (te_zb P sl w t) → xT w.length = nI t → te_AX P V L a b rc kc sc sh io xF xK xE → wX_explore_60 post (te_x1 sl) n (nI w.length) (nI k) rc kc sc sh (nI a) (nI b) io (te_n (te_sz P)) (te_n (te_op P)) (te_n (te_pl P)) (te_n (te_am P)) (te_n (te_st P)) xS xD xZ xT xO xF xK xE
theorem te_AXk {P : te_P} {V L : List (List Nat)} {a b : Nat} {rc kc sc sh io : Int32} {xF xK xE xK' : Nat → Int32} {w : List Nat} (hw : ∀ v, (te_ex P w).2.1 v ≤ 7) (A : te_AX P V L a b rc kc sc sh io xF xK xE) (h : ∀ v, v < 3 → xK' v = nI (te_pk P (V ++ [w]) v)) : te_AX P (V ++ [w]) L a b rc kc sc sh io xF xK' xE := by
  obtain ⟨h1, h2, h3, h4, h5, h6, h7, h8, h9⟩ := A
  refine ⟨h1, h2, h3, h4, h5, h6, h7, fun v hv => ⟨h v hv, ?_⟩, h9⟩
  have := (h8 v hv).2
  have := hw v
  rw [te_pk_s]
  split <;> omega
theorem te_xh1 {P : te_P} (ok : te_ok P) {sl : Bool} {a b : Nat} {post : SX → Prop} (w : List Nat) (t : Nat) (V L : List (List Nat)) (k : Nat) (ht : t < 3) (hg : te_g P sl w t = true) (hk : k < 100000) (H : te_QX P sl a b post (t :: w) 0 (V ++ [t :: w]) L (k + 1)) : te_QX P sl a b post w t V L k := by
  intro rc kc sc sh io xS xD xZ xT xO xF xK xE n hn hv fm hS hD hZ hT A
  obtain ⟨m, rfl⟩ : ∃ m, n = m + 1 := ⟨n - 1, by omega⟩
  have f := te_vs_fs hv
  have hv' : te_vg (te_g P sl) (t :: w) := ⟨hv, ht, hg⟩
  have hc' := te_cb_ex ok (te_vs_fs hv')
  refine te_xbody ok f ht hk hS hD hZ hT A.2.2.2.2.2.2.2.1 (fun z => ?_) (fun _ xZ' xK' z1 z2 z3 hK' => ?_)
  · rw [hg] at z; cases z
  · refine H rc kc sc sh io _ _ _ _ _ xF xK' xE m (by omega) hv' ⟨te_fm_e ?_ fm, ?_, ?_, z1, ?_, ?_⟩ ?_ ?_ z2 ?_ (te_AXk hc'.1 A hK')
    · intro i hi
      exact ⟨pk_un (by omega), pk_un (by omega), z3 i hi, by rw [pk_un (by omega), pk_un (by omega)], pk_un (by omega)⟩
    · rw [pk_un (by omega)]; exact hS
    · rw [pk_un (by omega)]; exact hD
    · rw [pk_un (by omega), pk_us]
    · exact pk_us
    · exact pk_us
    · exact pk_us
    · exact pk_us
theorem te_xh2 {P : te_P} (ok : te_ok P) {sl : Bool} {a b : Nat} {post : SX → Prop} (w : List Nat) (t : Nat) (V L : List (List Nat)) (k : Nat) (ht : t < 3) (hg : te_g P sl w t = false) (hk : k < 100000) (H : ∀ k', k' ≤ k + 1 → te_QX P sl a b post w (t + 1) V L k') : te_QX P sl a b post w t V L k := by
  intro rc kc sc sh io xS xD xZ xT xO xF xK xE n hn hv fm hS hD hZ hT A
  obtain ⟨m, rfl⟩ : ∃ m, n = m + 1 := ⟨n - 1, by omega⟩
  have f := te_vs_fs hv
  refine te_xbody ok f ht hk hS hD hZ hT A.2.2.2.2.2.2.2.1 (fun _ => ?_) (fun z => ?_)
  · refine H (k + 1) (by omega) rc kc sc sh io xS xD xZ _ xO xF xK xE m (by omega) hv (te_fm_e ?_ fm) hS hD ?_ ?_ A
    · intro i hi
      exact ⟨rfl, rfl, rfl, pk_un (by omega), rfl⟩
    · rw [te_zb_skip hg]; exact hZ
    · exact pk_us
  · rw [hg] at z; cases z
theorem te_xh3 {P : te_P} (ok : te_ok P) {sl : Bool} {a b : Nat} {post : SX → Prop} (ha : a < 9) (hb : b < 9) (c : Nat) (w : List Nat) (V L : List (List Nat)) (k : Nat) (hk : k < 100000) (H : te_QX P sl a b post w (c + 1) V (L ++ [c :: w].filter (te_end P)) (k + 1)) : te_QX P sl a b post (c :: w) 3 V L k := by
  intro rc kc sc sh io xS xD xZ xT xO xF xK xE n hn hv fm hS hD hZ hT A
  obtain ⟨m, rfl⟩ : ∃ m, n = m + 1 := ⟨n - 1, by omega⟩
  have f := te_vs_fs hv
  refine te_xleave (y := nI w.length) ok f ha hb hk fm hS hD hT ?_ A (fun rc kc sc sh io xF xE A' => ?_)
  · rw [List.length_cons]; exact pk_m1 _
  · exact H rc kc sc sh io xS xD xZ xT xO xF xK xE m (by omega) hv.1 fm.1 fm.2.1 fm.2.2.1 fm.2.2.2.1 fm.2.2.2.2.1 A'
theorem te_xhf {P : te_P} (ok : te_ok P) {sl : Bool} {a b : Nat} {post : SX → Prop} (ha : a < 9) (hb : b < 9) (V L : List (List Nat)) (k : Nat) (hk : k < 99999) (H : ∀ rc kc sc sh io xS xD xZ xT xO xF xK xE, te_AX P V (L ++ [[]].filter (te_end P)) a b rc kc sc sh io xF xK xE → post (rc, kc, sc, sh, nI a, nI b, io, (te_n (te_sz P)), (te_n (te_op P)), (te_n (te_pl P)), (te_n (te_am P)), (te_n (te_st P)), xS, xD, xZ, xT, xO, xF, xK, xE)) : te_QX P sl a b post [] 3 V L k := by
  intro rc kc sc sh io xS xD xZ xT xO xF xK xE n hn hv fm hS hD hZ hT A
  obtain ⟨m, rfl⟩ : ∃ m, n = (m + 1) + 1 := ⟨n - 2, by omega⟩
  refine te_xleave (w := []) (y := -1) ok trivial ha hb (by omega) fm hS hD hT (by decide) A (fun rc kc sc sh io xF xE A' => ?_)
  exact br_f (nI_ge (b := 100000) (by omega) (by omega)) (br_t (by decide) (H _ _ _ _ _ _ _ _ _ _ _ _ _ A'))
theorem te_or3 : ∀ a, a < 8 → ∀ b, b < 8 → ∀ c, c < 8 → (a ||| b * 8 ||| c * 64) = a + 8 * b + 64 * c := by decide +kernel
theorem te_xexplore {P : te_P} (ok : te_ok P) (sl : Bool) {a b : Nat} {post : SX → Prop} {rc kc sc sh io : Int32} {xS xD xZ xT xO xF xK xE : Nat → Int32} (ha : a < 9) (hb : b < 9) (H : ∀ rc kc sc sh io xS xD xZ xT xO xF xK xE, te_AX P (te_V P sl) (te_L P sl) a b rc kc sc sh io xF xK xE → post (rc, kc, sc, sh, nI a, nI b, io, (te_n (te_sz P)), (te_n (te_op P)), (te_n (te_pl P)), (te_n (te_am P)), (te_n (te_st P)), xS, xD, xZ, xT, xO, xF, xK, xE)) : wpX_explore post (rc, kc, sc, sh, nI a, nI b, io, (te_n (te_sz P)), (te_n (te_op P)), (te_n (te_pl P)), (te_n (te_am P)), (te_n (te_st P)), xS, xD, xZ, xT, xO, xF, xK, xE) (te_x1 sl) := by
  have R : te_QX P sl a b post [] 0 [[]] [] 0 := te_all ok (fun w t V L k ht hg hk h => te_xh1 ok w t V L k ht hg (by omega) h) (fun w t V L k ht hg hk h => te_xh2 ok w t V L k ht hg (by omega) h) (fun c w V L k _ hk _ h => te_xh3 ok ha hb c w V L k (by omega) h) (fun V L k hk _ eV eL => te_xhf ok ha hb V L k hk (fun rc kc sc sh io xS xD xZ xT xO xF xK xE A => H _ _ _ _ _ _ _ _ _ _ _ _ _ (by rw [← eL, ← eV]; exact A)))
  have s0 := ok.2.2.2.2.2 0
  have s1 := ok.2.2.2.2.2 1
  have s2 := ok.2.2.2.2.2 2
  have e0 : (te_n (te_st P) 0 ||| (te_n (te_st P) 1 <<< ((3 : Int32) &&& 31))) ||| (te_n (te_st P) 2 <<< ((6 : Int32) &&& 31)) = nI (te_ec (te_ex P [])) := by
    show (nI (te_st P 0) ||| (nI (te_st P 1) <<< (nI 3 &&& 31))) ||| (nI (te_st P 2) <<< (nI 6 &&& 31)) = nI (te_st P 0 + 8 * te_st P 1 + 64 * te_st P 2)
    rw [te_shl (by omega) (by omega), te_shl (by omega) (by omega), te_or, te_or]
    exact congrArg nI (te_or3 _ (by omega) _ (by omega) _ (by omega))
  refine te_xclear (P := P) (rc := rc) (kc := kc) (sc := sc) (sh := sh) (io := io) (fun xF' xK' xE' hF hK hE => nm_r (congrArg (upd xS 0) e0) (nm_e (nm_e (nm_e ⟨100001, ?_⟩))))
  refine R 0 0 0 0 0 _ _ _ _ xO xF' xK' xE' 100001 rfl trivial trivial pk_us pk_us ?_ pk_us ⟨rfl, rfl, rfl, rfl, Nat.zero_le _, rfl, hF, fun v hv => ?_, hE⟩
  · refine (pk_us (f := xZ) (k := 0) (x := 0)).trans ?_
    cases sl <;> simp [te_zb, te_bs, te_zz, te_Z, nI_0]
  · have e : te_pk P [[]] v = te_st P v := by
      show (if te_st P v ≤ 0 then 0 else te_st P v) = te_st P v
      split <;> omega
    rw [e]
    exact ⟨hK v hv, ok.2.2.2.2.2 v⟩
end
section
/-! Y: the methods that only read, and act -/
def te_wh (P : te_P) (i : Nat) : Nat := 8 * te_op P i + te_pl P i
theorem te_wh_lt {P : te_P} (ok : te_ok P) (i : Nat) : te_wh P i < 48 := by
  have := ok.2.1 i
  have := ok.2.2.1 i
  unfold te_wh
  omega
theorem te_wh_o {P : te_P} (ok : te_ok P) {i : Nat} (h : i < 9) : te_n (te_wh P) (nI i).toNatClampNeg / 8 = nI (te_op P i) := by
  have := ok.2.2.1 i
  have := te_wh_lt ok i
  rw [te_na (te_wh P) (by omega), show (8 : Int32) = nI 8 from rfl, pk_div (by omega) (by omega) (by omega)]
  exact congrArg nI (by unfold te_wh; omega)
theorem te_wh_p {P : te_P} (ok : te_ok P) {i : Nat} (h : i < 9) : te_n (te_wh P) (nI i).toNatClampNeg - te_n (te_wh P) (nI i).toNatClampNeg / 8 * 8 = nI (te_pl P i) := by
  have := ok.2.2.1 i
  have := te_wh_lt ok i
  rw [te_na (te_wh P) (by omega), show (8 : Int32) = nI 8 from rfl, pk_rem (by omega) (by omega) (by omega)]
  exact congrArg nI (by unfold te_wh; omega)
/-- a number less one: -1 for none -/
def te_mi (h : Nat) : Int32 := nI h + (-1)
theorem te_mi_0 : te_mi 0 = -1 := by decide
theorem te_mi_s (n : Nat) : te_mi (n + 1) = nI n := pk_m1 n
theorem te_mi_I {n : Nat} (h : n < 2 ^ 31) : (te_mi n).toInt = (n : Int) - 1 := by
  cases n with
  | zero => rw [te_mi_0]; decide
  | succ n => rw [te_mi_s, nI_toInt (by omega)]; omega
theorem te_mi_le {a b : Nat} (ha : a < 2 ^ 31) (hb : b < 2 ^ 31) : te_mi a ≤ te_mi b ↔ a ≤ b := by
  rw [Int32.le_iff_toInt_le, te_mi_I ha, te_mi_I hb]
  omega
theorem te_mi_neg {a : Nat} (ha : a < 2 ^ 31) : te_mi a < 0 ↔ a = 0 := by
  rw [Int32.lt_iff_toInt_lt, te_mi_I ha, show (0 : Int32).toInt = 0 from by decide]
  omega
theorem te_mi_pos {a : Nat} (ha : a < 2 ^ 31) : 0 ≤ te_mi a ↔ a ≠ 0 := by
  rw [Int32.le_iff_toInt_le, te_mi_I ha, show (0 : Int32).toInt = 0 from by decide]
  omega
theorem te_mi_eq {a b : Nat} (ha : a < 2 ^ 31) (hb : b < 2 ^ 31) : te_mi a = te_mi b ↔ a = b := by
  rw [← Int32.toInt_inj, te_mi_I ha, te_mi_I hb]
  omega
/-- what replay lays down -/
def te_YC (P : te_P) (w : List Nat) (ydo yva yhe yha ypl : Nat → Int32) : Prop :=
  (∀ t, t < 3 → ydo t = nI ((te_ex P w).1 t)) ∧ (∀ v, v < 3 → yva v = nI ((te_ex P w).2.1 v)) ∧ (∀ l, l < 2 → yhe l = te_mi ((te_ex P w).2.2.1 l)) ∧ (∀ t, t < 3 → yha t = nI ((te_ex P w).2.2.2 t)) ∧ (∀ s, s < 9 → ypl s = te_mi (te_pq P w s))
theorem te_up {N k : Nat} {f : Nat → Int32} {g : Nat → Int32} {h : Nat → Nat} {x : Int32} {y : Nat} (H : ∀ i, i < N → f i = g (h i)) (e : x = g y) : ∀ i, i < N → upd f k x i = g (te_set h k y i) := by
  intro i hi
  by_cases z : i = k
  · subst z; rw [pk_us, te_set_s, e]
  · rw [pk_un z, te_set_n _ _ z]; exact H i hi
section
variable {P : te_P} {dp ru kn sh : Int32} {yro ydo yva yhe yha ypl ywo you ypk yen yea : Nat → Int32} {yke : Nat → Int64}
theorem te_ycan (ok : te_ok P) {post : Int32 → Prop} {w : List Nat} (f : te_fs P w) (C : te_YC P w ydo yva yhe yha ypl) {t : Nat} (ht : t < 3) (h : post (if te_en P (te_ex P w) t = true then 1 else 0)) : wpY_can post (dp, ru, kn, sh, (te_n (te_sz P)), (te_n (te_wh P)), (te_n (te_am P)), (te_n (te_st P)), yro, ydo, yva, yhe, yha, ypl, yke, ywo, you, ypk, yen, yea) (nI t) := by
  have hc := te_cb_ex ok f
  have hz := ok.1 t
  have hd := hc.2.2.2 t
  have e3 : (3 : Int32) * nI t + ydo (nI t).toNatClampNeg = nI (te_nx (te_ex P w) t) := by
    rw [te_ca (C.1 t ht) (by omega), show (3 : Int32) * nI t = nI (3 * t) from pk_mul 3 _, nI_add]
    rfl
  refine ⟨vp_in_nI ht (by omega), vp_in_nI ht (by omega), pk_lt ((te_ex P w).1 t) (te_sz P t) (fun q => ?_) (fun q => ?_) (te_ca (C.1 t ht) (by omega)) (te_na (te_sz P) (by omega)) (by omega) (by omega)⟩
  · have n9 : te_nx (te_ex P w) t < 9 := by unfold te_nx; omega
    have ho := ok.2.1 (te_nx (te_ex P w) t)
    refine ⟨vp_in_nI ht (by omega), nm_r e3 ⟨vp_in_nI n9 (by omega), by decide, pk_eq (te_op P (te_nx (te_ex P w) t)) 4 (fun o4 => ⟨vp_in_nI n9 (by omega), by decide, ?_⟩) (fun o4 => ?_) (te_wh_o ok n9) rfl (by omega) (by omega)⟩⟩
    · have hp := ok.2.2.2.1 (te_nx (te_ex P w) t) (by omega)
      have hh := hc.2.2.1 (te_pl P (te_nx (te_ex P w) t))
      rw [te_wh_p ok n9, te_ca (C.2.2.1 _ (by omega)) (by omega)]
      refine ⟨vp_in_nI (by omega) (by omega), br_c (fun z => ?_) (fun z => ?_)⟩
      · rw [te_mi_pos (by omega)] at z
        rw [show te_en P (te_ex P w) t = false from decide_eq_false (fun y => z (y.2 o4))] at h
        exact h
      · rw [te_mi_pos (by omega)] at z
        rw [show te_en P (te_ex P w) t = true from decide_eq_true ⟨q, fun _ => by omega⟩] at h
        exact h
    · rw [show te_en P (te_ex P w) t = true from decide_eq_true ⟨q, fun y => absurd y o4⟩] at h
      exact h
  · rw [show te_en P (te_ex P w) t = false from decide_eq_false (fun y => by omega)] at h
    exact h
theorem te_y48 (ok : te_ok P) {post : Int32 → Prop} {s u : Nat} (hs : s < 9) (hu : u < 9) (x3 z0 : Int32) (h : post (if x3 = z0 ∧ te_pl P s = te_pl P u ∧ (x3 = 0 ∨ ¬ (te_op P s = 0 ∧ te_op P u = 0)) then 1 else 0)) : wY_areTied_48 post (nI s) (nI u) x3 z0 dp ru kn sh (te_n (te_sz P)) (te_n (te_wh P)) (te_n (te_am P)) (te_n (te_st P)) yro ydo yva yhe yha ypl yke ywo you ypk yen yea := by
  have p1 := ok.2.2.1 s
  have p2 := ok.2.2.1 u
  have o1 := ok.2.1 s
  have o2 := ok.2.1 u
  refine br_c (fun a => ⟨vp_in_nI hs (by omega), by decide, vp_in_nI hu (by omega), by decide, pk_eq (te_pl P s) (te_pl P u) (fun e => br_c (fun b => ?_) (fun b => ⟨vp_in_nI hs (by omega), by decide, pk_eq (te_op P s) 0 (fun c => ⟨vp_in_nI hu (by omega), by decide, pk_eq (te_op P u) 0 (fun d => ?_) (fun d => ?_) (te_wh_o ok hu) rfl (by omega) (by omega)⟩) (fun c => ?_) (te_wh_o ok hs) rfl (by omega) (by omega)⟩)) (fun e => ?_) (te_wh_p ok hs) (te_wh_p ok hu) (by omega) (by omega)⟩) (fun a => ?_)
  · rw [if_pos ⟨a, e, Or.inl b⟩] at h; exact h
  · rw [if_neg (fun q => q.2.2.elim b (fun z => z ⟨c, d⟩))] at h; exact h
  · rw [if_pos ⟨a, e, Or.inr (fun z => d z.2)⟩] at h; exact h
  · rw [if_pos ⟨a, e, Or.inr (fun z => c z.1)⟩] at h; exact h
  · rw [if_neg (fun q => e q.2.1)] at h; exact h
  · rw [if_neg (fun q => a q.1)] at h; exact h
theorem te_y29 (ok : te_ok P) {post : Int32 → Prop} {s u : Nat} (hs : s < 9) (hu : u < 9) (x3 : Int32) (h : post (if x3 = (if te_op P u < 4 then 1 else 0) ∧ te_pl P s = te_pl P u ∧ (x3 = 0 ∨ ¬ (te_op P s = 0 ∧ te_op P u = 0)) then 1 else 0)) : wY_areTied_29 post (nI s) (nI u) x3 dp ru kn sh (te_n (te_sz P)) (te_n (te_wh P)) (te_n (te_am P)) (te_n (te_st P)) yro ydo yva yhe yha ypl yke ywo you ypk yen yea := by
  have o2 := ok.2.1 u
  refine ⟨vp_in_nI hu (by omega), by decide, pk_le 4 (te_op P u) (fun e => te_y48 ok hs hu _ _ ?_) (fun e => te_y48 ok hs hu _ _ ?_) rfl (te_wh_o ok hu) (by omega) (by omega)⟩
  · rw [if_neg (show ¬ te_op P u < 4 by omega)] at h; exact h
  · rw [if_pos e] at h; exact h
theorem te_ytied (ok : te_ok P) {post : Int32 → Prop} {s u : Nat} (hs : s < 9) (hu : u < 9) (h : post (if te_ti P s u = true then 1 else 0)) : wpY_areTied post (dp, ru, kn, sh, (te_n (te_sz P)), (te_n (te_wh P)), (te_n (te_am P)), (te_n (te_st P)), yro, ydo, yva, yhe, yha, ypl, yke, ywo, you, ypk, yen, yea) (nI s) (nI u) := by
  have o1 := ok.2.1 s
  have d3 : ∀ x, x < 9 → nI x / (3 : Int32) = nI (x / 3) := fun x hx => pk_div (d := 3) (by omega) (by omega) (by omega)
  have hi : (te_ti P s u = true) ↔ (s / 3 = u / 3 ∨ (te_pl P s = te_pl P u ∧ ((4 ≤ te_op P s ∧ 4 ≤ te_op P u) ∨ (te_op P s < 4 ∧ te_op P u < 4 ∧ ¬ (te_op P s = 0 ∧ te_op P u = 0))))) := decide_eq_true_iff
  refine ⟨by decide, by decide, pk_eq (s / 3) (u / 3) (fun e => ?_) (fun e => ⟨vp_in_nI hs (by omega), by decide, pk_le 4 (te_op P s) (fun a => te_y29 ok hs hu _ (te_pif ?_ h)) (fun a => te_y29 ok hs hu _ (te_pif ?_ h)) rfl (te_wh_o ok hs) (by omega) (by omega)⟩) (d3 s hs) (d3 u hu) (by omega) (by omega)⟩
  · rw [if_pos (hi.mpr (Or.inl e))] at h; exact h
  · rw [hi]
    by_cases b : te_op P u < 4
    · rw [if_pos b]
      exact ⟨fun q => absurd q.1 (by decide), fun q => q.elim (fun z => absurd z e) (fun z => z.2.elim (fun y => absurd y.2 (by omega)) (fun y => absurd y.1 (by omega)))⟩
    · rw [if_neg b]
      exact ⟨fun q => Or.inr ⟨q.2.1, Or.inl ⟨a, by omega⟩⟩, fun q => q.elim (fun z => absurd z e) (fun z => ⟨rfl, z.1, Or.inl rfl⟩)⟩
  · rw [hi]
    by_cases b : te_op P u < 4
    · rw [if_pos b]
      exact ⟨fun q => Or.inr ⟨q.2.1, Or.inr ⟨a, b, q.2.2.elim (fun z => absurd z (by decide)) id⟩⟩, fun q => q.elim (fun z => absurd z e) (fun z => ⟨rfl, z.1, z.2.elim (fun y => absurd y.1 (by omega)) (fun y => Or.inr y.2.2)⟩)⟩
    · rw [if_neg b]
      exact ⟨fun q => absurd q.1 (by decide), fun q => q.elim (fun z => absurd z e) (fun z => z.2.elim (fun y => absurd y.1 (by omega)) (fun y => absurd y.2.1 b))⟩
/-! act -/
theorem te_yact (ok : te_ok P) {post : SY → Prop} {w : List Nat} {t : Nat} (f : te_fs P w) (ht : t < 3) (he : te_en P (te_ex P w) t = true) (C : te_YC P w ydo yva yhe yha ypl) (H : ∀ ydo yva yhe yha ypl, te_YC P (t :: w) ydo yva yhe yha ypl → post (dp, ru, kn, sh, (te_n (te_sz P)), (te_n (te_wh P)), (te_n (te_am P)), (te_n (te_st P)), yro, ydo, yva, yhe, yha, ypl, yke, ywo, you, ypk, yen, yea)) : wpY_act post (dp, ru, kn, sh, (te_n (te_sz P)), (te_n (te_wh P)), (te_n (te_am P)), (te_n (te_st P)), yro, ydo, yva, yhe, yha, ypl, yke, ywo, you, ypk, yen, yea) (nI t) (nI w.length) := by
  have hc := te_cb_ex ok f
  have N := te_nx_i ok ht he
  have hl := te_len9 ok f
  obtain ⟨c1, c2, c3, c4, c5⟩ := C
  have e3 : (3 : Int32) * nI t + ydo (nI t).toNatClampNeg = nI (te_nx (te_ex P w) t) := by
    rw [te_ca (c1 t ht) (by omega), show (3 : Int32) * nI t = nI (3 * t) from pk_mul 3 _, nI_add]
    rfl
  have x1 : (te_ex P (t :: w)).1 = te_set (te_ex P w).1 t ((te_ex P w).1 t + 1) := rfl
  have x2 : (te_ex P (t :: w)).2.1 = te_fv (te_op P (te_nx (te_ex P w) t)) (te_pl P (te_nx (te_ex P w) t)) (te_am P (te_nx (te_ex P w) t)) t (te_ex P w).2.1 (te_ex P w).2.2.2 := rfl
  have x3 : (te_ex P (t :: w)).2.2.1 = te_fh (te_op P (te_nx (te_ex P w) t)) (te_pl P (te_nx (te_ex P w) t)) t (te_ex P w).2.2.1 := rfl
  have x4 : (te_ex P (t :: w)).2.2.2 = te_fa (te_op P (te_nx (te_ex P w) t)) (te_pl P (te_nx (te_ex P w) t)) t (te_ex P w).2.1 (te_ex P w).2.2.2 := rfl
  have en := (te_en_t he).2
  have wo := te_wh_o ok N.1
  have wp := te_wh_p ok N.1
  have hp := ok.2.2.1 (te_nx (te_ex P w) t)
  have hp1 := ok.2.2.2.1 (te_nx (te_ex P w) t)
  have ho := ok.2.1 (te_nx (te_ex P w) t)
  have ha := ok.2.2.2.2.1 (te_nx (te_ex P w) t)
  have H1 : ∀ i, i < 3 → upd ydo (nI t).toNatClampNeg (ydo (nI t).toNatClampNeg + 1) i = nI ((te_ex P (t :: w)).1 i) := by
    rw [x1, nI_clamp (n := t) (by omega)]
    exact te_up c1 (by rw [c1 t ht, nI_1])
  have H5 : ∀ i, i < 9 → upd ypl (nI (te_nx (te_ex P w) t)).toNatClampNeg (nI w.length) i = te_mi (te_pq P (t :: w) i) := by
    intro i hi
    rw [nI_clamp (by omega)]
    by_cases z : i = te_nx (te_ex P w) t
    · subst z; rw [pk_us, te_pq_s, te_mi_s]
    · rw [pk_un z, te_pq_n P z]; exact c5 i hi
  have am : te_n (te_am P) (nI (te_nx (te_ex P w) t)).toNatClampNeg = nI (te_am P (te_nx (te_ex P w) t)) := te_na (te_am P) (by omega)
  have nine : vp_in (nI (te_nx (te_ex P w) t)) 9 := vp_in_nI N.1 (by omega)
  refine ⟨vp_in_nI ht (by omega), nm_r e3 ⟨nine, by decide, nm_r wp ⟨nine, by decide, nm_r wo ⟨nine, nm_e ⟨vp_in_nI ht (by omega), vp_in_nI ht (by omega), nm_e ?_⟩⟩⟩⟩⟩
  generalize te_nx (te_ex P w) t = s at *
  have ne : ∀ o c, te_op P s = o → o ≠ c → c < 6 → ¬ nI (te_op P s) = nI c := fun o c e1 e2 e3 z => e2 (e1.symm.trans ((nI_eq (by omega) (by omega)).mp z))
  have eq : ∀ o, te_op P s = o → nI (te_op P s) = nI o := fun o e => congrArg nI e
  have p3 : vp_in (nI (te_pl P s)) 3 := vp_in_nI (by omega) (by omega)
  have t3 : vp_in (nI t) 3 := vp_in_nI ht (by omega)
  rcases (by omega : te_op P s = 0 ∨ te_op P s = 1 ∨ te_op P s = 2 ∨ te_op P s = 3 ∨ te_op P s = 4 ∨ te_op P s = 5) with o | o | o | o | o | o
  · refine br_t (eq 0 o) ⟨p3, t3, nm_e (br_f (ne 0 1 o (by omega) (by omega)) (br_f (ne 0 2 o (by omega) (by omega)) (br_f (ne 0 3 o (by omega) (by omega)) (br_f (ne 0 4 o (by omega) (by omega)) (br_f (ne 0 5 o (by omega) (by omega)) (H _ _ _ _ _ ⟨H1, ?_, ?_, ?_, H5⟩))))))⟩
    · rw [x2, te_fv_k _ _ (by omega) (by omega) (by omega)]; exact c2
    · rw [x3, te_fh_k _ (by omega) (by omega)]; exact c3
    · rw [x4, o, te_fa_0, nI_clamp (n := t) (by omega), nI_clamp (n := te_pl P s) (by omega)]
      exact te_up c4 (c2 _ (by omega))
  · refine br_f (ne 1 0 o (by omega) (by omega)) (br_t (eq 1 o) ⟨nine, p3, nm_e (br_f (ne 1 2 o (by omega) (by omega)) (br_f (ne 1 3 o (by omega) (by omega)) (br_f (ne 1 4 o (by omega) (by omega)) (br_f (ne 1 5 o (by omega) (by omega)) (H _ _ _ _ _ ⟨H1, ?_, ?_, ?_, H5⟩)))))⟩)
    · rw [x2, o, te_fv_1, nI_clamp (n := te_pl P s) (by omega)]
      exact te_up c2 am
    · rw [x3, te_fh_k _ (by omega) (by omega)]; exact c3
    · rw [x4, te_fa_k _ _ (by omega)]; exact c4
  · refine br_f (ne 2 0 o (by omega) (by omega)) (br_f (ne 2 1 o (by omega) (by omega)) (br_t (eq 2 o) ⟨t3, nine, p3, nm_e (br_f (ne 2 3 o (by omega) (by omega)) (br_f (ne 2 4 o (by omega) (by omega)) (br_f (ne 2 5 o (by omega) (by omega)) (H _ _ _ _ _ ⟨H1, ?_, ?_, ?_, H5⟩))))⟩))
    · have hv := hc.2.1 t
      rw [x2, o, te_fv_2, nI_clamp (n := te_pl P s) (by omega)]
      exact te_up c2 (by rw [am, te_ca (c4 t ht) (by omega), nI_add, te_m7 (by omega)])
    · rw [x3, te_fh_k _ (by omega) (by omega)]; exact c3
    · rw [x4, te_fa_k _ _ (by omega)]; exact c4
  · refine br_f (ne 3 0 o (by omega) (by omega)) (br_f (ne 3 1 o (by omega) (by omega)) (br_f (ne 3 2 o (by omega) (by omega)) (br_t (eq 3 o) ⟨p3, nine, p3, nm_e (br_f (ne 3 4 o (by omega) (by omega)) (br_f (ne 3 5 o (by omega) (by omega)) (H _ _ _ _ _ ⟨H1, ?_, ?_, ?_, H5⟩)))⟩)))
    · have hv := hc.1 (te_pl P s)
      rw [x2, o, te_fv_3, am, te_ca (c2 _ (by omega)) (by omega), nI_clamp (n := te_pl P s) (by omega)]
      exact te_up c2 (by rw [nI_add, te_m7 (by omega)])
    · rw [x3, te_fh_k _ (by omega) (by omega)]; exact c3
    · rw [x4, te_fa_k _ _ (by omega)]; exact c4
  · have hp1 := hp1 (by omega)
    have p2 : vp_in (nI (te_pl P s)) 2 := vp_in_nI (by omega) (by omega)
    refine br_f (ne 4 0 o (by omega) (by omega)) (br_f (ne 4 1 o (by omega) (by omega)) (br_f (ne 4 2 o (by omega) (by omega)) (br_f (ne 4 3 o (by omega) (by omega)) (br_t (eq 4 o) ⟨p2, nm_e (br_f (ne 4 5 o (by omega) (by omega)) (H _ _ _ _ _ ⟨H1, ?_, ?_, ?_, H5⟩))⟩))))
    · rw [x2, te_fv_k _ _ (by omega) (by omega) (by omega)]; exact c2
    · rw [x3, o, te_fh_4, nI_clamp (n := te_pl P s) (by omega)]
      exact te_up c3 (te_mi_s t).symm
    · rw [x4, te_fa_k _ _ (by omega)]; exact c4
  · have hp1 := hp1 (by omega)
    have p2 : vp_in (nI (te_pl P s)) 2 := vp_in_nI (by omega) (by omega)
    have hh := hc.2.2.1 (te_pl P s)
    refine br_f (ne 5 0 o (by omega) (by omega)) (br_f (ne 5 1 o (by omega) (by omega)) (br_f (ne 5 2 o (by omega) (by omega)) (br_f (ne 5 3 o (by omega) (by omega)) (br_f (ne 5 4 o (by omega) (by omega)) (br_t (eq 5 o) ⟨p2, ?_⟩)))))
    rw [te_ca (c3 _ (by omega)) (by omega)]
    refine br_c (fun q => ⟨p2, nm_e (H _ _ _ _ _ ⟨H1, ?_, ?_, ?_, H5⟩)⟩) (fun q => H _ _ _ _ _ ⟨H1, ?_, ?_, ?_, H5⟩)
    · rw [x2, te_fv_k _ _ (by omega) (by omega) (by omega)]; exact c2
    · rw [← te_mi_s t, te_mi_eq (by omega) (by omega)] at q
      rw [x3, o, te_fh_5 _ q, nI_clamp (n := te_pl P s) (by omega)]
      exact te_up c3 te_mi_0.symm
    · rw [x4, te_fa_k _ _ (by omega)]; exact c4
    · rw [x2, te_fv_k _ _ (by omega) (by omega) (by omega)]; exact c2
    · rw [← te_mi_s t, te_mi_eq (by omega) (by omega)] at q
      rw [x3, o, te_fh_6 _ q]; exact c3
    · rw [x4, te_fa_k _ _ (by omega)]; exact c4
end
end
section
/-! Y: noteValues, replay, key -/
def te_rw (yro : Nat → Int32) : List Nat → Prop
  | [] => True
  | c :: w => te_rw yro w ∧ yro w.length = nI c
section
variable {P : te_P} {dp ru kn sh : Int32} {yro ydo yva yhe yha ypl ywo you ypk yen yea : Nat → Int32} {yke : Nat → Int64}
theorem te_yn2 {post : SY → Prop} (c K K' : Nat → Nat) (hv : ∀ v, v < 3 → yva v = nI (c v) ∧ c v ≤ 7) (hK : ∀ v, v < 3 → K v ≤ 7) (hK' : ∀ v, v < 3 → K' v = if c v ≤ K v then K v else c v) (H : ∀ ypk, (∀ v, v < 3 → ypk v = nI (K' v)) → post (dp, ru, kn, sh, (te_n (te_sz P)), (te_n (te_wh P)), (te_n (te_am P)), (te_n (te_st P)), yro, ydo, yva, yhe, yha, ypl, yke, ywo, you, ypk, yen, yea)) : ∀ m j, j + m = 3 → ∀ ypk, (∀ v, v < 3 → ypk v = if v < j then nI (K' v) else nI (K v)) → wY_noteValues_2 post dp ru kn sh (m + 1) (nI j) (te_n (te_sz P)) (te_n (te_wh P)) (te_n (te_am P)) (te_n (te_st P)) yro ydo yva yhe yha ypl yke ywo you ypk yen yea := by
  intro m
  induction m with
  | zero =>
    intro j hj ypk hx
    refine br_t (nI_le (a := 3) (by omega) (by omega)) (H ypk (fun v hv => ?_))
    rw [hx v hv, if_pos (by omega)]
  | succ m ih =>
    intro j hj ypk hx
    have hj3 : j < 3 := by omega
    have hcv := (hv j hj3).2
    have hk := hK j hj3
    have ex : ypk j = nI (K j) := by rw [hx j hj3, if_neg (by omega)]
    have old : c j ≤ K j → ∀ v, v < 3 → ypk v = if v < j + 1 then nI (K' v) else nI (K v) := by
      intro q v hv3
      rw [hx v hv3]
      by_cases e : v = j
      · subst e
        rw [if_neg (by omega), if_pos (by omega), hK' v hv3, if_pos q]
      · by_cases e2 : v < j
        · rw [if_pos e2, if_pos (by omega)]
        · rw [if_neg e2, if_neg (by omega)]
    have new : ¬ c j ≤ K j → ∀ v, v < 3 → upd ypk (nI j).toNatClampNeg (yva (nI j).toNatClampNeg) v = if v < j + 1 then nI (K' v) else nI (K v) := by
      intro q v hv3
      rw [nI_clamp (n := j) (by omega)]
      by_cases e : v = j
      · subst e
        rw [pk_us, if_pos (by omega), hK' v hv3, if_neg q]
        exact (hv v hv3).1
      · rw [pk_un e, hx v hv3]
        by_cases e2 : v < j
        · rw [if_pos e2, if_pos (by omega)]
        · rw [if_neg e2, if_neg (by omega)]
    exact br_f (nI_ge (b := 3) hj3 (by omega)) ⟨vp_in_nI hj3 (by omega), vp_in_nI hj3 (by omega), pk_le (c j) (K j) (fun q => nm_r (nI_1 j) (ih (j + 1) (by omega) _ (old q))) (fun q => ⟨vp_in_nI hj3 (by omega), vp_in_nI hj3 (by omega), nm_e (nm_r (nI_1 j) (ih (j + 1) (by omega) _ (new (by omega))))⟩) (te_ca (hv j hj3).1 (by omega)) (te_ca ex (by omega)) (by omega) (by omega)⟩
theorem te_y76 (ok : te_ok P) {post : SY → Prop} {D : Nat} (hD : D ≤ 9) : ∀ w : List Nat, te_fs P w → te_rw yro w → w.length ≤ D → ∀ n, (∀ ydo yva yhe yha ypl, te_YC P w ydo yva yhe yha ypl → wY_replay_76 post n (nI w.length) (nI D) ru kn sh (te_n (te_sz P)) (te_n (te_wh P)) (te_n (te_am P)) (te_n (te_st P)) yro ydo yva yhe yha ypl yke ywo you ypk yen yea) → ∀ ydo yva yhe yha ypl, te_YC P [] ydo yva yhe yha ypl → wY_replay_76 post (n + w.length) (nI 0) (nI D) ru kn sh (te_n (te_sz P)) (te_n (te_wh P)) (te_n (te_am P)) (te_n (te_st P)) yro ydo yva yhe yha ypl yke ywo you ypk yen yea := by
  intro w
  induction w with
  | nil => intro _ _ _ n H; exact H
  | cons c v ih =>
    intro f r hl n H ydo yva yhe yha ypl C
    rw [List.length_cons] at hl H ⊢
    rw [show n + (v.length + 1) = (n + 1) + v.length by omega]
    refine ih f.1 r.1 (by omega) (n + 1) (fun ydo yva yhe yha ypl C => ?_) ydo yva yhe yha ypl C
    refine br_f (nI_ge (by omega) (by omega)) (br_f (nI_ge (b := 9) (by omega) (by omega)) ⟨vp_in_nI (by omega) (by omega), ?_⟩)
    rw [te_ca r.2 (by omega)]
    exact te_yact ok f.1 f.2.1 f.2.2 C (fun ydo yva yhe yha ypl C' => nm_r (nI_1 _) (H ydo yva yhe yha ypl C'))
theorem te_y55 {post : SY → Prop} (H : ∀ ypl, (∀ s, s < 9 → ypl s = -1) → ∃ n76 : Nat, wY_replay_76 post n76 0 dp ru kn sh (te_n (te_sz P)) (te_n (te_wh P)) (te_n (te_am P)) (te_n (te_st P)) yro ydo yva yhe yha ypl yke ywo you ypk yen yea) : ∀ m j, j + m = 9 → ∀ ypl, (∀ s, s < j → ypl s = -1) → wY_replay_55 post dp ru kn sh (m + 1) (nI j) (te_n (te_sz P)) (te_n (te_wh P)) (te_n (te_am P)) (te_n (te_st P)) yro ydo yva yhe yha ypl yke ywo you ypk yen yea := by
  intro m
  induction m with
  | zero =>
    intro j hj ypl h1
    have ej : j = 9 := by omega
    subst ej
    exact br_t (nI_le (a := 9) (by omega) (by omega)) (H ypl h1)
  | succ m ih =>
    intro j hj ypl h1
    refine br_f (nI_ge (b := 9) (by omega) (by omega)) ⟨vp_in_nI (by omega) (by omega), nm_e (nm_r (nI_1 j) (ih (j + 1) (by omega) _ (fun v hv => ?_)))⟩
    rw [nI_clamp (n := j) (by omega)]
    by_cases e : v = j
    · rw [e, pk_us]
    · rw [pk_un e]; exact h1 v (by omega)
theorem te_yr2 {post : SY → Prop} (H : ∀ ydo yva yha, (∀ t, t < 3 → ydo t = 0) → (∀ t, t < 3 → yva t = nI (te_st P t)) → (∀ t, t < 3 → yha t = 0) → ∃ n55 : Nat, wY_replay_55 post dp ru kn sh n55 0 (te_n (te_sz P)) (te_n (te_wh P)) (te_n (te_am P)) (te_n (te_st P)) yro ydo yva (upd (upd yhe 0 (-1)) 1 (-1)) yha ypl yke ywo you ypk yen yea) : ∀ m j, j + m = 3 → ∀ ydo yva yha, (∀ t, t < j → ydo t = 0) → (∀ t, t < j → yva t = nI (te_st P t)) → (∀ t, t < j → yha t = 0) → wY_replay_2 post dp ru kn sh (m + 1) (nI j) (te_n (te_sz P)) (te_n (te_wh P)) (te_n (te_am P)) (te_n (te_st P)) yro ydo yva yhe yha ypl yke ywo you ypk yen yea := by
  intro m
  induction m with
  | zero =>
    intro j hj ydo yva yha h1 h2 h3
    have ej : j = 3 := by omega
    subst ej
    exact br_t (nI_le (a := 3) (by omega) (by omega)) (nm_e (nm_e (H ydo yva yha h1 h2 h3)))
  | succ m ih =>
    intro j hj ydo yva yha h1 h2 h3
    have j3 : vp_in (nI j) 3 := vp_in_nI (by omega) (by omega)
    refine br_f (nI_ge (b := 3) (by omega) (by omega)) ⟨j3, nm_e ⟨j3, nm_e ⟨j3, j3, nm_e (nm_r (nI_1 j) (ih (j + 1) (by omega) _ _ _ (fun v hv => ?_) (fun v hv => ?_) (fun v hv => ?_)))⟩⟩⟩
    · rw [nI_clamp (n := j) (by omega)]
      by_cases e : v = j
      · rw [e, pk_us]
      · rw [pk_un e]; exact h1 v (by omega)
    · rw [nI_clamp (n := j) (by omega)]
      by_cases e : v = j
      · rw [e, pk_us]; rfl
      · rw [pk_un e]; exact h2 v (by omega)
    · rw [nI_clamp (n := j) (by omega)]
      by_cases e : v = j
      · rw [e, pk_us]
      · rw [pk_un e]; exact h3 v (by omega)
theorem te_yreplay (ok : te_ok P) {post : SY → Prop} {w : List Nat} {V : List (List Nat)} (f : te_fs P w) (hr : te_rw yro w) (hK : ∀ v, v < 3 → ypk v = nI (te_pk P V v) ∧ te_pk P V v ≤ 7) (H : ∀ ydo yva yhe yha ypl ypk, te_YC P w ydo yva yhe yha ypl → (∀ v, v < 3 → ypk v = nI (te_pk P (V ++ [w]) v)) → post (nI w.length, ru, kn, sh, (te_n (te_sz P)), (te_n (te_wh P)), (te_n (te_am P)), (te_n (te_st P)), yro, ydo, yva, yhe, yha, ypl, yke, ywo, you, ypk, yen, yea)) : wpY_replay post (nI w.length, ru, kn, sh, (te_n (te_sz P)), (te_n (te_wh P)), (te_n (te_am P)), (te_n (te_st P)), yro, ydo, yva, yhe, yha, ypl, yke, ywo, you, ypk, yen, yea) := by
  have hl := te_len9 ok f
  have hc := te_cb_ex ok f
  refine ⟨4, te_yr2 (P := P) (fun ydo yva yha h1 h2 h3 => ⟨10, te_y55 (P := P) (fun ypl h4 => ⟨1 + w.length, ?_⟩) 9 0 (by omega) ypl (fun v hv => absurd hv (Nat.not_lt_zero v))⟩) 3 0 (by omega) ydo yva yha (fun v hv => absurd hv (Nat.not_lt_zero v)) (fun v hv => absurd hv (Nat.not_lt_zero v)) (fun v hv => absurd hv (Nat.not_lt_zero v))⟩
  refine te_y76 ok hl w f hr (Nat.le_refl _) 1 (fun ydo yva yhe yha ypl C => ?_) ydo yva _ yha ypl ⟨h1, h2, ?_, h3, fun s hs => (h4 s hs).trans te_mi_0.symm⟩
  · refine br_t (nI_le (Nat.le_refl _) (by omega)) ⟨4, ?_⟩
    refine te_yn2 (P := P) (te_ex P w).2.1 (te_pk P V) (te_pk P (V ++ [w])) (fun v hv => ⟨C.2.1 v hv, hc.1 v⟩) (fun v hv => (hK v hv).2) (fun v _ => te_pk_s P V w v) (fun ypk h => H ydo yva yhe yha ypl ypk C h) 3 0 (by omega) ypk (fun v hv => ?_)
    rw [if_neg (by omega)]
    exact (hK v hv).1
  · intro l hl
    rcases (by omega : l = 0 ∨ l = 1) with e | e
    · subst e
      rw [pk_un (by omega), pk_us]
      exact te_mi_0.symm
    · subst e
      rw [pk_us]
      exact te_mi_0.symm
/-! key -/
theorem te_l1 (k : Nat) : lN k <<< ((1 : Int32).toInt64 &&& 63) = lN (2 * k) := by
  have h := wb_shl k (k := 1) (by omega)
  rw [Nat.mul_comm 2 k]
  exact h
theorem te_l2 {k : Nat} (h : k < 2 ^ 42) : lN (2 * k) ||| 1 = lN (2 * k + 1) := by
  have h := g_or (k := 1) (p := 2) (a := 1) (b := k) rfl (by omega) (by omega)
  rw [Nat.mul_comm 2 k]
  exact h
theorem te_y72 (ok : te_ok P) {post : Int64 → Prop} {J29 J38 : Int64 → Int32 → Prop} {w : List Nat} (f : te_fs P w) (C : te_YC P w ydo yva yhe yha ypl) {s u k : Nat} (hs : s < 9) (hu : u < 9) (hk : k < 2 ^ 42) (p1 : te_pq P w s ≠ 0) (p2 : te_pq P w u ≠ 0) (H : J38 (lN (2 * k + te_kb P w s u)) (nI (u + 1))) : wY_key_72 post J29 J38 (lN (2 * k)) (nI s) (nI u) 1 dp ru kn sh (te_n (te_sz P)) (te_n (te_wh P)) (te_n (te_am P)) (te_n (te_st P)) yro ydo yva yhe yha ypl yke ywo you ypk yen yea := by
  have ls := te_pq_le P w s
  have lu := te_pq_le P w u
  have hl := te_len9 ok f
  refine br_f (by decide) ⟨vp_in_nI hs (by omega), vp_in_nI hu (by omega), ?_⟩
  rw [te_ca (C.2.2.2.2 s hs) (by omega), te_ca (C.2.2.2.2 u hu) (by omega)]
  refine br_c (fun q => nm_r (nI_1 u) ?_) (fun q => te_ytied ok hs hu ?_)
  · rw [te_mi_le (by omega) (by omega)] at q
    have e : te_kb P w s u = 0 := by
      unfold te_kb te_bf
      rw [if_neg (fun z => by have := of_decide_eq_true z.1; omega)]
    rw [e] at H
    exact H
  · rw [te_mi_le (by omega) (by omega)] at q
    have b : te_bf P w s u = true := decide_eq_true (by omega)
    cases t : te_ti P s u with
    | true =>
      rw [if_pos rfl]
      have e : te_kb P w s u = 1 := by
        unfold te_kb
        rw [if_pos ⟨b, t⟩]
      rw [e] at H
      exact br_f (by decide) (nm_r (te_l2 hk) (nm_r (nI_1 u) H))
    | false =>
      rw [if_neg Bool.false_ne_true]
      have e : te_kb P w s u = 0 := by
        unfold te_kb
        rw [t, if_neg (fun z => by cases z.2)]
      rw [e] at H
      exact br_t rfl (nm_r (nI_1 u) H)
theorem te_y38 (ok : te_ok P) {post : Int64 → Prop} {J29 : Int64 → Int32 → Prop} {w : List Nat} (f : te_fs P w) (C : te_YC P w ydo yva yhe yha ypl) {s : Nat} (hs : s < 9) (H : J29 (lN (te_ki P w s (te_ko P w s) s)) (nI (s + 1))) : ∀ m u, u + m = s → wY_key_38 post J29 (nI s) dp ru kn sh (te_n (te_sz P)) (te_n (te_wh P)) (te_n (te_am P)) (te_n (te_st P)) yro ydo yva yhe yha ypl yke ywo you ypk yen yea (m + 1) (lN (te_ki P w s (te_ko P w s) u)) (nI u) := by
  have hl := te_len9 ok f
  intro m
  induction m with
  | zero =>
    intro u hu
    have e : u = s := by omega
    subst e
    exact br_t (nI_le (Nat.le_refl _) (by omega)) (nm_r (nI_1 u) H)
  | succ m ih =>
    intro u hu
    have I := ih (u + 1) (by omega)
    rw [te_ki] at I
    have hk := te_ki_lt ok f (s := s) (u := u) hs (by omega)
    have ls := te_pq_le P w s
    have lu := te_pq_le P w u
    have zs : te_pq P w s = 0 → te_kb P w s u = 0 := by
      intro z
      unfold te_kb te_bf
      rw [if_neg (fun q => by have := of_decide_eq_true q.1; omega)]
    have zu : te_pq P w u = 0 → te_kb P w s u = 0 := by
      intro z
      unfold te_kb te_bf
      rw [if_neg (fun q => by have := of_decide_eq_true q.1; omega)]
    refine br_f (nI_ge (by omega) (by omega)) (nm_r (te_l1 _) ⟨vp_in_nI hs (by omega), br_c (fun q => br_t rfl (nm_r (nI_1 u) ?_)) (fun q => ⟨vp_in_nI (by omega) (by omega), br_c (fun r => br_t rfl (nm_r (nI_1 u) ?_)) (fun r => te_y72 ok f C hs (by omega) hk ?_ ?_ I)⟩)⟩)
    · rw [te_ca (C.2.2.2.2 s hs) (by omega), te_mi_neg (by omega)] at q
      rw [zs q, Nat.add_zero] at I
      exact I
    · rw [te_ca (C.2.2.2.2 u (by omega)) (by omega), te_mi_neg (by omega)] at r
      rw [zu r, Nat.add_zero] at I
      exact I
    · rw [te_ca (C.2.2.2.2 s hs) (by omega), te_mi_neg (by omega)] at q
      exact q
    · rw [te_ca (C.2.2.2.2 u (by omega)) (by omega), te_mi_neg (by omega)] at r
      exact r
theorem te_y29k (ok : te_ok P) {post : Int64 → Prop} {w : List Nat} (f : te_fs P w) (C : te_YC P w ydo yva yhe yha ypl) (H : post (lN (te_ky P w))) : ∀ m s, s + m = 9 → wY_key_29 post dp ru kn sh (te_n (te_sz P)) (te_n (te_wh P)) (te_n (te_am P)) (te_n (te_st P)) yro ydo yva yhe yha ypl yke ywo you ypk yen yea (m + 1) (lN (te_ko P w s)) (nI s) := by
  intro m
  induction m with
  | zero =>
    intro s hs
    have e : s = 9 := by omega
    subst e
    exact br_t (nI_le (a := 9) (by omega) (by omega)) H
  | succ m ih =>
    intro s hs
    have I := ih (s + 1) (by omega)
    rw [te_ko] at I
    exact br_f (nI_ge (b := 9) (by omega) (by omega)) ⟨s + 1, te_y38 ok f C (by omega) I s 0 (by omega)⟩
theorem te_ykey (ok : te_ok P) {post : Int64 → Prop} {w : List Nat} (f : te_fs P w) (C : te_YC P w ydo yva yhe yha ypl) (H : post (lN (te_ky P w))) : wpY_key post (dp, ru, kn, sh, (te_n (te_sz P)), (te_n (te_wh P)), (te_n (te_am P)), (te_n (te_st P)), yro, ydo, yva, yhe, yha, ypl, yke, ywo, you, ypk, yen, yea) := by
  have hc := te_cb_ex ok f
  have d0 := hc.2.2.2 0
  have d1 := hc.2.2.2 1
  have d2 := hc.2.2.2 2
  refine nm_r (e' := lN (te_ko P w 0)) ?_ ⟨10, te_y29k ok f C H 9 0 (by omega)⟩
  rw [C.1 0 (by omega), C.1 1 (by omega), C.1 2 (by omega), show (4 : Int32) = nI 4 from rfl, show (16 : Int32) = nI 16 from rfl, pk_mul, pk_mul, nI_add, nI_add, nI_l (by omega)]
  rfl
end
end
section
/-! Y: finish and notice -/
def te_AD (P : te_P) (D : List (List Nat)) (kn : Int32) (yke : Nat → Int64) (ywo you : Nat → Int32) : Prop :=
  kn = nI D.length ∧ ∀ i d, D[i]? = some d → yke i = lN (te_ky P d) ∧ ywo i = (if te_cm P d = true then 1 else 0) ∧ you i = nI (te_res P d)
def te_AY (P : te_P) (V L : List (List Nat)) (ru kn sh : Int32) (yke : Nat → Int64) (ywo you ypk yen yea : Nat → Int32) : Prop :=
  ru = nI L.length ∧ te_AD P (te_dd P L) kn yke ywo you ∧ sh = nI (te_mn P L) ∧ te_mn P L ≤ 9 ∧ (∀ v, v < 3 → ypk v = nI (te_pk P V v) ∧ te_pk P V v ≤ 7) ∧ (∀ t, t < 3 → yen t = nI (te_es P L t)) ∧ (∀ s u, s < 9 → u < 9 → yea (9 * s + u) = if te_ea P L s u = true then 1 else 0)
theorem te_ea1 (P : te_P) (L : List (List Nat)) (w : List Nat) (s u : Nat) : te_ea P (L ++ [w]) s u = (te_ea P L s u || (te_cm P w && te_bf P w s u)) := by
  unfold te_ea
  rw [List.any_append]
  simp only [List.any_cons, List.any_nil, Bool.or_false]
section
variable {P : te_P} {dp ru kn sh : Int32} {yro ydo yva yhe yha ypl ywo you ypk yen yea : Nat → Int32} {yke : Nat → Int64}
theorem te_yf40 (ok : te_ok P) {post : SY → Prop} {J : Int32 → (Nat → Int32) → (Nat → Int32) → (Nat → Int32) → (Nat → Int32) → (Nat → Int32) → (Nat → Int32) → (Nat → Int32) → (Nat → Int32) → (Nat → Int32) → (Nat → Int32) → (Nat → Int64) → (Nat → Int32) → (Nat → Int32) → (Nat → Int32) → (Nat → Int32) → (Nat → Int32) → Prop} {w : List Nat} (f : te_fs P w) (C : te_YC P w ydo yva yhe yha ypl) (N O : Nat → Nat → Int32) (hN : ∀ s u, N s u = if te_bf P w s u = true then 1 else O s u) {s : Nat} (hs : s < 9) (H : ∀ yea, (∀ a b, a < 9 → b < 9 → yea (9 * a + b) = if a < s + 1 then N a b else O a b) → J (nI (s + 1)) (te_n (te_sz P)) (te_n (te_wh P)) (te_n (te_am P)) (te_n (te_st P)) yro ydo yva yhe yha ypl yke ywo you ypk yen yea) : ∀ m u, u + m = 9 → ∀ yea, (∀ a b, a < 9 → b < 9 → yea (9 * a + b) = if a < s ∨ (a = s ∧ b < u) then N a b else O a b) → wY_finish_40 post J (nI s) dp ru kn sh (m + 1) (nI u) (te_n (te_sz P)) (te_n (te_wh P)) (te_n (te_am P)) (te_n (te_st P)) yro ydo yva yhe yha ypl yke ywo you ypk yen yea := by
  have hl := te_len9 ok f
  intro m
  induction m with
  | zero =>
    intro u hu yea h
    refine br_t (nI_le (a := 9) (by omega) (by omega)) (nm_r (nI_1 s) (H yea (fun a b ha hb => ?_)))
    rw [h a b ha hb]
    by_cases e : a < s + 1
    · rw [if_pos (by omega), if_pos e]
    · rw [if_neg (by omega), if_neg e]
  | succ m ih =>
    intro u hu yea h
    have hu9 : u < 9 := by omega
    have ls := te_pq_le P w s
    have lu := te_pq_le P w u
    have es := te_ca (C.2.2.2.2 s hs) (show s < 2 ^ 31 by omega)
    have eu := te_ca (C.2.2.2.2 u hu9) (show u < 2 ^ 31 by omega)
    have old : te_bf P w s u = false → ∀ a b, a < 9 → b < 9 → yea (9 * a + b) = if a < s ∨ (a = s ∧ b < u + 1) then N a b else O a b := by
      intro q a b ha hb
      rw [h a b ha hb]
      by_cases e : a = s ∧ b = u
      · obtain ⟨e1, e2⟩ := e
        subst e1
        subst e2
        rw [if_neg (by omega), if_pos (by omega), hN, q, if_neg Bool.false_ne_true]
      · by_cases e2 : a < s ∨ (a = s ∧ b < u)
        · rw [if_pos e2, if_pos (by omega)]
        · rw [if_neg e2, if_neg (by omega)]
    have no : te_bf P w s u = false → wY_finish_40 post J (nI s) dp ru kn sh (m + 1) (nI (u + 1)) (te_n (te_sz P)) (te_n (te_wh P)) (te_n (te_am P)) (te_n (te_st P)) yro ydo yva yhe yha ypl yke ywo you ypk yen yea := fun q => ih (u + 1) (by omega) yea (old q)
    refine br_f (nI_ge (b := 9) hu9 (by omega)) ⟨vp_in_nI hs (by omega), br_c (fun q => nm_r (nI_1 u) (no ?_)) (fun q => ⟨vp_in_nI hu9 (by omega), br_c (fun r => nm_r (nI_1 u) (no ?_)) (fun r => ⟨vp_in_nI hs (by omega), vp_in_nI hu9 (by omega), br_c (fun z => nm_r (nI_1 u) (no ?_)) (fun z => ⟨?_, nm_e (nm_r (nI_1 u) (ih (u + 1) (by omega) _ ?_))⟩)⟩)⟩)⟩
    · rw [es, te_mi_neg (by omega)] at q
      exact decide_eq_false (by omega)
    · rw [eu, te_mi_neg (by omega)] at r
      exact decide_eq_false (by omega)
    · rw [es, eu, te_mi_le (by omega) (by omega)] at z
      exact decide_eq_false (by omega)
    · rw [show (9 : Int32) = nI 9 from rfl, pk_mul, nI_add]
      exact vp_in_nI (by omega) (by omega)
    · rw [es, te_mi_neg (by omega)] at q
      rw [es, eu, te_mi_le (by omega) (by omega)] at z
      have bt : te_bf P w s u = true := decide_eq_true (by omega)
      rw [show (9 : Int32) = nI 9 from rfl, pk_mul, nI_add, nI_clamp (n := 9 * s + u) (by omega)]
      intro a b ha hb
      by_cases e : a = s ∧ b = u
      · obtain ⟨e1, e2⟩ := e
        subst e1
        subst e2
        rw [pk_us, if_pos (by omega), hN, bt, if_pos rfl]
        rfl
      · rw [pk_un (by omega), h a b ha hb]
        by_cases e2 : a < s ∨ (a = s ∧ b < u)
        · rw [if_pos e2, if_pos (by omega)]
        · rw [if_neg e2, if_neg (by omega)]
theorem te_yf32 (ok : te_ok P) {post : SY → Prop} {w : List Nat} (f : te_fs P w) (C : te_YC P w ydo yva yhe yha ypl) (N O : Nat → Nat → Int32) (hN : ∀ s u, N s u = if te_bf P w s u = true then 1 else O s u) (H : ∀ yea, (∀ a b, a < 9 → b < 9 → yea (9 * a + b) = N a b) → post (dp, ru, kn, sh, (te_n (te_sz P)), (te_n (te_wh P)), (te_n (te_am P)), (te_n (te_st P)), yro, ydo, yva, yhe, yha, ypl, yke, ywo, you, ypk, yen, yea)) : ∀ m s, s + m = 9 → ∀ yea, (∀ a b, a < 9 → b < 9 → yea (9 * a + b) = if a < s then N a b else O a b) → wY_finish_32 post dp ru kn sh (m + 1) (nI s) (te_n (te_sz P)) (te_n (te_wh P)) (te_n (te_am P)) (te_n (te_st P)) yro ydo yva yhe yha ypl yke ywo you ypk yen yea := by
  intro m
  induction m with
  | zero =>
    intro s hs yea h
    refine br_t (nI_le (a := 9) (by omega) (by omega)) (H yea (fun a b ha hb => ?_))
    rw [h a b ha hb, if_pos (by omega)]
  | succ m ih =>
    intro s hs yea h
    refine br_f (nI_ge (b := 9) (by omega) (by omega)) ⟨10, te_yf40 ok f C N O hN (s := s) (by omega) (fun yea h' => ih (s + 1) (by omega) yea h') 9 0 (by omega) yea (fun a b ha hb => ?_)⟩
    rw [h a b ha hb]
    by_cases e : a < s
    · rw [if_pos e, if_pos (Or.inl e)]
    · rw [if_neg e, if_neg (by omega)]
theorem te_yf2 (ok : te_ok P) {post : SY → Prop} {w : List Nat} (f : te_fs P w) (C : te_YC P w ydo yva yhe yha ypl) (E : Nat → Nat) (H : ∀ yen, (∀ t, t < 3 → yen t = nI (E t ||| 2 ^ (te_ex P w).2.2.2 t)) → ∃ n32 : Nat, wY_finish_32 post dp ru kn sh n32 0 (te_n (te_sz P)) (te_n (te_wh P)) (te_n (te_am P)) (te_n (te_st P)) yro ydo yva yhe yha ypl yke ywo you ypk yen yea) : ∀ m j, j + m = 3 → ∀ yen, (∀ t, t < 3 → yen t = if t < j then nI (E t ||| 2 ^ (te_ex P w).2.2.2 t) else nI (E t)) → wY_finish_2 post dp ru kn sh (m + 1) (nI j) (te_n (te_sz P)) (te_n (te_wh P)) (te_n (te_am P)) (te_n (te_st P)) yro ydo yva yhe yha ypl yke ywo you ypk yen yea := by
  have hc := te_cb_ex ok f
  intro m
  induction m with
  | zero =>
    intro j hj yen hE
    refine br_t (nI_le (a := 3) (by omega) (by omega)) (H yen (fun t ht => ?_))
    rw [hE t ht, if_pos (by omega)]
  | succ m ih =>
    intro j hj yen hE
    have hj3 : j < 3 := by omega
    have j3 : vp_in (nI j) 3 := vp_in_nI hj3 (by omega)
    refine br_f (nI_ge (b := 3) (by omega) (by omega)) ⟨j3, j3, j3, nm_e (nm_r (nI_1 j) (ih (j + 1) (by omega) _ (fun t ht => ?_)))⟩
    rw [te_ca (C.2.2.2.1 j hj3) (by omega), nI_clamp (n := j) (by omega)]
    by_cases e : t = j
    · subst e
      have hac := hc.2.1 t
      rw [pk_us, if_pos (by omega), hE t ht, if_neg (by omega), te_sh1 (by omega), te_or]
    · rw [pk_un e, hE t ht]
      by_cases e2 : t < j
      · rw [if_pos e2, if_pos (by omega)]
      · rw [if_neg e2, if_neg (by omega)]
theorem te_yfin (ok : te_ok P) {post : SY → Prop} {w : List Nat} {L : List (List Nat)} (f : te_fs P w) (C : te_YC P w ydo yva yhe yha ypl) (hc : te_cm P w = true) (h1 : ∀ t, t < 3 → yen t = nI (te_es P L t)) (h2 : ∀ s u, s < 9 → u < 9 → yea (9 * s + u) = if te_ea P L s u = true then 1 else 0) (H : ∀ yen yea, (∀ t, t < 3 → yen t = nI (te_es P (L ++ [w]) t)) → (∀ s u, s < 9 → u < 9 → yea (9 * s + u) = if te_ea P (L ++ [w]) s u = true then 1 else 0) → post (dp, ru, kn, sh, (te_n (te_sz P)), (te_n (te_wh P)), (te_n (te_am P)), (te_n (te_st P)), yro, ydo, yva, yhe, yha, ypl, yke, ywo, you, ypk, yen, yea)) : wpY_finish post (dp, ru, kn, sh, (te_n (te_sz P)), (te_n (te_wh P)), (te_n (te_am P)), (te_n (te_st P)), yro, ydo, yva, yhe, yha, ypl, yke, ywo, you, ypk, yen, yea) := by
  refine ⟨4, te_yf2 ok f C (te_es P L) (fun yen hE => ⟨10, te_yf32 ok f C (fun s u => if te_ea P (L ++ [w]) s u = true then 1 else 0) (fun s u => if te_ea P L s u = true then 1 else 0) (fun s u => ?_) (fun yea hA => H yen yea (fun t ht => ?_) hA) 9 0 (by omega) yea (fun a b ha hb => ?_)⟩) 3 0 (by omega) yen (fun t ht => ?_)⟩
  · show (if te_ea P (L ++ [w]) s u = true then (1 : Int32) else 0) = if te_bf P w s u = true then 1 else (if te_ea P L s u = true then 1 else 0)
    rw [te_ea1, hc, Bool.true_and]
    cases te_ea P L s u <;> cases te_bf P w s u <;> rfl
  · rw [hE t ht, te_es_s, if_pos hc]
  · rw [if_neg (by omega)]
    exact h2 a b ha hb
  · rw [if_neg (by omega)]
    exact h1 t ht
/-! notice -/
theorem te_AYd {V L : List (List Nat)} {w : List Nat} (hw : w.length ≤ 9) (hc : te_cm P w = false) (A : te_AY P V L ru kn sh yke ywo you ypk yen yea) {kn' : Int32} {yke' : Nat → Int64} {ywo' you' : Nat → Int32} (D : te_AD P (te_dd P (L ++ [w])) kn' yke' ywo' you') : te_AY P V (L ++ [w]) (ru + 1) kn' (nI (te_mn P (L ++ [w]))) yke' ywo' you' ypk yen yea := by
  obtain ⟨a1, a2, a3, a4, a5, a6, a7⟩ := A
  refine ⟨by rw [a1]; exact te_len1 L w, D, rfl, te_mn9 a4 hw, a5, ?_, ?_⟩
  · intro t ht
    rw [a6 t ht, te_es_s, hc, if_neg Bool.false_ne_true]
  · intro s u hs hu
    rw [a7 s u hs hu, te_ea1, hc, Bool.false_and, Bool.or_false]
theorem te_y158 (ok : te_ok P) {post : SY → Prop} {V L : List (List Nat)} {w : List Nat} (f : te_fs P w) (C : te_YC P w ydo yva yhe yha ypl) (A : te_AY P V L ru kn sh yke ywo you ypk yen yea) (H : ∀ ru kn sh yke ywo you yen yea, te_AY P V (L ++ [w]) ru kn sh yke ywo you ypk yen yea → post (nI w.length, ru, kn, sh, (te_n (te_sz P)), (te_n (te_wh P)), (te_n (te_am P)), (te_n (te_st P)), yro, ydo, yva, yhe, yha, ypl, yke, ywo, you, ypk, yen, yea)) {kn' : Int32} {yke' : Nat → Int64} {ywo' you' : Nat → Int32} (D : te_AD P (te_dd P (L ++ [w])) kn' yke' ywo' you') : wY_notice_158 post (if te_cm P w = true then 1 else 0) (nI w.length) (ru + 1) kn' sh (te_n (te_sz P)) (te_n (te_wh P)) (te_n (te_am P)) (te_n (te_st P)) yro ydo yva yhe yha ypl yke' ywo' you' ypk yen yea := by
  have hw := te_len9 ok f
  have a3 := A.2.2.1
  have a4 := A.2.2.2.1
  cases hc : te_cm P w with
  | true =>
    rw [if_pos rfl]
    have em : te_mn P (L ++ [w]) = te_mn P L := by rw [te_mn_s, if_pos hc]
    refine br_f (by decide) (br_f (by decide) (te_yfin ok f C hc A.2.2.2.2.2.1 A.2.2.2.2.2.2 (fun yen yea h1 h2 => H _ _ _ _ _ _ _ _ ⟨?_, D, ?_, ?_, A.2.2.2.2.1, h1, h2⟩)))
    · rw [A.1]; exact te_len1 L w
    · rw [em]; exact a3
    · rw [em]; exact a4
  | false =>
    rw [if_neg Bool.false_ne_true]
    have AA := te_AYd hw hc A D
    rw [te_mn_s, hc, if_neg Bool.false_ne_true] at AA
    refine br_t rfl (pk_eq (te_mn P L) 0 (fun q => br_t rfl ?_) (fun q => pk_le (te_mn P L) w.length (fun q2 => br_t rfl ?_) (fun q2 => br_t rfl ?_) a3 rfl (by omega) (by omega)) a3 rfl (by omega) (by omega))
    · rw [if_pos (Or.inl q)] at AA
      exact H _ _ _ _ _ _ _ _ AA
    · rw [if_neg (by omega), ← a3] at AA
      exact H _ _ _ _ _ _ _ _ AA
    · rw [if_pos (Or.inr q2)] at AA
      exact H _ _ _ _ _ _ _ _ AA
theorem te_y103 (ok : te_ok P) {post : SY → Prop} {V L : List (List Nat)} {w : List Nat} (f : te_fs P w) (C : te_YC P w ydo yva yhe yha ypl) (hL : L.length < 1700) (A : te_AY P V L ru kn sh yke ywo you ypk yen yea) (H : ∀ ru kn sh yke ywo you yen yea, te_AY P V (L ++ [w]) ru kn sh yke ywo you ypk yen yea → post (nI w.length, ru, kn, sh, (te_n (te_sz P)), (te_n (te_wh P)), (te_n (te_am P)), (te_n (te_st P)), yro, ydo, yva, yhe, yha, ypl, yke, ywo, you, ypk, yen, yea)) : wY_notice_103 post (if te_cm P w = true then 1 else 0) (nI (te_res P w)) (lN (te_ky P w)) (if (te_dd P L).any (fun d => decide (te_ky P d = te_ky P w)) = true then 0 else 1) (nI w.length) (ru + 1) kn sh (te_n (te_sz P)) (te_n (te_wh P)) (te_n (te_am P)) (te_n (te_st P)) yro ydo yva yhe yha ypl yke ywo you ypk yen yea := by
  have hD := (te_dd_p P L).2.2.2
  have a2 := A.2.1
  have S := te_dd_s P L w
  unfold te_ds at S
  by_cases q : (te_dd P L).any (fun d => decide (te_ky P d = te_ky P w)) = true
  · rw [if_pos q] at S ⊢
    refine br_t rfl (te_y158 ok f C A H ?_)
    rw [S]
    exact a2
  · rw [if_neg q] at S ⊢
    have kin : vp_in kn 1700 := by rw [a2.1]; exact vp_in_nI (by omega) (by omega)
    refine br_f (by decide) (pk_le 1700 (te_dd P L).length (fun z => absurd z (by omega)) (fun _ => ⟨kin, nm_e ⟨kin, nm_e ⟨kin, nm_e (nm_e (te_y158 ok f C A H ?_))⟩⟩⟩) rfl a2.1 (by omega) (by omega))
    rw [S, a2.1, nI_clamp (by omega)]
    refine ⟨te_len1 _ w, fun i d hd => ?_⟩
    by_cases e : i = (te_dd P L).length
    · subst e
      rw [List.getElem?_append_right (Nat.le_refl _), Nat.sub_self] at hd
      have ed : w = d := Option.some.inj hd
      subst ed
      rw [pk_uLs, pk_us, pk_us]
      refine ⟨rfl, ?_, rfl⟩
      cases te_cm P w <;> rfl
    · have hi : i < (te_dd P L).length := by
        rcases Nat.lt_or_ge i (te_dd P L).length with z | z
        · exact z
        · rw [List.getElem?_append_right z, List.getElem?_eq_none (by rw [List.length_singleton]; omega)] at hd
          cases hd
      rw [List.getElem?_append_left hi] at hd
      rw [pk_uLn e, pk_un e, pk_un e]
      exact a2.2 i d hd
theorem te_y65 {post : SY → Prop} {D : List (List Nat)} {w : List Nat} (ok : te_ok P) (f : te_fs P w) (fD : ∀ d, d ∈ D → te_fs P d) (hD : D.length < 1700) (A : te_AD P D kn yke ywo you) (x1 x2 : Int32) (H : wY_notice_103 post x1 x2 (lN (te_ky P w)) (if D.any (fun d => decide (te_ky P d = te_ky P w)) = true then 0 else 1) dp ru kn sh (te_n (te_sz P)) (te_n (te_wh P)) (te_n (te_am P)) (te_n (te_st P)) yro ydo yva yhe yha ypl yke ywo you ypk yen yea) : ∀ m i, i + m = D.length → wY_notice_65 post x1 x2 (lN (te_ky P w)) dp ru kn sh (te_n (te_sz P)) (te_n (te_wh P)) (te_n (te_am P)) (te_n (te_st P)) yro ydo yva yhe yha ypl yke ywo you ypk yen yea (m + 1) (if (D.take i).any (fun d => decide (te_ky P d = te_ky P w)) = true then 0 else 1) (nI i) := by
  have ekn := A.1
  have kw := te_ky_lt ok f
  intro m
  induction m with
  | zero =>
    intro i hi
    have e : i = D.length := by omega
    subst e
    rw [List.take_length]
    refine br_t ?_ H
    rw [ekn]
    exact nI_le (Nat.le_refl _) (by omega)
  | succ m ih =>
    intro i hi
    have hlt : i < D.length := by omega
    have I := ih (i + 1) (by omega)
    have eg : D[i]? = some D[i] := List.getElem?_eq_getElem hlt
    have a := (A.2 i D[i] eg).1
    have kd := te_ky_lt ok (fD D[i] (List.getElem_mem hlt))
    rw [List.take_add_one, eg, Option.toList_some, List.any_append] at I
    have key : yke (nI i).toNatClampNeg = lN (te_ky P D[i]) := by rw [nI_clamp (by omega)]; exact a
    refine br_f (by rw [ekn]; exact nI_ge hlt (by omega)) (br_f (nI_ge (b := 1700) (by omega) (by omega)) ⟨vp_in_nI (by omega) (by omega), br_c (fun q => nm_r (nI_1 i) ?_) (fun q => nm_r (nI_1 i) ?_)⟩)
    · rw [key, pk_lEQ (by omega) (by omega)] at q
      simp only [List.any_cons, List.any_nil, q, decide_true, Bool.or_true, Bool.true_or, if_true] at I
      exact I
    · rw [key, pk_lEQ (by omega) (by omega)] at q
      simp only [List.any_cons, List.any_nil, q, decide_false, Bool.or_false] at I
      exact I
theorem te_ynotice (ok : te_ok P) {post : SY → Prop} {V L : List (List Nat)} {w : List Nat} (f : te_fs P w) (fL : ∀ d, d ∈ L → te_fs P d) (C : te_YC P w ydo yva yhe yha ypl) (hL : L.length < 1700) (A : te_AY P V L ru kn sh yke ywo you ypk yen yea) (H : ∀ ru kn sh yke ywo you yen yea, te_AY P V (L ++ [w]) ru kn sh yke ywo you ypk yen yea → post (nI w.length, ru, kn, sh, (te_n (te_sz P)), (te_n (te_wh P)), (te_n (te_am P)), (te_n (te_st P)), yro, ydo, yva, yhe, yha, ypl, yke, ywo, you, ypk, yen, yea)) : wpY_notice post (nI w.length, ru, kn, sh, (te_n (te_sz P)), (te_n (te_wh P)), (te_n (te_am P)), (te_n (te_st P)), yro, ydo, yva, yhe, yha, ypl, yke, ywo, you, ypk, yen, yea) := by
  have hw := te_len9 ok f
  have hc := te_cb_ex ok f
  have z0 := ok.1 0
  have z1 := ok.1 1
  have z2 := ok.1 2
  have dp := te_dd_p P L
  have et : te_n (te_sz P) 0 + te_n (te_sz P) 1 + te_n (te_sz P) 2 = nI (te_sz P 0 + te_sz P 1 + te_sz P 2) := by
    show nI (te_sz P 0) + nI (te_sz P 1) + nI (te_sz P 2) = _
    rw [nI_add, nI_add]
  have er : 64 * yva 0 + 8 * yva 1 + yva 2 = nI (te_res P w) := by
    rw [C.2.1 0 (by omega), C.2.1 1 (by omega), C.2.1 2 (by omega), show (64 : Int32) = nI 64 from rfl, show (8 : Int32) = nI 8 from rfl, pk_mul, pk_mul, nI_add, nI_add]
    rfl
  have R := te_y103 (P := P) (post := post) ok f C hL A H
  have go : ∀ z : Int32, z = (if te_cm P w = true then 1 else 0) → wY_notice_26 post z (nI w.length) (ru + 1) kn sh (te_n (te_sz P)) (te_n (te_wh P)) (te_n (te_am P)) (te_n (te_st P)) yro ydo yva yhe yha ypl yke ywo you ypk yen yea := by
    intro z ez
    subst ez
    exact nm_r er (te_ykey ok f C ⟨(te_dd P L).length + 1, te_y65 (P := P) (D := te_dd P L) ok f (fun d hd => fL d (dp.2.1 d hd)) (by omega) A.2.1 _ _ R (te_dd P L).length 0 (by omega)⟩)
  refine nm_e (pk_eq w.length (te_sz P 0 + te_sz P 1 + te_sz P 2) (fun e => go _ ?_) (fun e => go _ ?_) rfl et (by omega) (by omega))
  · rw [show te_cm P w = true from decide_eq_true e, if_pos rfl]
  · rw [show te_cm P w = false from decide_eq_false e, if_neg Bool.false_ne_true]
end
end
section
/-! Y: the search -/
section
variable {P : te_P} {dp ru kn sh : Int32} {yro ydo yva yhe yha ypl ywo you ypk yen yea : Nat → Int32} {yke : Nat → Int64}
def te_yct (P : te_P) (post : SY → Prop) (n : Nat) (x1 x2 x3 dp ru kn sh : Int32) (yro ydo yva yhe yha ypl : Nat → Int32) (yke : Nat → Int64) (ywo you ypk yen yea : Nat → Int32) : Int32 → Prop := fun r_26 => (((3 ≤ r_26 → (wY_explore_136 post (wY_explore_74 post n) x1 x3 dp ru kn sh (te_n (te_sz P)) (te_n (te_wh P)) (te_n (te_am P)) (te_n (te_st P)) yro ydo yva yhe yha ypl yke ywo you ypk yen yea)) ∧ (¬ 3 ≤ r_26 → (((9 ≤ dp → (wY_explore_136 post (wY_explore_74 post n) x1 x3 dp ru kn sh (te_n (te_sz P)) (te_n (te_wh P)) (te_n (te_am P)) (te_n (te_st P)) yro ydo yva yhe yha ypl yke ywo you ypk yen yea)) ∧ (¬ 9 ≤ dp → (vp_in dp 10 ∧ ∀ a_row_100 : Nat → Int32, a_row_100 = upd yro dp.toNatClampNeg r_26 → (∀ f_depth_101 : Int32, f_depth_101 = dp + 1 → (∀ x3_102 : Int32, x3_102 = x3 + 1 → (wY_explore_74 post n 0 x2 x3_102 f_depth_101 ru kn sh (te_n (te_sz P)) (te_n (te_wh P)) (te_n (te_am P)) (te_n (te_st P)) a_row_100 ydo yva yhe yha ypl yke ywo you ypk yen yea))))))))))
def te_QY (P : te_P) (post : SY → Prop) (w : List Nat) (t : Nat) (V L : List (List Nat)) (k : Nat) : Prop :=
  ∀ (x1 ru kn sh : Int32) (yro ydo yva yhe yha ypl : Nat → Int32) (yke : Nat → Int64) (ywo you ypk yen yea : Nat → Int32) (n m : Nat), n + k = 100000 → 4 ≤ m + t → te_vg (te_g P false) w → (∀ u p, w = u ++ p → p ∈ V) → (∀ d, d ∈ L → te_fs P d) → te_rw yro w → te_YC P w ydo yva yhe yha ypl → te_AY P V L ru kn sh yke ywo you ypk yen yea → wY_ready_2 (te_yct P post n x1 1 (nI k) (nI w.length) ru kn sh yro ydo yva yhe yha ypl yke ywo you ypk yen yea) (nI w.length) ru kn sh (te_n (te_sz P)) (te_n (te_wh P)) (te_n (te_am P)) (te_n (te_st P)) yro ydo yva yhe yha ypl yke ywo you ypk yen yea m (nI t)
theorem te_g_f (w : List Nat) (t : Nat) : te_g P false w t = te_en P (te_ex P w) t := by
  unfold te_g
  rw [Bool.false_and, Bool.not_false, Bool.and_true]
theorem te_pk_mem {V : List (List Nat)} {w : List Nat} (h : w ∈ V) (v : Nat) : te_pk P (V ++ [w]) v = te_pk P V v := by
  rw [te_pk_s, if_pos ((te_pk_p P v V).1 w h)]
theorem te_rw_e {y z : Nat → Int32} : ∀ {w : List Nat}, (∀ i, i < w.length → z i = y i) → te_rw y w → te_rw z w := by
  intro w
  induction w with
  | nil => intro _ _; trivial
  | cons c w ih =>
    intro h r
    refine ⟨ih (fun i hi => h i (by rw [List.length_cons]; omega)) r.1, ?_⟩
    rw [h w.length (by rw [List.length_cons]; omega)]
    exact r.2
theorem te_yloop (ok : te_ok P) {post : SY → Prop} {w : List Nat} {t k n : Nat} {V V' L : List (List Nat)} (hk : k < 100000) (hn : n + k = 100000) (hv : te_vg (te_g P false) w) (hV : ∀ v, te_pk P V' v = te_pk P (V ++ [w]) v) (hm : ∀ u p, w = u ++ p → p ∈ V') (fL : ∀ d, d ∈ L → te_fs P d) (hr : te_rw yro w) (A : te_AY P V L ru kn sh yke ywo you ypk yen yea) (H : te_QY P post w t V' L k) : wY_explore_74 post (n + 1) (nI t) 1 (nI k) (nI w.length) ru kn sh (te_n (te_sz P)) (te_n (te_wh P)) (te_n (te_am P)) (te_n (te_st P)) yro ydo yva yhe yha ypl yke ywo you ypk yen yea := by
  have f := te_vs_fs hv
  have hc := te_cb_ex ok f
  obtain ⟨a1, a2, a3, a4, a5, a6, a7⟩ := A
  refine br_f (nI_ge (b := 100000) hk (by omega)) (br_f (by decide) (te_yreplay ok f hr a5 (fun ydo yva yhe yha ypl ypk C hK => ⟨4, ?_⟩)))
  refine H (nI t) ru kn sh yro ydo yva yhe yha ypl yke ywo you ypk yen yea n 4 hn (by omega) hv hm fL hr C ⟨a1, a2, a3, a4, fun v hv => ?_, a6, a7⟩
  rw [hV v]
  refine ⟨hK v hv, ?_⟩
  have := (a5 v hv).2
  have := hc.1 v
  rw [te_pk_s]
  split <;> omega
theorem te_yready0 (ok : te_ok P) {post : Int32 → Prop} {w : List Nat} (f : te_fs P w) (C : te_YC P w ydo yva yhe yha ypl) (h1 : te_end P w = true → post 3) (h0 : te_end P w = false → ∀ r : Int32, r ≠ 3 → post r) : wpY_ready post (dp, ru, kn, sh, (te_n (te_sz P)), (te_n (te_wh P)), (te_n (te_am P)), (te_n (te_st P)), yro, ydo, yva, yhe, yha, ypl, yke, ywo, you, ypk, yen, yea) 0 := by
  unfold te_end at h1 h0
  have st : ∀ t n, t < 3 → (te_en P (te_ex P w) t = true → post (nI t)) → (te_en P (te_ex P w) t = false → wY_ready_2 post dp ru kn sh (te_n (te_sz P)) (te_n (te_wh P)) (te_n (te_am P)) (te_n (te_st P)) yro ydo yva yhe yha ypl yke ywo you ypk yen yea n (nI (t + 1))) → wY_ready_2 post dp ru kn sh (te_n (te_sz P)) (te_n (te_wh P)) (te_n (te_am P)) (te_n (te_st P)) yro ydo yva yhe yha ypl yke ywo you ypk yen yea (n + 1) (nI t) := by
    intro t n ht a b
    refine br_f (nI_ge (b := 3) ht (by omega)) (te_ycan ok f C ht ?_)
    cases e : te_en P (te_ex P w) t with
    | true => rw [if_pos rfl]; exact br_f (by decide) (a e)
    | false => rw [if_neg Bool.false_ne_true]; exact br_t rfl (nm_r (nI_1 t) (b e))
  refine ⟨4, st 0 3 (by omega) (fun e => ?_) (fun e0 => st 1 2 (by omega) (fun e => ?_) (fun e1 => st 2 1 (by omega) (fun e => ?_) (fun e2 => br_t (nI_le (a := 3) (b := 3) (by omega) (by omega)) (h1 ?_))))⟩
  · exact h0 (by rw [e]; rfl) _ (by decide)
  · exact h0 (by rw [e0, e]; rfl) _ (by decide)
  · exact h0 (by rw [e0, e1, e]; rfl) _ (by decide)
  · rw [e0, e1, e2]; rfl
theorem te_y136 (ok : te_ok P) {post : SY → Prop} {J : Int32 → Int32 → Int32 → Int32 → Int32 → Int32 → Int32 → (Nat → Int32) → (Nat → Int32) → (Nat → Int32) → (Nat → Int32) → (Nat → Int32) → (Nat → Int32) → (Nat → Int32) → (Nat → Int32) → (Nat → Int32) → (Nat → Int32) → (Nat → Int64) → (Nat → Int32) → (Nat → Int32) → (Nat → Int32) → (Nat → Int32) → (Nat → Int32) → Prop} {w : List Nat} {V L : List (List Nat)} {x1 x3 : Int32} (f : te_fs P w) (fL : ∀ d, d ∈ L → te_fs P d) (C : te_YC P w ydo yva yhe yha ypl) (hL : L.length < 1700) (A : te_AY P V L ru kn sh yke ywo you ypk yen yea) (H : ∀ ru kn sh yke ywo you yen yea, te_AY P V (L ++ [w].filter (te_end P)) ru kn sh yke ywo you ypk yen yea → wY_explore_149 post J x1 x3 (nI w.length) ru kn sh (te_n (te_sz P)) (te_n (te_wh P)) (te_n (te_am P)) (te_n (te_st P)) yro ydo yva yhe yha ypl yke ywo you ypk yen yea) : wY_explore_136 post J x1 x3 (nI w.length) ru kn sh (te_n (te_sz P)) (te_n (te_wh P)) (te_n (te_am P)) (te_n (te_st P)) yro ydo yva yhe yha ypl yke ywo you ypk yen yea := by
  refine te_yready0 ok f C (fun e => br_t rfl ?_) (fun e r hr => br_f hr ?_)
  · have el : L ++ [w].filter (te_end P) = L ++ [w] := by rw [List.filter_cons_of_pos e, List.filter_nil]
    rw [el] at H
    exact te_ynotice ok f fL C hL A H
  · have el : L ++ [w].filter (te_end P) = L := by rw [List.filter_cons_of_neg (by rw [e]; exact Bool.false_ne_true), List.filter_nil, List.append_nil]
    rw [el] at H
    exact H _ _ _ _ _ _ _ _ A
end
theorem te_fL1 {P : te_P} {L : List (List Nat)} {w : List Nat} (fL : ∀ d, d ∈ L → te_fs P d) (f : te_fs P w) : ∀ d, d ∈ L ++ [w].filter (te_end P) → te_fs P d := by
  intro d hd
  rcases List.mem_append.mp hd with z | z
  · exact fL d z
  · rw [List.mem_singleton.mp (List.mem_filter.mp z).1]; exact f
theorem te_yh1 {P : te_P} (ok : te_ok P) {post : SY → Prop} (w : List Nat) (t : Nat) (V L : List (List Nat)) (k : Nat) (ht : t < 3) (hg : te_g P false w t = true) (hk : k < 99999) (H : te_QY P post (t :: w) 0 (V ++ [t :: w]) L (k + 1)) : te_QY P post w t V L k := by
  intro x1 ru kn sh yro ydo yva yhe yha ypl yke ywo you ypk yen yea n m hn hm hv hV fL hr C A
  obtain ⟨m, rfl⟩ : ∃ m', m = m' + 1 := ⟨m - 1, by omega⟩
  obtain ⟨n, rfl⟩ : ∃ n', n = n' + 1 := ⟨n - 1, by omega⟩
  have f := te_vs_fs hv
  have en : te_en P (te_ex P w) t = true := te_g_en hg
  have hv' : te_vg (te_g P false) (t :: w) := ⟨hv, ht, hg⟩
  have h9 := te_len9 ok (te_vs_fs hv')
  rw [List.length_cons] at h9
  refine br_f (nI_ge (b := 3) ht (by omega)) (te_ycan ok f C ht ?_)
  rw [en, if_pos rfl]
  refine br_f (by decide) (br_f (nI_ge (b := 3) ht (by omega)) (br_f (nI_ge (b := 9) (by omega) (by omega)) ⟨vp_in_nI (by omega) (by omega), nm_e (nm_r (nI_1 _) (nm_r (nI_1 k) ?_))⟩))
  rw [nI_clamp (n := w.length) (by omega)]
  refine te_yloop (w := t :: w) (t := 0) (V' := V ++ [t :: w]) ok (by omega) (by omega) hv' (fun v => rfl) ?_ fL ⟨te_rw_e (fun i hi => pk_un (by omega)) hr, pk_us⟩ A H
  intro u p e
  cases u with
  | nil => rw [List.nil_append] at e; rw [← e]; exact List.mem_append.mpr (Or.inr (List.mem_singleton.mpr rfl))
  | cons c u =>
    rw [List.cons_append] at e
    injection e with e1 e2
    exact List.mem_append.mpr (Or.inl (hV u p e2))
theorem te_yh2 {P : te_P} (ok : te_ok P) {post : SY → Prop} (w : List Nat) (t : Nat) (V L : List (List Nat)) (k : Nat) (ht : t < 3) (hg : te_g P false w t = false) (H : ∀ k', k' ≤ k + 1 → te_QY P post w (t + 1) V L k') : te_QY P post w t V L k := by
  intro x1 ru kn sh yro ydo yva yhe yha ypl yke ywo you ypk yen yea n m hn hm hv hV fL hr C A
  obtain ⟨m, rfl⟩ : ∃ m', m = m' + 1 := ⟨m - 1, by omega⟩
  have f := te_vs_fs hv
  rw [te_g_f] at hg
  refine br_f (nI_ge (b := 3) ht (by omega)) (te_ycan ok f C ht ?_)
  rw [hg, if_neg Bool.false_ne_true]
  exact br_t rfl (nm_r (nI_1 t) (H k (by omega) x1 ru kn sh yro ydo yva yhe yha ypl yke ywo you ypk yen yea n m hn (by omega) hv hV fL hr C A))
theorem te_yh3 {P : te_P} (ok : te_ok P) {post : SY → Prop} (c : Nat) (w : List Nat) (V L : List (List Nat)) (k : Nat) (hk : k < 99999) (hL : (L ++ [c :: w].filter (te_end P)).length ≤ 1690) (H : te_QY P post w (c + 1) V (L ++ [c :: w].filter (te_end P)) (k + 1)) : te_QY P post (c :: w) 3 V L k := by
  intro x1 ru kn sh yro ydo yva yhe yha ypl yke ywo you ypk yen yea n m hn hm hv hV fL hr C A
  obtain ⟨m, rfl⟩ : ∃ m', m = m' + 1 := ⟨m - 1, by omega⟩
  obtain ⟨n, rfl⟩ : ∃ n', n = n' + 1 := ⟨n - 1, by omega⟩
  have f := te_vs_fs hv
  have h9 := te_len9 ok f
  rw [List.length_append] at hL
  rw [List.length_cons] at h9
  have t3 : (3 : Int32) ≤ 3 := by decide
  refine br_t t3 (br_t t3 (te_y136 ok f fL C (by omega) A (fun ru kn sh yke ywo you yen yea A' => ?_)))
  rw [List.length_cons]
  refine br_f (nI_nle (by omega) (by omega)) (br_f (by decide) (nm_r (nI_pred w.length) ⟨vp_in_nI (by omega) (by omega), nm_r (e' := nI (c + 1)) ?_ (nm_r (nI_1 k) ?_)⟩))
  · rw [te_ca hr.2 (by omega), nI_1]
  · exact te_yloop (V' := V) ok (by omega) (by omega) hv.1 (fun v => (te_pk_mem (hV [c] w rfl) v).symm) (fun u p e => hV (c :: u) p (by rw [e]; rfl)) (te_fL1 fL f) hr.1 A' H
theorem te_yhf {P : te_P} (ok : te_ok P) {post : SY → Prop} (V L : List (List Nat)) (k : Nat) (hk : k < 99999) (hL : L.length ≤ 1690) (H : ∀ dp ru kn sh yro ydo yva yhe yha ypl yke ywo you ypk yen yea, te_AY P V (L ++ [[]].filter (te_end P)) ru kn sh yke ywo you ypk yen yea → post (dp, ru, kn, sh, (te_n (te_sz P)), (te_n (te_wh P)), (te_n (te_am P)), (te_n (te_st P)), yro, ydo, yva, yhe, yha, ypl, yke, ywo, you, ypk, yen, yea)) : te_QY P post [] 3 V L k := by
  intro x1 ru kn sh yro ydo yva yhe yha ypl yke ywo you ypk yen yea n m hn hm hv hV fL hr C A
  obtain ⟨m, rfl⟩ : ∃ m', m = m' + 1 := ⟨m - 1, by omega⟩
  obtain ⟨n, rfl⟩ : ∃ n', n = n' + 1 := ⟨n - 1, by omega⟩
  have t3 : (3 : Int32) ≤ 3 := by decide
  have z0 : nI ([] : List Nat).length ≤ 0 := by decide
  refine br_t t3 (br_t t3 (te_y136 (w := []) ok trivial fL C (by omega) A (fun ru kn sh yke ywo you yen yea A' => br_t z0 (br_t rfl (nm_r (nI_1 k) ?_)))))
  exact br_f (nI_ge (b := 100000) (by omega) (by omega)) (br_t rfl (H _ _ _ _ _ _ _ _ _ _ _ _ _ _ _ _ A'))
section
variable {P : te_P} {dp ru kn sh : Int32} {yro ydo yva yhe yha ypl ywo you ypk yen yea : Nat → Int32} {yke : Nat → Int64}
theorem te_ye49 {post : SY → Prop} (H : ∀ yea, (∀ s, s < 81 → yea s = 0) → ∃ n74 : Nat, wY_explore_74 post n74 0 1 0 dp ru kn sh (te_n (te_sz P)) (te_n (te_wh P)) (te_n (te_am P)) (te_n (te_st P)) yro ydo yva yhe yha ypl yke ywo you ypk yen yea) : ∀ m j, j + m = 81 → ∀ yea, (∀ s, s < j → yea s = 0) → wY_explore_49 post dp ru kn sh (m + 1) (nI j) (te_n (te_sz P)) (te_n (te_wh P)) (te_n (te_am P)) (te_n (te_st P)) yro ydo yva yhe yha ypl yke ywo you ypk yen yea := by
  intro m
  induction m with
  | zero =>
    intro j hj yea h1
    have ej : j = 81 := by omega
    subst ej
    exact br_t (nI_le (a := 81) (by omega) (by omega)) (H yea h1)
  | succ m ih =>
    intro j hj yea h1
    refine br_f (nI_ge (b := 81) (by omega) (by omega)) ⟨vp_in_nI (by omega) (by omega), nm_e (nm_r (nI_1 j) (ih (j + 1) (by omega) _ (fun v hv => ?_)))⟩
    rw [nI_clamp (n := j) (by omega)]
    by_cases e : v = j
    · rw [e, pk_us]; rfl
    · rw [pk_un e]; exact h1 v (by omega)
theorem te_ye22 {post : SY → Prop} (H : ∀ ypk yen, (∀ s, s < 3 → ypk s = 0) → (∀ s, s < 3 → yen s = 0) → ∃ n49 : Nat, wY_explore_49 post dp ru kn sh n49 0 (te_n (te_sz P)) (te_n (te_wh P)) (te_n (te_am P)) (te_n (te_st P)) yro ydo yva yhe yha ypl yke ywo you ypk yen yea) : ∀ m j, j + m = 3 → ∀ ypk yen, (∀ s, s < j → ypk s = 0) → (∀ s, s < j → yen s = 0) → wY_explore_22 post dp ru kn sh (m + 1) (nI j) (te_n (te_sz P)) (te_n (te_wh P)) (te_n (te_am P)) (te_n (te_st P)) yro ydo yva yhe yha ypl yke ywo you ypk yen yea := by
  intro m
  induction m with
  | zero =>
    intro j hj ypk yen h1 h2
    have ej : j = 3 := by omega
    subst ej
    exact br_t (nI_le (a := 3) (by omega) (by omega)) (H ypk yen h1 h2)
  | succ m ih =>
    intro j hj ypk yen h1 h2
    refine br_f (nI_ge (b := 3) (by omega) (by omega)) ⟨vp_in_nI (by omega) (by omega), nm_e ⟨vp_in_nI (by omega) (by omega), nm_e (nm_r (nI_1 j) (ih (j + 1) (by omega) _ _ (fun v hv => ?_) (fun v hv => ?_)))⟩⟩
    · rw [nI_clamp (n := j) (by omega)]
      by_cases e : v = j
      · rw [e, pk_us]
      · rw [pk_un e]; exact h1 v (by omega)
    · rw [nI_clamp (n := j) (by omega)]
      by_cases e : v = j
      · rw [e, pk_us]
      · rw [pk_un e]; exact h2 v (by omega)
theorem te_yexplore (ok : te_ok P) {post : SY → Prop} (H : ∀ dp ru kn sh yro ydo yva yhe yha ypl yke ywo you ypk yen yea, te_AY P (te_V P false) (te_L P false) ru kn sh yke ywo you ypk yen yea → post (dp, ru, kn, sh, (te_n (te_sz P)), (te_n (te_wh P)), (te_n (te_am P)), (te_n (te_st P)), yro, ydo, yva, yhe, yha, ypl, yke, ywo, you, ypk, yen, yea)) : wpY_explore post (dp, ru, kn, sh, (te_n (te_sz P)), (te_n (te_wh P)), (te_n (te_am P)), (te_n (te_st P)), yro, ydo, yva, yhe, yha, ypl, yke, ywo, you, ypk, yen, yea) := by
  have R : te_QY P post [] 0 [[]] [] 0 := te_all ok (sl := false) (te_yh1 ok) (fun w t V L k ht hg _ h => te_yh2 ok w t V L k ht hg h) (fun c w V L k _ hk hL h => te_yh3 ok c w V L k hk hL h) (fun V L k hk hL eV eL => te_yhf ok V L k hk hL (fun dp ru kn sh yro ydo yva yhe yha ypl yke ywo you ypk yen yea A => H _ _ _ _ _ _ _ _ _ _ _ _ _ _ _ _ (by rw [← eL, ← eV]; exact A)))
  refine ⟨4, te_ye22 (P := P) (fun ypk yen h1 h2 => ⟨82, te_ye49 (P := P) (fun yea h3 => ⟨100001, ?_⟩) 81 0 (by omega) yea (fun v hv => absurd hv (Nat.not_lt_zero v))⟩) 3 0 (by omega) ypk yen (fun v hv => absurd hv (Nat.not_lt_zero v)) (fun v hv => absurd hv (Nat.not_lt_zero v))⟩
  refine te_yloop (P := P) (w := []) (t := 0) (k := 0) (n := 100000) (V := []) (V' := [[]]) (L := []) ok (by omega) (by omega) trivial (fun v => rfl) ?_ (fun d hd => by cases hd) trivial ⟨rfl, ⟨rfl, fun i d hd => by cases hd⟩, rfl, Nat.zero_le _, fun v hv => ⟨h1 v hv, Nat.zero_le _⟩, h2, fun s u hs hu => ?_⟩ R
  · intro u p e
    have : p = [] := (List.append_eq_nil_iff.mp e.symm).2
    rw [this]
    exact List.mem_singleton.mpr rfl
  · rw [h3 (9 * s + u) (by omega)]
    rfl
end
end
section
/-! the relation -/
def te_rX (P : te_P) (a b : Nat) (u : SX) : Prop := match u with
  | (rc, kc, sc, sh, f1, f2, io, xsz, xki, xpl, xnu, xst, xS, xD, xZ, xT, xO, xF, xK, xE) => f1 = nI a ∧ f2 = nI b ∧ xsz = te_n (te_sz P) ∧ xki = te_n (te_op P) ∧ xpl = te_n (te_pl P) ∧ xnu = te_n (te_am P) ∧ xst = te_n (te_st P)
def te_rY (P : te_P) (v : SY) : Prop := match v with
  | (dp, ru, kn, sh, ysz, ywh, yam, yfi, yro, ydo, yva, yhe, yha, ypl, yke, ywo, you, ypk, yen, yea) => ysz = te_n (te_sz P) ∧ ywh = te_n (te_wh P) ∧ yam = te_n (te_am P) ∧ yfi = te_n (te_st P)
/-- one program on both sides -/
def i_Rel (_k : Nat) (u : SX) (v : SY) : Prop := ∃ (P : te_P) (a b : Nat), te_ok P ∧ a < 9 ∧ b < 9 ∧ te_rX P a b u ∧ te_rY P v
theorem te_in {k : Nat} {P : te_P} {a b : Nat} {rc kc sc sh io dp ru kn sh' : Int32} {xS xD xZ xT xO xF xK xE yro ydo yva yhe yha ypl ywo you ypk yen yea : Nat → Int32} {yke : Nat → Int64} (ok : te_ok P) (ha : a < 9) (hb : b < 9) : i_Rel k (rc, kc, sc, sh, nI a, nI b, io, (te_n (te_sz P)), (te_n (te_op P)), (te_n (te_pl P)), (te_n (te_am P)), (te_n (te_st P)), xS, xD, xZ, xT, xO, xF, xK, xE) (dp, ru, kn, sh', (te_n (te_sz P)), (te_n (te_wh P)), (te_n (te_am P)), (te_n (te_st P)), yro, ydo, yva, yhe, yha, ypl, yke, ywo, you, ypk, yen, yea) := ⟨P, a, b, ok, ha, hb, ⟨rfl, rfl, rfl, rfl, rfl, rfl, rfl⟩, ⟨rfl, rfl, rfl, rfl⟩⟩
theorem te_el {k : Nat} {u : SX} {v : SY} {Q : SX → SY → Prop} (I : i_Rel k u v) (h : ∀ (P : te_P) (a b : Nat) (rc kc sc sh io dp ru kn sh' : Int32) (xS xD xZ xT xO xF xK xE yro ydo yva yhe yha ypl ywo you ypk yen yea : Nat → Int32) (yke : Nat → Int64), te_ok P → a < 9 → b < 9 → Q (rc, kc, sc, sh, nI a, nI b, io, (te_n (te_sz P)), (te_n (te_op P)), (te_n (te_pl P)), (te_n (te_am P)), (te_n (te_st P)), xS, xD, xZ, xT, xO, xF, xK, xE) (dp, ru, kn, sh', (te_n (te_sz P)), (te_n (te_wh P)), (te_n (te_am P)), (te_n (te_st P)), yro, ydo, yva, yhe, yha, ypl, yke, ywo, you, ypk, yen, yea)) : Q u v := by
  obtain ⟨rc, kc, sc, sh, f1, f2, io, xsz, xki, xpl, xnu, xst, xS, xD, xZ, xT, xO, xF, xK, xE⟩ := u
  obtain ⟨dp, ru, kn, sh', ysz, ywh, yam, yfi, yro, ydo, yva, yhe, yha, ypl, yke, ywo, you, ypk, yen, yea⟩ := v
  obtain ⟨P, a, b, ok, ha, hb, ⟨e1, e2, e3, e4, e5, e6, e7⟩, ⟨d1, d2, d3, d4⟩⟩ := I
  subst e1 e2 e3 e4 e5 e6 e7 d1 d2 d3 d4
  exact h P a b rc kc sc sh io dp ru kn sh' xS xD xZ xT xO xF xK xE yro ydo yva yhe yha ypl ywo you ypk yen yea yke ok ha hb
theorem i_up {k : Nat} {u : SX} {v : SY} (h : i_Rel k u v) : i_Rel (k + 4) u v := h
theorem i_vc0 : wpX_init (fun u => wpY_init (fun v => i_Rel 0 u v)) :=
  ⟨(fun _ => 0, fun _ => 0, fun _ => 0, fun _ => 0, fun _ => 0), 0, 0, ⟨fun _ => Nat.zero_le _, fun _ => Nat.zero_le _, fun _ => Nat.zero_le _, fun _ _ => Nat.zero_le _, fun _ => Nat.zero_le _, fun _ => Nat.zero_le _⟩, by omega, by omega, ⟨rfl, rfl, rfl, rfl, rfl, rfl, rfl⟩, ⟨rfl, rfl, rfl, rfl⟩⟩
/-! threads -/
theorem te_xth {post : Int32 → Prop} {t : Nat} (ht : t < 3) (h : post 1) : wpX_isThread post (nI t) := br_f (nI_pos (by omega)) (br_f (nI_ge (b := 3) ht (by omega)) h)
theorem te_yth {post : Int32 → Prop} {u : SY} {t : Nat} (ht : t < 3) (h : post 0) : wpY_bad post u (nI t) := br_f (nI_pos (by omega)) (br_t (nI_le (b := 2) (by omega) (by omega)) h)
theorem te_thr (x : Int32) : (∃ t, t < 3 ∧ x = nI t) ∨ ((∀ post : Int32 → Prop, post 0 → wpX_isThread post x) ∧ (∀ (post : Int32 → Prop) (u : SY), post 1 → wpY_bad post u x)) := by
  rcases pk_ix x (n := 3) (by omega) with h | h | h
  · exact Or.inr ⟨fun _ p => br_t h p, fun _ u p => br_t h p⟩
  · have h0 : ¬ x < 0 := Int32.not_lt.mpr (Int32.le_trans (by decide) h)
    have h2 : ¬ x ≤ 2 := by
      intro z
      exact absurd (Int32.le_trans h z) (by decide)
    exact Or.inr ⟨fun _ p => br_f h0 (br_t h p), fun _ u p => br_f h0 (br_f h2 p)⟩
  · exact Or.inl h
theorem te_un (f : Nat → Nat) (k x : Nat) : upd (te_n f) k (nI x) = te_n (te_set f k x) := by
  funext j
  by_cases e : j = k
  · subst e; rw [pk_us]; show nI x = nI (te_set f j x j); rw [te_set_s]
  · rw [pk_un e]; show nI (f j) = nI (te_set f k x j); rw [te_set_n _ _ e]
theorem te_unI (f : Nat → Nat) {k : Nat} (h : k < 2 ^ 31) (x : Nat) : upd (te_n f) (nI k).toNatClampNeg (nI x) = te_n (te_set f k x) := by rw [nI_clamp h]; exact te_un f k x
theorem te_set_le {f : Nat → Nat} {k x m : Nat} (h : ∀ i, f i ≤ m) (hx : x ≤ m) : ∀ i, te_set f k x i ≤ m := by
  intro i
  unfold te_set
  split
  · exact hx
  · exact h i
theorem te_rng (x : Int32) {n : Nat} (hn : n < 2 ^ 30) : x < 0 ∨ (¬ x < 0 ∧ ¬ x ≤ nI n) ∨ ∃ j, j ≤ n ∧ x = nI j := by
  rcases pk_ix x (n := n + 1) (by omega) with h | h | ⟨j, hj, e⟩
  · exact Or.inl h
  · refine Or.inr (Or.inl ⟨Int32.not_lt.mpr (Int32.le_trans (nI_pos' (by omega)) h), fun z => ?_⟩)
    exact absurd (Int32.le_trans h z) (nI_ge (by omega) (by omega))
  · exact Or.inr (Or.inr ⟨j, by omega, e⟩)
theorem i_vc_steps {k : Nat} {u : SX} {v : SY} (I : i_Rel k u v) (hk : k + 4 ≤ 2048) (v1 : Int32) : wpX_steps (fun r => wpY_steps (fun r' => r' = r ∧ i_Rel (k + 4) u v) v v1) u v1 := by
  refine te_el (Q := fun u v => wpX_steps (fun r => wpY_steps (fun r' => r' = r ∧ i_Rel (k + 4) u v) v v1) u v1) I ?_
  intro P a b rc kc sc sh io dp ru kn sh' xS xD xZ xT xO xF xK xE yro ydo yva yhe yha ypl ywo you ypk yen yea yke ok ha hb
  unfold wpX_steps wpY_steps
  rcases te_thr v1 with ⟨t, ht, rfl⟩ | ⟨hx, hy⟩
  · refine te_xth ht ?_
    refine br_f (by decide) ⟨vp_in_nI ht (by omega), ?_⟩
    refine te_yth ht ?_
    exact br_t rfl ⟨vp_in_nI ht (by omega), rfl, te_in ok ha hb⟩
  · refine hx _ ?_
    refine br_t rfl ?_
    refine hy _ _ ?_
    exact br_f (by decide) ⟨rfl, te_in ok ha hb⟩
theorem i_vc_drop {k : Nat} {u : SX} {v : SY} (I : i_Rel k u v) (hk : k + 4 ≤ 2048) (v1 : Int32) : wpX_drop (fun r u' => wpY_drop (fun r' v' => r' = r ∧ i_Rel (k + 4) u' v') v v1) u v1 := by
  refine te_el (Q := fun u v => wpX_drop (fun r u' => wpY_drop (fun r' v' => r' = r ∧ i_Rel (k + 4) u' v') v v1) u v1) I ?_
  intro P a b rc kc sc sh io dp ru kn sh' xS xD xZ xT xO xF xK xE yro ydo yva yhe yha ypl ywo you ypk yen yea yke ok ha hb
  unfold wpX_drop wpY_drop
  rcases te_thr v1 with ⟨t, ht, rfl⟩ | ⟨hx, hy⟩
  · have hz := ok.1 t
    have t3 : vp_in (nI t) 3 := vp_in_nI ht (by omega)
    have ez : te_n (te_sz P) (nI t).toNatClampNeg = nI (te_sz P t) := te_na (te_sz P) (by omega)
    by_cases q : te_sz P t = 0
    · have e0 : te_n (te_sz P) (nI t).toNatClampNeg = 0 := by rw [ez, q]; rfl
      refine te_xth ht ?_
      refine br_f (by decide) ⟨t3, br_t e0 ?_⟩
      refine te_yth ht ?_
      exact br_t rfl ⟨t3, br_t e0 ⟨rfl, te_in ok ha hb⟩⟩
    · have e0 : ¬ te_n (te_sz P) (nI t).toNatClampNeg = 0 := by rw [ez]; exact nI_ne0 (by omega) (by omega)
      have eu : upd (te_n (te_sz P)) (nI t).toNatClampNeg (te_n (te_sz P) (nI t).toNatClampNeg - 1) = te_n (te_set (te_sz P) t (te_sz P t - 1)) := by
        obtain ⟨m, em⟩ : ∃ m, te_sz P t = m + 1 := ⟨te_sz P t - 1, by omega⟩
        rw [ez, em, nI_pred]
        exact te_unI _ (by omega) _
      have ok' : te_ok (te_set (te_sz P) t (te_sz P t - 1), te_op P, te_pl P, te_am P, te_st P) := ⟨te_set_le ok.1 (by omega), ok.2⟩
      refine te_xth ht ?_
      refine br_f (by decide) ⟨t3, br_f e0 ⟨t3, t3, nm_r eu ⟨t3, ?_⟩⟩⟩
      refine te_yth ht ?_
      exact br_t rfl ⟨t3, br_f e0 ⟨t3, t3, nm_r eu ⟨t3, rfl, te_in (P := (te_set (te_sz P) t (te_sz P t - 1), te_op P, te_pl P, te_am P, te_st P)) ok' ha hb⟩⟩⟩
  · refine hx _ ?_
    refine br_t rfl ?_
    refine hy _ _ ?_
    exact br_f (by decide) ⟨rfl, te_in ok ha hb⟩
theorem i_vc_initial {k : Nat} {u : SX} {v : SY} (I : i_Rel k u v) (hk : k + 4 ≤ 2048) (v1 : Int32) (v2 : Int32) : wpX_initial (fun r u' => wpY_initial (fun r' v' => r' = r ∧ i_Rel (k + 4) u' v') v v1 v2) u v1 v2 := by
  refine te_el (Q := fun u v => wpX_initial (fun r u' => wpY_initial (fun r' v' => r' = r ∧ i_Rel (k + 4) u' v') v v1 v2) u v1 v2) I ?_
  intro P a b rc kc sc sh io dp ru kn sh' xS xD xZ xT xO xF xK xE yro ydo yva yhe yha ypl ywo you ypk yen yea yke ok ha hb
  unfold wpX_initial wpY_initial
  rcases te_thr v1 with ⟨t, ht, rfl⟩ | ⟨hx, hy⟩
  · have t3 : vp_in (nI t) 3 := vp_in_nI ht (by omega)
    rcases te_rng v2 (n := 7) (by omega) with h | ⟨h0, h7⟩ | ⟨j, hj, rfl⟩
    · refine te_xth ht ?_
      refine br_f (by decide) (br_t h ?_)
      refine te_yth ht ?_
      exact br_t rfl (br_t h ⟨rfl, te_in ok ha hb⟩)
    · refine te_xth ht ?_
      refine br_f (by decide) (br_f h0 (br_f h7 ?_))
      refine te_yth ht ?_
      exact br_t rfl (br_f h0 (br_f h7 ⟨rfl, te_in ok ha hb⟩))
    · have h0 : ¬ nI j < 0 := nI_pos (by omega)
      have h7 : nI j ≤ 7 := nI_le (b := 7) hj (by omega)
      have eu := te_unI (te_st P) (k := t) (by omega) j
      have ok' : te_ok (te_sz P, te_op P, te_pl P, te_am P, te_set (te_st P) t j) := ⟨ok.1, ok.2.1, ok.2.2.1, ok.2.2.2.1, ok.2.2.2.2.1, te_set_le ok.2.2.2.2.2 hj⟩
      refine te_xth ht ?_
      refine br_f (by decide) (br_f h0 (br_t h7 ⟨t3, nm_e ⟨t3, nm_r eu ?_⟩⟩))
      refine te_yth ht ?_
      exact br_t rfl (br_f h0 (br_t h7 ⟨t3, nm_e ⟨t3, nm_r eu ⟨rfl, te_in (P := (te_sz P, te_op P, te_pl P, te_am P, te_set (te_st P) t j)) ok' ha hb⟩⟩⟩))
  · refine hx _ ?_
    refine br_t rfl ?_
    refine hy _ _ ?_
    exact br_f (by decide) ⟨rfl, te_in ok ha hb⟩
/-! step -/
theorem te_stp {k : Nat} {P : te_P} {a b : Nat} {rc kc sc sh io dp ru kn sh' : Int32} {xS xD xZ xT xO xF xK xE yro ydo yva yhe yha ypl ywo you ypk yen yea : Nat → Int32} {yke : Nat → Int64} (ok : te_ok P) (ha : a < 9) (hb : b < 9) {t q : Nat} (ht : t < 3) (hq : q < 48) (ho : q / 8 ≤ 5) (hp : q % 8 ≤ 2) (hl : 4 ≤ q / 8 → q % 8 ≤ 1) (v3 : Int32) (post : Int32 → SX → Prop)
    (hpost : ∀ r u, (∀ (z0 z1 : Int32), z1 ≤ z0 → wY_step_44 (fun r' v' => r' = r ∧ i_Rel (k + 4) u v') (nI t) (nI q) v3 z0 z1 dp ru kn sh' (te_n (te_sz P)) (te_n (te_wh P)) (te_n (te_am P)) (te_n (te_st P)) yro ydo yva yhe yha ypl yke ywo you ypk yen yea) → post r u) : wX_step_51 post (nI t) v3 (nI (q / 8)) (nI (q % 8)) rc kc sc sh (nI a) (nI b) io (te_n (te_sz P)) (te_n (te_op P)) (te_n (te_pl P)) (te_n (te_am P)) (te_n (te_st P)) xS xD xZ xT xO xF xK xE := by
  have t3 : vp_in (nI t) 3 := vp_in_nI ht (by omega)
  have hs := ok.1 t
  have ez : te_n (te_sz P) (nI t).toNatClampNeg = nI (te_sz P t) := te_na (te_sz P) (by omega)
  rcases te_rng v3 (n := 7) (by omega) with h | ⟨h0, h7⟩ | ⟨j, hj, rfl⟩
  · exact br_t h (hpost _ _ (fun z0 z1 hz => br_t hz (br_t h ⟨rfl, te_in ok ha hb⟩)))
  · exact br_f h0 (br_f h7 (hpost _ _ (fun z0 z1 hz => br_t hz (br_f h0 (br_f h7 ⟨rfl, te_in ok ha hb⟩)))))
  · have h0 : ¬ nI j < 0 := nI_pos (by omega)
    have h7 : nI j ≤ 7 := nI_le (b := 7) hj (by omega)
    by_cases e3 : te_sz P t = 3
    · have ex : te_n (te_sz P) (nI t).toNatClampNeg = 3 := by rw [ez, e3]; rfl
      have ey : ¬ nI (te_sz P t) ≤ 2 := nI_ge (b := te_sz P t) (a := 2) (by omega) (by omega)
      exact br_f h0 (br_t h7 ⟨t3, br_t ex (hpost _ _ (fun z0 z1 hz => br_t hz (br_f h0 (br_t h7 ⟨t3, nm_r ez (br_f ey ⟨rfl, te_in ok ha hb⟩)⟩))))⟩)
    · have ex : ¬ te_n (te_sz P) (nI t).toNatClampNeg = 3 := by
        rw [ez]
        intro z
        exact e3 ((nI_eq (b := 3) (by omega) (by omega)).mp z)
      have ey : nI (te_sz P t) ≤ 2 := nI_le (b := 2) (by omega) (by omega)
      have es : (3 : Int32) * nI t + nI (te_sz P t) = nI (3 * t + te_sz P t) := by
        rw [show (3 : Int32) * nI t = nI (3 * t) from pk_mul 3 _, nI_add]
      have es' : (3 : Int32) * nI t + te_n (te_sz P) (nI t).toNatClampNeg = nI (3 * t + te_sz P t) := by rw [ez]; exact es
      have s9 : vp_in (nI (3 * t + te_sz P t)) 9 := vp_in_nI (by omega) (by omega)
      have s9' : vp_in ((3 : Int32) * nI t + nI (te_sz P t)) 9 := by rw [es]; exact s9
      have e1 := te_unI (te_op P) (k := 3 * t + te_sz P t) (by omega) (q / 8)
      have e2 := te_unI (te_pl P) (k := 3 * t + te_sz P t) (by omega) (q % 8)
      have e4 := te_unI (te_am P) (k := 3 * t + te_sz P t) (by omega) j
      have e4' : upd (te_n (te_am P)) ((3 : Int32) * nI t + nI (te_sz P t)).toNatClampNeg (nI j) = te_n (te_set (te_am P) (3 * t + te_sz P t) j) := by rw [es]; exact e4
      have e5 : upd (te_n (te_sz P)) (nI t).toNatClampNeg (te_n (te_sz P) (nI t).toNatClampNeg + 1) = te_n (te_set (te_sz P) t (te_sz P t + 1)) := by
        rw [ez, nI_1]
        exact te_unI _ (by omega) _
      have e5' : upd (te_n (te_sz P)) (nI t).toNatClampNeg (nI (te_sz P t) + 1) = te_n (te_set (te_sz P) t (te_sz P t + 1)) := by
        rw [nI_1]
        exact te_unI _ (by omega) _
      have e6 : upd (te_n (te_wh P)) ((3 : Int32) * nI t + nI (te_sz P t)).toNatClampNeg (nI q) = te_n (te_wh (te_set (te_sz P) t (te_sz P t + 1), te_set (te_op P) (3 * t + te_sz P t) (q / 8), te_set (te_pl P) (3 * t + te_sz P t) (q % 8), te_set (te_am P) (3 * t + te_sz P t) j, te_st P)) := by
        rw [es, te_unI _ (by omega)]
        refine congrArg te_n (funext fun i => ?_)
        show te_set (te_wh P) (3 * t + te_sz P t) q i = 8 * te_set (te_op P) (3 * t + te_sz P t) (q / 8) i + te_set (te_pl P) (3 * t + te_sz P t) (q % 8) i
        by_cases z : i = 3 * t + te_sz P t
        · subst z
          rw [te_set_s, te_set_s, te_set_s]
          omega
        · rw [te_set_n _ _ z, te_set_n _ _ z, te_set_n _ _ z]
          rfl
      have ok' : te_ok (te_set (te_sz P) t (te_sz P t + 1), te_set (te_op P) (3 * t + te_sz P t) (q / 8), te_set (te_pl P) (3 * t + te_sz P t) (q % 8), te_set (te_am P) (3 * t + te_sz P t) j, te_st P) := by
        refine ⟨te_set_le ok.1 (by omega), te_set_le ok.2.1 ho, te_set_le ok.2.2.1 hp, ?_, te_set_le ok.2.2.2.2.1 hj, ok.2.2.2.2.2⟩
        intro i
        show 4 ≤ te_set (te_op P) (3 * t + te_sz P t) (q / 8) i → te_set (te_pl P) (3 * t + te_sz P t) (q % 8) i ≤ 1
        by_cases z : i = 3 * t + te_sz P t
        · subst z
          rw [te_set_s, te_set_s]
          exact hl
        · rw [te_set_n _ _ z, te_set_n _ _ z]
          exact ok.2.2.2.1 i
      have er : nI (te_sz P t) + 1 = te_n (te_set (te_sz P) t (te_sz P t + 1)) (nI t).toNatClampNeg := by
        rw [te_na _ (by omega), te_set_s, nI_1]
      exact br_f h0 (br_t h7 ⟨t3, br_f ex ⟨t3, nm_r es' ⟨s9, nm_r e1 ⟨s9, nm_r e2 ⟨s9, nm_r e4 ⟨t3, t3, nm_r e5 ⟨t3, hpost _ _ (fun z0 z1 hz => br_t hz (br_f h0 (br_t h7 ⟨t3, nm_r ez (br_t ey ⟨s9', nm_r e6 ⟨s9', nm_r e4' ⟨t3, nm_r e5' ⟨er, te_in (P := (te_set (te_sz P) t (te_sz P t + 1), te_set (te_op P) (3 * t + te_sz P t) (q / 8), te_set (te_pl P) (3 * t + te_sz P t) (q % 8), te_set (te_am P) (3 * t + te_sz P t) j, te_st P)) ok' ha hb⟩⟩⟩⟩)⟩)))⟩⟩⟩⟩⟩⟩⟩)
end
section
/-! step; the loops over results -/
section
variable {P : te_P} {dp ru kn sh : Int32} {yro ydo yva yhe yha ypl ywo you ypk yen yea : Nat → Int32} {yke : Nat → Int64}
theorem te_ysg {post : Int32 → SY → Prop} {t q : Nat} {v3 : Int32} (ht : t < 3) (hq : q < 2 ^ 31) (ho : q / 8 ≤ 5) (hp : q % 8 ≤ 2) (hl : 4 ≤ q / 8 → q % 8 ≤ 1) (h : ∀ z0 z1 : Int32, z1 ≤ z0 → wY_step_44 post (nI t) (nI q) v3 z0 z1 dp ru kn sh (te_n (te_sz P)) (te_n (te_wh P)) (te_n (te_am P)) (te_n (te_st P)) yro ydo yva yhe yha ypl yke ywo you ypk yen yea) : wpY_step post (dp, ru, kn, sh, (te_n (te_sz P)), (te_n (te_wh P)), (te_n (te_am P)), (te_n (te_st P)), yro, ydo, yva, yhe, yha, ypl, yke, ywo, you, ypk, yen, yea) (nI t) (nI q) v3 := by
  unfold wpY_step
  refine te_yth ht ?_
  have e8 : nI q / (8 : Int32) = nI (q / 8) := pk_div (d := 8) hq (by omega) (by omega)
  have r8 : nI q - nI q / (8 : Int32) * 8 = nI (q % 8) := pk_rem (d := 8) hq (by omega) (by omega)
  refine br_t rfl (br_f (nI_pos hq) (br_t (nI_le (b := 41) (by omega) (by omega)) ⟨by decide, nm_r e8 ⟨by decide, pk_le 4 (q / 8) (fun z => h _ _ ?_) (fun z => h _ _ ?_) rfl rfl (by omega) (by omega)⟩⟩))
  · rw [r8]; exact nI_le (b := 1) (hl z) (by omega)
  · rw [r8]; exact nI_le (b := 2) hp (by omega)
theorem te_ysb {post : Int32 → SY → Prop} {t q : Nat} {v3 : Int32} (ht : t < 3) (hq : q < 2 ^ 31) (hb : ¬ (q / 8 ≤ 5 ∧ q % 8 ≤ 2 ∧ (4 ≤ q / 8 → q % 8 ≤ 1))) (h : post (-2) (dp, ru, kn, sh, (te_n (te_sz P)), (te_n (te_wh P)), (te_n (te_am P)), (te_n (te_st P)), yro, ydo, yva, yhe, yha, ypl, yke, ywo, you, ypk, yen, yea)) : wpY_step post (dp, ru, kn, sh, (te_n (te_sz P)), (te_n (te_wh P)), (te_n (te_am P)), (te_n (te_st P)), yro, ydo, yva, yhe, yha, ypl, yke, ywo, you, ypk, yen, yea) (nI t) (nI q) v3 := by
  unfold wpY_step
  refine te_yth ht ?_
  have e8 : nI q / (8 : Int32) = nI (q / 8) := pk_div (d := 8) hq (by omega) (by omega)
  have r8 : nI q - nI q / (8 : Int32) * 8 = nI (q % 8) := pk_rem (d := 8) hq (by omega) (by omega)
  refine br_t rfl (br_f (nI_pos hq) (pk_le q 41 (fun y => ⟨by decide, nm_r e8 ⟨by decide, pk_le 4 (q / 8) (fun z => br_f ?_ h) (fun z => br_f ?_ h) rfl rfl (by omega) (by omega)⟩⟩) (fun _ => h) rfl rfl hq (by omega)))
  · rw [r8]; exact nI_ge (b := q % 8) (a := 1) (by omega) (by omega)
  · rw [r8]; exact nI_ge (b := q % 8) (a := 2) (by omega) (by omega)
end
theorem i_vc_step {k : Nat} {u : SX} {v : SY} (I : i_Rel k u v) (hk : k + 4 ≤ 2048) (v1 : Int32) (v2 : Int32) (v3 : Int32) : wpX_step (fun r u' => wpY_step (fun r' v' => r' = r ∧ i_Rel (k + 4) u' v') v v1 v2 v3) u v1 v2 v3 := by
  refine te_el (Q := fun u v => wpX_step (fun r u' => wpY_step (fun r' v' => r' = r ∧ i_Rel (k + 4) u' v') v v1 v2 v3) u v1 v2 v3) I ?_
  intro P a b rc kc sc sh io dp ru kn sh' xS xD xZ xT xO xF xK xE yro ydo yva yhe yha ypl ywo you ypk yen yea yke ok ha hb
  unfold wpX_step
  rcases te_thr v1 with ⟨t, ht, rfl⟩ | ⟨hx, hy⟩
  · refine te_xth ht ?_
    by_cases hn : v2 < 0
    · refine br_f (by decide) (nm_e (nm_e (br_t hn ?_)))
      unfold wpY_step
      refine te_yth ht ?_
      exact br_t rfl (br_t hn ⟨rfl, te_in ok ha hb⟩)
    · obtain ⟨q, hq, rfl⟩ := nI_of hn
      have e3 : nI q >>> ((3 : Int32) &&& 31) = nI (q / 8) := te_shr (k := 3) hq (by omega)
      have e7 : nI q &&& 7 = nI (q % 8) := te_m7 (by omega)
      by_cases g : q / 8 ≤ 5 ∧ q % 8 ≤ 2 ∧ (4 ≤ q / 8 → q % 8 ≤ 1)
      · have G := te_stp (k := k) (P := P) (rc := rc) (kc := kc) (sc := sc) (sh := sh) (io := io) (dp := dp) (ru := ru) (kn := kn) (sh' := sh') (xS := xS) (xD := xD) (xZ := xZ) (xT := xT) (xO := xO) (xF := xF) (xK := xK) (xE := xE) (yro := yro) (ydo := ydo) (yva := yva) (yhe := yhe) (yha := yha) (ypl := ypl) (ywo := ywo) (you := you) (ypk := ypk) (yen := yen) (yea := yea) (yke := yke) ok ha hb ht (q := q) (by omega) g.1 g.2.1 g.2.2 v3 (fun r u' => wpY_step (fun r' v' => r' = r ∧ i_Rel (k + 4) u' v') (dp, ru, kn, sh', (te_n (te_sz P)), (te_n (te_wh P)), (te_n (te_am P)), (te_n (te_st P)), yro, ydo, yva, yhe, yha, ypl, yke, ywo, you, ypk, yen, yea) (nI t) (nI q) v3) (fun r u' h => te_ysg ht hq g.1 g.2.1 g.2.2 h)
        exact br_f (by decide) (nm_r e3 (nm_r e7 (br_f hn (pk_lt 5 (q / 8) (fun z => absurd g.1 (by omega)) (fun _ => pk_lt 2 (q % 8) (fun z => absurd g.2.1 (by omega)) (fun _ => pk_lt (q / 8) 4 (fun _ => G) (fun z => pk_le (q % 8) 1 (fun _ => G) (fun y => absurd (g.2.2 z) (by omega)) rfl rfl (by omega) (by omega)) rfl rfl (by omega) (by omega)) rfl rfl (by omega) (by omega)) rfl rfl (by omega) (by omega)))))
      · have B : wpY_step (fun r' v' => r' = -2 ∧ i_Rel (k + 4) (rc, kc, sc, sh, nI a, nI b, io, (te_n (te_sz P)), (te_n (te_op P)), (te_n (te_pl P)), (te_n (te_am P)), (te_n (te_st P)), xS, xD, xZ, xT, xO, xF, xK, xE) v') (dp, ru, kn, sh', (te_n (te_sz P)), (te_n (te_wh P)), (te_n (te_am P)), (te_n (te_st P)), yro, ydo, yva, yhe, yha, ypl, yke, ywo, you, ypk, yen, yea) (nI t) (nI q) v3 := te_ysb ht hq g ⟨rfl, te_in ok ha hb⟩
        exact br_f (by decide) (nm_r e3 (nm_r e7 (br_f hn (pk_lt 5 (q / 8) (fun _ => B) (fun z1 => pk_lt 2 (q % 8) (fun _ => B) (fun z2 => pk_lt (q / 8) 4 (fun z => absurd ⟨z1, z2, fun y => absurd y (by omega)⟩ g) (fun z => pk_le (q % 8) 1 (fun y => absurd ⟨z1, z2, fun _ => y⟩ g) (fun _ => B) rfl rfl (by omega) (by omega)) rfl rfl (by omega) (by omega)) rfl rfl (by omega) (by omega)) rfl rfl (by omega) (by omega)))))
  · refine hx _ ?_
    refine br_t rfl ?_
    unfold wpY_step
    refine hy _ _ ?_
    exact br_f (by decide) ⟨rfl, te_in ok ha hb⟩

/-! loops behind the searches -/
def te_rs (c : Nat → Nat) : Nat → Nat
  | 0 => 0
  | j + 1 => te_rs c j + (if c j = 0 then 0 else 1)
def te_nr (q : Nat → Bool) : Nat → Nat → Int32
  | 0, _ => -1
  | m + 1, j => if q j = true then nI j else te_nr q m (j + 1)
theorem te_nr_e {p q : Nat → Bool} (h : ∀ j, j < 512 → p j = q j) : ∀ m j, j + m = 512 → te_nr p m j = te_nr q m j := by
  intro m
  induction m with
  | zero => intro j _; rfl
  | succ m ih =>
    intro j hj
    rw [te_nr, te_nr, h j (by omega), ih (j + 1) (by omega)]
section
variable {P : te_P} {rc kc sc sh f1 f2 io : Int32} {xS xD xZ xT xO xF xK xE : Nat → Int32}
theorem te_xr9 {post : Int32 → SX → Prop} (c : Nat → Nat) (hc : ∀ r, r < 512 → xF r = nI (c r) ∧ c r ≤ 1680) (H : post (nI (te_rs c 512)) (rc, kc, sc, sh, f1, f2, io, (te_n (te_sz P)), (te_n (te_op P)), (te_n (te_pl P)), (te_n (te_am P)), (te_n (te_st P)), xS, xD, xZ, xT, xO, xF, xK, xE)) : ∀ m j, j + m = 512 → wX_results_9 post rc kc sc sh f1 f2 io (te_n (te_sz P)) (te_n (te_op P)) (te_n (te_pl P)) (te_n (te_am P)) (te_n (te_st P)) xS xD xZ xT xO xF xK xE (m + 1) (nI (te_rs c j)) (nI j) := by
  intro m
  induction m with
  | zero =>
    intro j hj
    have e : j = 512 := by omega
    subst e
    exact br_t (nI_le (a := 512) (by omega) (by omega)) H
  | succ m ih =>
    intro j hj
    have I := ih (j + 1) (by omega)
    have h := hc j (by omega)
    rw [te_rs] at I
    refine br_f (nI_ge (b := 512) (by omega) (by omega)) ⟨vp_in_nI (by omega) (by omega), pk_le (c j) 0 (fun z => nm_r (e' := nI (te_rs c j)) (Int32.add_zero _) (nm_r (nI_1 j) ?_)) (fun z => nm_r (nI_1 _) (nm_r (nI_1 j) ?_)) (te_ca h.1 (by omega)) rfl (by omega) (by omega)⟩
    · rw [if_pos (by omega), Nat.add_zero] at I
      exact I
    · rw [if_neg (by omega)] at I
      exact I
theorem te_xn18 {post : Int32 → SX → Prop} (c : Nat → Nat) (hc : ∀ r, r < 512 → xF r = nI (c r) ∧ c r ≤ 1680) (p : Int32) : ∀ m j, j + m = 512 → post (te_nr (fun r => decide (¬ nI r ≤ p) && decide (c r ≠ 0)) m j) (rc, kc, sc, sh, f1, f2, io, (te_n (te_sz P)), (te_n (te_op P)), (te_n (te_pl P)), (te_n (te_am P)), (te_n (te_st P)), xS, xD, xZ, xT, xO, xF, xK, xE) → wX_nextResult_18 post p rc kc sc sh f1 f2 io (te_n (te_sz P)) (te_n (te_op P)) (te_n (te_pl P)) (te_n (te_am P)) (te_n (te_st P)) xS xD xZ xT xO xF xK xE (m + 1) (nI j) := by
  intro m
  induction m with
  | zero =>
    intro j hj H
    have e : j = 512 := by omega
    subst e
    exact br_t (nI_le (a := 512) (by omega) (by omega)) H
  | succ m ih =>
    intro j hj H
    have h := hc j (by omega)
    rw [te_nr] at H
    refine br_f (nI_ge (b := 512) (by omega) (by omega)) (br_c (fun z => nm_r (nI_1 j) (ih (j + 1) (by omega) ?_)) (fun z => ⟨vp_in_nI (by omega) (by omega), pk_le (c j) 0 (fun y => nm_r (nI_1 j) (ih (j + 1) (by omega) ?_)) (fun y => ?_) (te_ca h.1 (by omega)) rfl (by omega) (by omega)⟩))
    · rw [if_neg (by rw [decide_eq_false (fun q => q z)]; exact Bool.false_ne_true)] at H
      exact H
    · rw [if_neg (by rw [decide_eq_false (p := c j ≠ 0) (by omega), Bool.and_false]; exact Bool.false_ne_true)] at H
      exact H
    · rw [if_pos (by rw [decide_eq_true z, decide_eq_true (p := c j ≠ 0) (by omega)]; rfl)] at H
      exact H
end
section
variable {P : te_P} {dp ru kn sh : Int32} {yro ydo yva yhe yha ypl ywo you ypk yen yea : Nat → Int32} {yke : Nat → Int64}
theorem te_tk {D : List (List Nat)} {i : Nat} (h : i < D.length) (f : List Nat → Bool) : (D.take (i + 1)).countP f = (D.take i).countP f + (if f D[i] = true then 1 else 0) := by
  rw [List.take_add_one, List.getElem?_eq_getElem h, Option.toList_some, te_cnt1]
theorem te_ys8 {post : Int32 → SY → Prop} {D : List (List Nat)} (hD : D.length < 1700) (A : te_AD P D kn yke ywo you) (H : post (nI (D.countP (fun w => !te_cm P w))) (dp, ru, kn, sh, (te_n (te_sz P)), (te_n (te_wh P)), (te_n (te_am P)), (te_n (te_st P)), yro, ydo, yva, yhe, yha, ypl, yke, ywo, you, ypk, yen, yea)) : ∀ m i, i + m = D.length → wY_stuckKinds_8 post dp ru kn sh (te_n (te_sz P)) (te_n (te_wh P)) (te_n (te_am P)) (te_n (te_st P)) yro ydo yva yhe yha ypl yke ywo you ypk yen yea (m + 1) (nI ((D.take i).countP (fun w => !te_cm P w))) (nI i) := by
  have ekn := A.1
  intro m
  induction m with
  | zero =>
    intro i hi
    have e : i = D.length := by omega
    subst e
    rw [List.take_length]
    refine br_t ?_ H
    rw [ekn]
    exact nI_le (Nat.le_refl _) (by omega)
  | succ m ih =>
    intro i hi
    have hlt : i < D.length := by omega
    have I := ih (i + 1) (by omega)
    have a := (A.2 i D[i] (List.getElem?_eq_getElem hlt)).2.1
    rw [te_tk hlt] at I
    refine br_f (by rw [ekn]; exact nI_ge hlt (by omega)) ⟨vp_in_nI (by omega) (by omega), ?_⟩
    rw [te_ca a (by omega)]
    cases e : te_cm P D[i] with
    | true =>
      rw [e] at I
      rw [if_pos rfl]
      exact br_f (by decide) (nm_r (nI_1 i) I)
    | false =>
      rw [e] at I
      rw [if_neg Bool.false_ne_true]
      exact br_t rfl (nm_r (nI_1 _) (nm_r (nI_1 i) I))
theorem te_ym4 {post : Int32 → Prop} (ok : te_ok P) {D : List (List Nat)} (fD : ∀ d, d ∈ D → te_fs P d) (hD : D.length < 1700) (A : te_AD P D kn yke ywo you) {r : Nat} (hr : r < 512) (H : post (nI (D.countP (te_fr P r)))) : ∀ m i, i + m = D.length → wY_many_4 post (nI r) dp ru kn sh (te_n (te_sz P)) (te_n (te_wh P)) (te_n (te_am P)) (te_n (te_st P)) yro ydo yva yhe yha ypl yke ywo you ypk yen yea (m + 1) (nI ((D.take i).countP (te_fr P r))) (nI i) := by
  have ekn := A.1
  intro m
  induction m with
  | zero =>
    intro i hi
    have e : i = D.length := by omega
    subst e
    rw [List.take_length]
    refine br_t ?_ H
    rw [ekn]
    exact nI_le (Nat.le_refl _) (by omega)
  | succ m ih =>
    intro i hi
    have hlt : i < D.length := by omega
    have I := ih (i + 1) (by omega)
    have a := (A.2 i D[i] (List.getElem?_eq_getElem hlt)).2
    have hc := te_cb_ex ok (fD D[i] (List.getElem_mem hlt))
    have hres : te_res P D[i] < 512 := by
      have := hc.1 0
      have := hc.1 1
      have := hc.1 2
      unfold te_res
      omega
    rw [te_tk hlt] at I
    refine br_f (by rw [ekn]; exact nI_ge hlt (by omega)) (br_f (nI_ge (b := 1700) (by omega) (by omega)) ⟨vp_in_nI (by omega) (by omega), ?_⟩)
    rw [te_ca a.1 (by omega)]
    cases e : te_cm P D[i] with
    | true =>
      rw [if_pos rfl]
      refine br_f (by decide) ⟨vp_in_nI (by omega) (by omega), pk_eq (te_res P D[i]) r (fun z => nm_r (nI_1 _) (nm_r (nI_1 i) ?_)) (fun z => nm_r (nI_1 i) ?_) (te_ca a.2 (by omega)) rfl (by omega) (by omega)⟩
      · rw [show te_fr P r D[i] = true by unfold te_fr; rw [e, decide_eq_true z]; rfl] at I
        exact I
      · rw [show te_fr P r D[i] = false by unfold te_fr; rw [decide_eq_false z, Bool.and_false]] at I
        exact I
    | false =>
      rw [if_neg Bool.false_ne_true]
      rw [show te_fr P r D[i] = false by unfold te_fr; rw [e]; rfl] at I
      exact br_t rfl (nm_r (nI_1 i) I)
theorem te_ymany {post : Int32 → Prop} (ok : te_ok P) {D : List (List Nat)} (fD : ∀ d, d ∈ D → te_fs P d) (hD : D.length < 1700) (A : te_AD P D kn yke ywo you) {r : Nat} (hr : r < 512) (H : post (nI (D.countP (te_fr P r)))) : wpY_many post (dp, ru, kn, sh, (te_n (te_sz P)), (te_n (te_wh P)), (te_n (te_am P)), (te_n (te_st P)), yro, ydo, yva, yhe, yha, ypl, yke, ywo, you, ypk, yen, yea) (nI r) :=
  ⟨D.length + 1, te_ym4 ok fD hD A hr H D.length 0 (by omega)⟩
theorem te_yr8 {post : Int32 → SY → Prop} (ok : te_ok P) {D : List (List Nat)} (fD : ∀ d, d ∈ D → te_fs P d) (hD : D.length < 1700) (A : te_AD P D kn yke ywo you) (c : Nat → Nat) (hc : ∀ r, r < 512 → D.countP (te_fr P r) = c r ∧ c r ≤ 1680) (H : post (nI (te_rs c 512)) (dp, ru, kn, sh, (te_n (te_sz P)), (te_n (te_wh P)), (te_n (te_am P)), (te_n (te_st P)), yro, ydo, yva, yhe, yha, ypl, yke, ywo, you, ypk, yen, yea)) : ∀ m j, j + m = 512 → wY_results_8 post dp ru kn sh (te_n (te_sz P)) (te_n (te_wh P)) (te_n (te_am P)) (te_n (te_st P)) yro ydo yva yhe yha ypl yke ywo you ypk yen yea (m + 1) (nI (te_rs c j)) (nI j) := by
  intro m
  induction m with
  | zero =>
    intro j hj
    have e : j = 512 := by omega
    subst e
    exact br_t (nI_le (a := 512) (by omega) (by omega)) H
  | succ m ih =>
    intro j hj
    have I := ih (j + 1) (by omega)
    have h := hc j (by omega)
    rw [te_rs] at I
    refine br_f (nI_ge (b := 512) (by omega) (by omega)) (te_ymany ok fD hD A (by omega) ?_)
    refine pk_le (c j) 0 (fun z => nm_r (nI_1 j) ?_) (fun z => nm_r (nI_1 _) (nm_r (nI_1 j) ?_)) (congrArg nI h.1) rfl (by omega) (by omega)
    · rw [if_pos (by omega), Nat.add_zero] at I
      exact I
    · rw [if_neg (by omega)] at I
      exact I
theorem te_yn6 {post : Int32 → SY → Prop} (ok : te_ok P) {D : List (List Nat)} (fD : ∀ d, d ∈ D → te_fs P d) (hD : D.length < 1700) (A : te_AD P D kn yke ywo you) (c : Nat → Nat) (hc : ∀ r, r < 512 → D.countP (te_fr P r) = c r ∧ c r ≤ 1680) (p : Int32) : ∀ m j, j + m = 512 → post (te_nr (fun r => decide (¬ nI r ≤ p) && decide (c r ≠ 0)) m j) (dp, ru, kn, sh, (te_n (te_sz P)), (te_n (te_wh P)), (te_n (te_am P)), (te_n (te_st P)), yro, ydo, yva, yhe, yha, ypl, yke, ywo, you, ypk, yen, yea) → wY_nextResult_6 post p dp ru kn sh (te_n (te_sz P)) (te_n (te_wh P)) (te_n (te_am P)) (te_n (te_st P)) yro ydo yva yhe yha ypl yke ywo you ypk yen yea (m + 1) (nI j) := by
  intro m
  induction m with
  | zero =>
    intro j hj H
    have e : j = 512 := by omega
    subst e
    exact br_t (nI_le (a := 512) (by omega) (by omega)) H
  | succ m ih =>
    intro j hj H
    have h := hc j (by omega)
    rw [te_nr] at H
    refine br_f (nI_ge (b := 512) (by omega) (by omega)) (br_c (fun z => nm_r (nI_1 j) (ih (j + 1) (by omega) ?_)) (fun z => te_ymany ok fD hD A (by omega) (pk_le (c j) 0 (fun y => nm_r (nI_1 j) (ih (j + 1) (by omega) ?_)) (fun y => ?_) (congrArg nI h.1) rfl (by omega) (by omega))))
    · rw [if_neg (by rw [decide_eq_false (fun q => q z)]; exact Bool.false_ne_true)] at H
      exact H
    · rw [if_neg (by rw [decide_eq_false (p := c j ≠ 0) (by omega), Bool.and_false]; exact Bool.false_ne_true)] at H
      exact H
    · rw [if_pos (by rw [decide_eq_true z, decide_eq_true (p := c j ≠ 0) (by omega)]; rfl)] at H
      exact H
end
end
section
/-! the owed statements that go through the search -/
theorem te_xe0 {P : te_P} (ok : te_ok P) {a b : Nat} {post : SX → Prop} {rc kc sc sh io : Int32} {xS xD xZ xT xO xF xK xE : Nat → Int32} (ha : a < 9) (hb : b < 9) (H : ∀ rc kc sc sh io xS xD xZ xT xO xF xK xE, te_AX P (te_V P false) (te_L P false) a b rc kc sc sh io xF xK xE → post (rc, kc, sc, sh, nI a, nI b, io, (te_n (te_sz P)), (te_n (te_op P)), (te_n (te_pl P)), (te_n (te_am P)), (te_n (te_st P)), xS, xD, xZ, xT, xO, xF, xK, xE)) : wpX_explore post (rc, kc, sc, sh, nI a, nI b, io, (te_n (te_sz P)), (te_n (te_op P)), (te_n (te_pl P)), (te_n (te_am P)), (te_n (te_st P)), xS, xD, xZ, xT, xO, xF, xK, xE) 0 := te_xexplore ok false ha hb H
theorem te_xe1 {P : te_P} (ok : te_ok P) {a b : Nat} {post : SX → Prop} {rc kc sc sh io : Int32} {xS xD xZ xT xO xF xK xE : Nat → Int32} (ha : a < 9) (hb : b < 9) (H : ∀ rc kc sc sh io xS xD xZ xT xO xF xK xE, te_AX P (te_V P true) (te_L P true) a b rc kc sc sh io xF xK xE → post (rc, kc, sc, sh, nI a, nI b, io, (te_n (te_sz P)), (te_n (te_op P)), (te_n (te_pl P)), (te_n (te_am P)), (te_n (te_st P)), xS, xD, xZ, xT, xO, xF, xK, xE)) : wpX_explore post (rc, kc, sc, sh, nI a, nI b, io, (te_n (te_sz P)), (te_n (te_op P)), (te_n (te_pl P)), (te_n (te_am P)), (te_n (te_st P)), xS, xD, xZ, xT, xO, xF, xK, xE) 1 := te_xexplore ok true ha hb H
theorem te_Dfs {P : te_P} (ok : te_ok P) : (∀ d, d ∈ te_dd P (te_L P false) → te_fs P d) ∧ (te_dd P (te_L P false)).length < 1700 := by
  have h := te_dd_p P (te_L P false)
  have l := te_L_len ok false
  exact ⟨fun d hd => te_Vfs ok (te_LtV (h.2.1 d hd)), by omega⟩
theorem te_cle {P : te_P} (ok : te_ok P) (r : Nat) : (te_L P true).countP (te_fr P r) ≤ 1680 := Nat.le_trans List.countP_le_length (te_L_len ok true)
theorem i_vc_runs {k : Nat} {u : SX} {v : SY} (I : i_Rel k u v) (hk : k + 4 ≤ 2048) : wpX_runs (fun r u' => wpY_runs (fun r' v' => r' = r ∧ i_Rel (k + 4) u' v') v) u := by
  refine te_el (Q := fun u v => wpX_runs (fun r u' => wpY_runs (fun r' v' => r' = r ∧ i_Rel (k + 4) u' v') v) u) I ?_
  intro P a b rc kc sc sh io dp ru kn sh' xS xD xZ xT xO xF xK xE yro ydo yva yhe yha ypl ywo you ypk yen yea yke ok ha hb
  unfold wpX_runs wpY_runs
  refine te_xe0 ok ha hb (fun rc kc sc sh io xS xD xZ xT xO xF xK xE A => ?_)
  refine te_yexplore ok (fun dp ru kn sh' yro ydo yva yhe yha ypl yke ywo you ypk yen yea B => ?_)
  refine ⟨?_, te_in ok ha hb⟩
  exact B.1.trans A.1.symm
theorem i_vc_kinds {k : Nat} {u : SX} {v : SY} (I : i_Rel k u v) (hk : k + 4 ≤ 2048) : wpX_kinds (fun r u' => wpY_kinds (fun r' v' => r' = r ∧ i_Rel (k + 4) u' v') v) u := by
  refine te_el (Q := fun u v => wpX_kinds (fun r u' => wpY_kinds (fun r' v' => r' = r ∧ i_Rel (k + 4) u' v') v) u) I ?_
  intro P a b rc kc sc sh io dp ru kn sh' xS xD xZ xT xO xF xK xE yro ydo yva yhe yha ypl ywo you ypk yen yea yke ok ha hb
  unfold wpX_kinds wpY_kinds
  refine te_xe1 ok ha hb (fun rc kc sc sh io xS xD xZ xT xO xF xK xE A => ?_)
  refine te_yexplore ok (fun dp ru kn sh' yro ydo yva yhe yha ypl yke ywo you ypk yen yea B => ?_)
  refine ⟨?_, te_in ok ha hb⟩
  rw [B.2.1.1, A.2.1, te_F_len ok]
theorem i_vc_shortestStuck {k : Nat} {u : SX} {v : SY} (I : i_Rel k u v) (hk : k + 4 ≤ 2048) : wpX_shortestStuck (fun r u' => wpY_shortestStuck (fun r' v' => r' = r ∧ i_Rel (k + 4) u' v') v) u := by
  refine te_el (Q := fun u v => wpX_shortestStuck (fun r u' => wpY_shortestStuck (fun r' v' => r' = r ∧ i_Rel (k + 4) u' v') v) u) I ?_
  intro P a b rc kc sc sh io dp ru kn sh' xS xD xZ xT xO xF xK xE yro ydo yva yhe yha ypl ywo you ypk yen yea yke ok ha hb
  unfold wpX_shortestStuck wpY_shortestStuck
  refine te_xe1 ok ha hb (fun rc kc sc sh io xS xD xZ xT xO xF xK xE A => ?_)
  refine te_yexplore ok (fun dp ru kn sh' yro ydo yva yhe yha ypl yke ywo you ypk yen yea B => ?_)
  refine ⟨?_, te_in ok ha hb⟩
  rw [B.2.2.1, A.2.2.2.1, te_F_mn ok]
theorem i_vc_stuckKinds {k : Nat} {u : SX} {v : SY} (I : i_Rel k u v) (hk : k + 4 ≤ 2048) : wpX_stuckKinds (fun r u' => wpY_stuckKinds (fun r' v' => r' = r ∧ i_Rel (k + 4) u' v') v) u := by
  refine te_el (Q := fun u v => wpX_stuckKinds (fun r u' => wpY_stuckKinds (fun r' v' => r' = r ∧ i_Rel (k + 4) u' v') v) u) I ?_
  intro P a b rc kc sc sh io dp ru kn sh' xS xD xZ xT xO xF xK xE yro ydo yva yhe yha ypl ywo you ypk yen yea yke ok ha hb
  unfold wpX_stuckKinds wpY_stuckKinds
  refine te_xe1 ok ha hb (fun rc kc sc sh io xS xD xZ xT xO xF xK xE A => ?_)
  refine te_yexplore ok (fun dp ru kn sh' yro ydo yva yhe yha ypl yke ywo you ypk yen yea B => ?_)
  refine ⟨(te_dd P (te_L P false)).length + 1, te_ys8 (te_Dfs ok).2 B.2.1 ⟨?_, te_in ok ha hb⟩ (te_dd P (te_L P false)).length 0 (by omega)⟩
  rw [A.2.2.1, te_F_sk ok]
theorem i_vc_results {k : Nat} {u : SX} {v : SY} (I : i_Rel k u v) (hk : k + 4 ≤ 2048) : wpX_results (fun r u' => wpY_results (fun r' v' => r' = r ∧ i_Rel (k + 4) u' v') v) u := by
  refine te_el (Q := fun u v => wpX_results (fun r u' => wpY_results (fun r' v' => r' = r ∧ i_Rel (k + 4) u' v') v) u) I ?_
  intro P a b rc kc sc sh io dp ru kn sh' xS xD xZ xT xO xF xK xE yro ydo yva yhe yha ypl ywo you ypk yen yea yke ok ha hb
  unfold wpX_results wpY_results
  refine te_xe1 ok ha hb (fun rc kc sc sh io xS xD xZ xT xO xF xK xE A => ?_)
  refine ⟨513, te_xr9 (fun r => (te_L P true).countP (te_fr P r)) (fun r hr => ⟨A.2.2.2.2.2.2.1 r hr, te_cle ok r⟩) ?_ 512 0 (by omega)⟩
  refine te_yexplore ok (fun dp ru kn sh' yro ydo yva yhe yha ypl yke ywo you ypk yen yea B => ?_)
  exact ⟨513, te_yr8 ok (te_Dfs ok).1 (te_Dfs ok).2 B.2.1 (fun r => (te_L P true).countP (te_fr P r)) (fun r _ => ⟨te_F_fr ok r, te_cle ok r⟩) ⟨rfl, te_in ok ha hb⟩ 512 0 (by omega)⟩
theorem i_vc_nextResult {k : Nat} {u : SX} {v : SY} (I : i_Rel k u v) (hk : k + 4 ≤ 2048) (v1 : Int32) : wpX_nextResult (fun r u' => wpY_nextResult (fun r' v' => r' = r ∧ i_Rel (k + 4) u' v') v v1) u v1 := by
  refine te_el (Q := fun u v => wpX_nextResult (fun r u' => wpY_nextResult (fun r' v' => r' = r ∧ i_Rel (k + 4) u' v') v v1) u v1) I ?_
  intro P a b rc kc sc sh io dp ru kn sh' xS xD xZ xT xO xF xK xE yro ydo yva yhe yha ypl ywo you ypk yen yea yke ok ha hb
  unfold wpX_nextResult wpY_nextResult
  refine te_xe1 ok ha hb (fun rc kc sc sh io xS xD xZ xT xO xF xK xE A => ?_)
  refine br_c (fun z => ⟨513, te_xn18 (fun r => (te_L P true).countP (te_fr P r)) (fun r hr => ⟨A.2.2.2.2.2.2.1 r hr, te_cle ok r⟩) v1 512 0 (by omega) ?_⟩) (fun z => ⟨513, te_xn18 (fun r => (te_L P true).countP (te_fr P r)) (fun r hr => ⟨A.2.2.2.2.2.2.1 r hr, te_cle ok r⟩) (-1) 512 0 (by omega) ?_⟩)
  · refine te_yexplore ok (fun dp ru kn sh' yro ydo yva yhe yha ypl yke ywo you ypk yen yea B => ?_)
    exact ⟨513, te_yn6 ok (te_Dfs ok).1 (te_Dfs ok).2 B.2.1 (fun r => (te_L P true).countP (te_fr P r)) (fun r _ => ⟨te_F_fr ok r, te_cle ok r⟩) v1 512 0 (by omega) ⟨rfl, te_in ok ha hb⟩⟩
  · refine te_yexplore ok (fun dp ru kn sh' yro ydo yva yhe yha ypl yke ywo you ypk yen yea B => ?_)
    refine ⟨513, te_yn6 ok (te_Dfs ok).1 (te_Dfs ok).2 B.2.1 (fun r => (te_L P true).countP (te_fr P r)) (fun r _ => ⟨te_F_fr ok r, te_cle ok r⟩) v1 512 0 (by omega) ⟨te_nr_e (fun j hj => ?_) 512 0 (by omega), te_in ok ha hb⟩⟩
    have n1 : ¬ nI j ≤ -1 := fun q => absurd (Int32.le_trans (nI_pos' (n := j) (by omega)) q) (by decide)
    have n2 : ¬ nI j ≤ v1 := by
      intro q
      have y : v1 < -1 := Int32.not_le.mp z
      exact n1 (Int32.le_trans q (Int32.le_of_lt y))
    show (decide (¬ nI j ≤ v1) && _) = (decide (¬ nI j ≤ -1) && _)
    rw [decide_eq_true n1, decide_eq_true n2]
theorem i_vc_kindsOf {k : Nat} {u : SX} {v : SY} (I : i_Rel k u v) (hk : k + 4 ≤ 2048) (v1 : Int32) : wpX_kindsOf (fun r u' => wpY_kindsOf (fun r' v' => r' = r ∧ i_Rel (k + 4) u' v') v v1) u v1 := by
  refine te_el (Q := fun u v => wpX_kindsOf (fun r u' => wpY_kindsOf (fun r' v' => r' = r ∧ i_Rel (k + 4) u' v') v v1) u v1) I ?_
  intro P a b rc kc sc sh io dp ru kn sh' xS xD xZ xT xO xF xK xE yro ydo yva yhe yha ypl ywo you ypk yen yea yke ok ha hb
  unfold wpX_kindsOf wpY_kindsOf
  rcases te_rng v1 (n := 511) (by omega) with h | ⟨h0, h7⟩ | ⟨j, hj, rfl⟩
  · exact br_t h (br_t h ⟨rfl, te_in ok ha hb⟩)
  · exact br_f h0 (br_f h7 (br_f h0 (br_f h7 ⟨rfl, te_in ok ha hb⟩)))
  · have h0 : ¬ nI j < 0 := nI_pos (by omega)
    have h7 : nI j ≤ 511 := nI_le (b := 511) hj (by omega)
    refine br_f h0 (br_t h7 ?_)
    refine te_xe1 ok ha hb (fun rc kc sc sh io xS xD xZ xT xO xF xK xE A => ?_)
    refine ⟨vp_in_nI (by omega) (by omega), br_f h0 (br_t h7 ?_)⟩
    refine te_yexplore ok (fun dp ru kn sh' yro ydo yva yhe yha ypl yke ywo you ypk yen yea B => ?_)
    refine te_ymany ok (te_Dfs ok).1 (te_Dfs ok).2 B.2.1 (by omega) ?_
    refine ⟨?_, te_in ok ha hb⟩
    rw [te_ca (A.2.2.2.2.2.2.1 j (by omega)) (by omega), te_F_fr ok]
theorem i_vc_peak {k : Nat} {u : SX} {v : SY} (I : i_Rel k u v) (hk : k + 4 ≤ 2048) (v1 : Int32) : wpX_peak (fun r u' => wpY_peak (fun r' v' => r' = r ∧ i_Rel (k + 4) u' v') v v1) u v1 := by
  refine te_el (Q := fun u v => wpX_peak (fun r u' => wpY_peak (fun r' v' => r' = r ∧ i_Rel (k + 4) u' v') v v1) u v1) I ?_
  intro P a b rc kc sc sh io dp ru kn sh' xS xD xZ xT xO xF xK xE yro ydo yva yhe yha ypl ywo you ypk yen yea yke ok ha hb
  unfold wpX_peak wpY_peak
  rcases te_thr v1 with ⟨t, ht, rfl⟩ | ⟨hx, hy⟩
  · refine te_xth ht ?_
    refine br_f (by decide) ?_
    refine te_xe1 ok ha hb (fun rc kc sc sh io xS xD xZ xT xO xF xK xE A => ?_)
    refine ⟨vp_in_nI ht (by omega), ?_⟩
    refine te_yth ht ?_
    refine br_t rfl ?_
    refine te_yexplore ok (fun dp ru kn sh' yro ydo yva yhe yha ypl yke ywo you ypk yen yea B => ?_)
    refine ⟨vp_in_nI ht (by omega), ?_, te_in ok ha hb⟩
    rw [te_ca (A.2.2.2.2.2.2.2.1 t ht).1 (by omega), te_ca (B.2.2.2.2.1 t ht).1 (by omega), te_F_pk ok]
  · refine hx _ ?_
    refine br_t rfl ?_
    refine hy _ _ ?_
    exact br_f (by decide) ⟨rfl, te_in ok ha hb⟩
theorem i_vc_endings {k : Nat} {u : SX} {v : SY} (I : i_Rel k u v) (hk : k + 4 ≤ 2048) (v1 : Int32) : wpX_endings (fun r u' => wpY_endings (fun r' v' => r' = r ∧ i_Rel (k + 4) u' v') v v1) u v1 := by
  refine te_el (Q := fun u v => wpX_endings (fun r u' => wpY_endings (fun r' v' => r' = r ∧ i_Rel (k + 4) u' v') v v1) u v1) I ?_
  intro P a b rc kc sc sh io dp ru kn sh' xS xD xZ xT xO xF xK xE yro ydo yva yhe yha ypl ywo you ypk yen yea yke ok ha hb
  unfold wpX_endings wpY_endings
  rcases te_thr v1 with ⟨t, ht, rfl⟩ | ⟨hx, hy⟩
  · refine te_xth ht ?_
    refine br_f (by decide) ?_
    refine te_xe1 ok ha hb (fun rc kc sc sh io xS xD xZ xT xO xF xK xE A => ?_)
    refine ⟨vp_in_nI ht (by omega), ?_⟩
    refine te_yth ht ?_
    refine br_t rfl ?_
    refine te_yexplore ok (fun dp ru kn sh' yro ydo yva yhe yha ypl yke ywo you ypk yen yea B => ?_)
    refine ⟨vp_in_nI ht (by omega), ?_, te_in ok ha hb⟩
    rw [te_ca (A.2.2.2.2.2.2.2.2 t ht) (by omega), te_ca (B.2.2.2.2.2.1 t ht) (by omega), te_F_es ok]
  · refine hx _ ?_
    refine br_t rfl ?_
    refine hy _ _ ?_
    exact br_f (by decide) ⟨rfl, te_in ok ha hb⟩
/-! two steps named -/
theorem te_ref {P : te_P} (ok : te_ok P) {a b : Nat} (ha : a < 9) (hb : b < 9) {rc kc sc sh io dp ru kn sh' : Int32} {xS xD xZ xT xO xF xK xE yro ydo yva yhe yha ypl ywo you ypk yen yea : Nat → Int32} {yke : Nat → Int64} (p0 p1 : Int32) :
    (∃ (r : Int32) (a' b' : Nat), ¬ 0 ≤ r ∧ a' < 9 ∧ b' < 9 ∧ (∀ post : Int32 → SX → Prop, post r (rc, kc, sc, sh, nI a', nI b', io, (te_n (te_sz P)), (te_n (te_op P)), (te_n (te_pl P)), (te_n (te_am P)), (te_n (te_st P)), xS, xD, xZ, xT, xO, xF, xK, xE) → wpX_refused post (rc, kc, sc, sh, nI a, nI b, io, (te_n (te_sz P)), (te_n (te_op P)), (te_n (te_pl P)), (te_n (te_am P)), (te_n (te_st P)), xS, xD, xZ, xT, xO, xF, xK, xE) p0 p1) ∧ (∀ post : Int32 → Prop, post r → wpY_refusal post (dp, ru, kn, sh', (te_n (te_sz P)), (te_n (te_wh P)), (te_n (te_am P)), (te_n (te_st P)), yro, ydo, yva, yhe, yha, ypl, yke, ywo, you, ypk, yen, yea) p0 p1))
    ∨ (∃ q0 q1 : Nat, q0 < 12 ∧ q1 < 12 ∧ p0 = nI q0 ∧ p1 = nI q1 ∧ q0 % 4 < te_sz P (q0 / 4) ∧ q1 % 4 < te_sz P (q1 / 4) ∧ (∀ post : Int32 → SX → Prop, post 0 (rc, kc, sc, sh, nI (3 * (q0 / 4) + q0 % 4), nI (3 * (q1 / 4) + q1 % 4), io, (te_n (te_sz P)), (te_n (te_op P)), (te_n (te_pl P)), (te_n (te_am P)), (te_n (te_st P)), xS, xD, xZ, xT, xO, xF, xK, xE) → wpX_refused post (rc, kc, sc, sh, nI a, nI b, io, (te_n (te_sz P)), (te_n (te_op P)), (te_n (te_pl P)), (te_n (te_am P)), (te_n (te_st P)), xS, xD, xZ, xT, xO, xF, xK, xE) p0 p1) ∧ (∀ post : Int32 → Prop, post 0 → wpY_refusal post (dp, ru, kn, sh', (te_n (te_sz P)), (te_n (te_wh P)), (te_n (te_am P)), (te_n (te_st P)), yro, ydo, yva, yhe, yha, ypl, yke, ywo, you, ypk, yen, yea) p0 p1)) := by
  have sh2 : ∀ q, q < 2 ^ 31 → nI q >>> ((2 : Int32) &&& 31) = nI (q / 4) := fun q hq => te_shr (k := 2) hq (by omega)
  have m3 : ∀ q, q < 2 ^ 31 → nI q &&& 3 = nI (q % 4) := fun q hq => te_m3 (by omega)
  have d4 : ∀ q, q < 2 ^ 31 → nI q / (4 : Int32) = nI (q / 4) := fun q hq => pk_div (d := 4) hq (by omega) (by omega)
  have r4 : ∀ q, q < 2 ^ 31 → nI q - nI q / (4 : Int32) * 4 = nI (q % 4) := fun q hq => pk_rem (d := 4) hq (by omega) (by omega)
  have noth : ∀ (q : Nat) (post : Int32 → Prop), q < 2 ^ 31 → ¬ q < 12 → post 0 → wpX_isThread post (nI (q / 4)) := fun q post hq h12 h => br_f (nI_pos (by omega)) (br_t (nI_le (a := 3) (by omega) (by omega)) h)
  by_cases n0 : p0 < 0
  · exact Or.inl ⟨-1, a, b, by decide, ha, hb, fun _ h => nm_e (nm_e (br_t n0 h)), fun _ h => br_t n0 h⟩
  obtain ⟨q0, l0, rfl⟩ := nI_of n0
  by_cases n1 : p1 < 0
  · refine Or.inl ⟨-1, a, b, by decide, ha, hb, fun _ h => nm_e (nm_e (br_f n0 (br_t n1 h))), fun _ h => br_f n0 (br_c (fun _ => h) (fun _ => br_t n1 h))⟩
  obtain ⟨q1, l1, rfl⟩ := nI_of n1
  by_cases g0 : q0 < 12
  · by_cases g1 : q1 < 12
    · have y0 : ¬ (11 : Int32) < nI q0 := nI_nlt (a := 11) (by omega) (by omega)
      have y1 : nI q1 ≤ 11 := nI_le (b := 11) (by omega) (by omega)
      have z0 := ok.1 (q0 / 4)
      have z1 := ok.1 (q1 / 4)
      have t0 : vp_in (nI (q0 / 4)) 3 := vp_in_nI (by omega) (by omega)
      have t1 : vp_in (nI (q1 / 4)) 3 := vp_in_nI (by omega) (by omega)
      have t0' : vp_in (nI q0 / 4) 3 := by rw [d4 q0 l0]; exact t0
      have t1' : vp_in (nI q1 / 4) 3 := by rw [d4 q1 l1]; exact t1
      have s0 : te_n (te_sz P) (nI (q0 / 4)).toNatClampNeg = nI (te_sz P (q0 / 4)) := te_na _ (by omega)
      have s1 : te_n (te_sz P) (nI (q1 / 4)).toNatClampNeg = nI (te_sz P (q1 / 4)) := te_na _ (by omega)
      have s0' : te_n (te_sz P) (nI q0 / 4).toNatClampNeg = nI (te_sz P (q0 / 4)) := by rw [d4 q0 l0]; exact s0
      have s1' : te_n (te_sz P) (nI q1 / 4).toNatClampNeg = nI (te_sz P (q1 / 4)) := by rw [d4 q1 l1]; exact s1
      by_cases c0 : q0 % 4 < te_sz P (q0 / 4)
      · have x0 : ¬ te_n (te_sz P) (nI (q0 / 4)).toNatClampNeg ≤ nI q0 &&& 3 := by rw [s0, m3 q0 l0]; exact nI_ge c0 (by omega)
        have x0' : ¬ te_n (te_sz P) (nI q0 / 4).toNatClampNeg ≤ nI q0 - nI q0 / 4 * 4 := by rw [s0', r4 q0 l0]; exact nI_ge c0 (by omega)
        by_cases c1 : q1 % 4 < te_sz P (q1 / 4)
        · have x1 : nI q1 &&& 3 < te_n (te_sz P) (nI (q1 / 4)).toNatClampNeg := by rw [s1, m3 q1 l1]; exact nI_lt c1 (by omega)
          have x1' : nI q1 - nI q1 / 4 * 4 < te_n (te_sz P) (nI q1 / 4).toNatClampNeg := by rw [s1', r4 q1 l1]; exact nI_lt c1 (by omega)
          have f0 : (3 : Int32) * nI (q0 / 4) + (nI q0 &&& 3) = nI (3 * (q0 / 4) + q0 % 4) := by rw [m3 q0 l0, show (3 : Int32) * nI (q0 / 4) = nI (3 * (q0 / 4)) from pk_mul 3 _, nI_add]
          have f1 : (3 : Int32) * nI (q1 / 4) + (nI q1 &&& 3) = nI (3 * (q1 / 4) + q1 % 4) := by rw [m3 q1 l1, show (3 : Int32) * nI (q1 / 4) = nI (3 * (q1 / 4)) from pk_mul 3 _, nI_add]
          by_cases e : nI q0 = nI q1
          · refine Or.inl ⟨-3, 3 * (q0 / 4) + q0 % 4, 3 * (q1 / 4) + q1 % 4, by decide, by omega, by omega, fun post h => ?_, fun post h => ?_⟩
            · refine nm_r (sh2 q0 l0) (nm_r (sh2 q1 l1) (br_f n0 (br_f n1 ?_)))
              refine te_xth (by omega) ?_
              refine br_f (by decide) ?_
              refine te_xth (by omega) ?_
              exact br_f (by decide) ⟨t0, br_f x0 ⟨t1, br_t x1 (nm_r f0 (nm_r f1 (br_t e h)))⟩⟩
            · exact br_f n0 (br_f y0 (br_f n1 (br_t y1 ⟨by decide, by decide, t0', br_f x0' ⟨by decide, by decide, t1', br_t x1' (br_t e h)⟩⟩)))
          · refine Or.inr ⟨q0, q1, g0, g1, rfl, rfl, c0, c1, fun post h => ?_, fun post h => ?_⟩
            · refine nm_r (sh2 q0 l0) (nm_r (sh2 q1 l1) (br_f n0 (br_f n1 ?_)))
              refine te_xth (by omega) ?_
              refine br_f (by decide) ?_
              refine te_xth (by omega) ?_
              exact br_f (by decide) ⟨t0, br_f x0 ⟨t1, br_t x1 (nm_r f0 (nm_r f1 (br_f e h)))⟩⟩
            · exact br_f n0 (br_f y0 (br_f n1 (br_t y1 ⟨by decide, by decide, t0', br_f x0' ⟨by decide, by decide, t1', br_t x1' (br_f e h)⟩⟩)))
        · have x1 : ¬ nI q1 &&& 3 < te_n (te_sz P) (nI (q1 / 4)).toNatClampNeg := by rw [s1, m3 q1 l1]; exact nI_nlt (by omega) (by omega)
          have x1' : ¬ nI q1 - nI q1 / 4 * 4 < te_n (te_sz P) (nI q1 / 4).toNatClampNeg := by rw [s1', r4 q1 l1]; exact nI_nlt (by omega) (by omega)
          refine Or.inl ⟨-2, a, b, by decide, ha, hb, fun post h => ?_, fun post h => ?_⟩
          · refine nm_r (sh2 q0 l0) (nm_r (sh2 q1 l1) (br_f n0 (br_f n1 ?_)))
            refine te_xth (by omega) ?_
            refine br_f (by decide) ?_
            refine te_xth (by omega) ?_
            exact br_f (by decide) ⟨t0, br_f x0 ⟨t1, br_f x1 h⟩⟩
          · exact br_f n0 (br_f y0 (br_f n1 (br_t y1 ⟨by decide, by decide, t0', br_f x0' ⟨by decide, by decide, t1', br_f x1' h⟩⟩)))
      · have x0 : te_n (te_sz P) (nI (q0 / 4)).toNatClampNeg ≤ nI q0 &&& 3 := by rw [s0, m3 q0 l0]; exact nI_le (by omega) (by omega)
        have x0' : te_n (te_sz P) (nI q0 / 4).toNatClampNeg ≤ nI q0 - nI q0 / 4 * 4 := by rw [s0', r4 q0 l0]; exact nI_le (by omega) (by omega)
        refine Or.inl ⟨-2, a, b, by decide, ha, hb, fun post h => ?_, fun post h => ?_⟩
        · refine nm_r (sh2 q0 l0) (nm_r (sh2 q1 l1) (br_f n0 (br_f n1 ?_)))
          refine te_xth (by omega) ?_
          refine br_f (by decide) ?_
          refine te_xth (by omega) ?_
          exact br_f (by decide) ⟨t0, br_t x0 h⟩
        · exact br_f n0 (br_f y0 (br_f n1 (br_t y1 ⟨by decide, by decide, t0', br_t x0' h⟩)))
    · have y0 : ¬ (11 : Int32) < nI q0 := nI_nlt (a := 11) (by omega) (by omega)
      have y1 : ¬ nI q1 ≤ 11 := nI_ge (a := 11) (by omega) (by omega)
      refine Or.inl ⟨-1, a, b, by decide, ha, hb, fun post h => ?_, fun post h => ?_⟩
      · refine nm_r (sh2 q0 l0) (nm_r (sh2 q1 l1) (br_f n0 (br_f n1 ?_)))
        refine te_xth (by omega) ?_
        refine br_f (by decide) ?_
        refine noth q1 _ l1 g1 ?_
        exact br_t rfl h
      · exact br_f n0 (br_f y0 (br_f n1 (br_f y1 h)))
  · have y0 : (11 : Int32) < nI q0 := nI_lt (a := 11) (by omega) (by omega)
    refine Or.inl ⟨-1, a, b, by decide, ha, hb, fun post h => ?_, fun post h => ?_⟩
    · refine nm_r (sh2 q0 l0) (nm_r (sh2 q1 l1) (br_f n0 (br_f n1 ?_)))
      refine noth q0 _ l0 g0 ?_
      exact br_t rfl h
    · exact br_f n0 (br_t y0 h)
theorem te_ix {q : Nat} (h : q < 12) : (3 : Int32) * (nI q / 4) + (nI q - nI q / 4 * 4) = nI (3 * (q / 4) + q % 4) := by
  rw [show nI q - nI q / (4 : Int32) * 4 = nI (q % 4) from pk_rem (d := 4) (by omega) (by omega) (by omega), show nI q / (4 : Int32) = nI (q / 4) from pk_div (d := 4) (by omega) (by omega) (by omega), show (3 : Int32) * nI (q / 4) = nI (3 * (q / 4)) from pk_mul 3 _, nI_add]
theorem te_ix9 {q r : Nat} (h : q < 12) (h' : r < 12) : (9 : Int32) * (3 * (nI q / 4) + (nI q - nI q / 4 * 4)) + 3 * (nI r / 4) + (nI r - nI r / 4 * 4) = nI (9 * (3 * (q / 4) + q % 4) + (3 * (r / 4) + r % 4)) := by
  rw [te_ix h, Int32.add_assoc, te_ix h', show (9 : Int32) * nI (3 * (q / 4) + q % 4) = nI (9 * (3 * (q / 4) + q % 4)) from pk_mul 9 _, nI_add]
theorem i_vc_before {k : Nat} {u : SX} {v : SY} (I : i_Rel k u v) (hk : k + 4 ≤ 2048) (v1 : Int32) (v2 : Int32) : wpX_before (fun r u' => wpY_before (fun r' v' => r' = r ∧ i_Rel (k + 4) u' v') v v1 v2) u v1 v2 := by
  refine te_el (Q := fun u v => wpX_before (fun r u' => wpY_before (fun r' v' => r' = r ∧ i_Rel (k + 4) u' v') v v1 v2) u v1 v2) I ?_
  intro P a b rc kc sc sh io dp ru kn sh' xS xD xZ xT xO xF xK xE yro ydo yva yhe yha ypl ywo you ypk yen yea yke ok ha hb
  unfold wpX_before wpY_before
  rcases te_ref (P := P) (rc := rc) (kc := kc) (sc := sc) (sh := sh) (io := io) (dp := dp) (ru := ru) (kn := kn) (sh' := sh') (xS := xS) (xD := xD) (xZ := xZ) (xT := xT) (xO := xO) (xF := xF) (xK := xK) (xE := xE) (yro := yro) (ydo := ydo) (yva := yva) (yhe := yhe) (yha := yha) (ypl := ypl) (ywo := ywo) (you := you) (ypk := ypk) (yen := yen) (yea := yea) (yke := yke) ok ha hb v1 v2 with ⟨r, a', b', hr, ha', hb', hX, hY⟩ | ⟨q0, q1, g0, g1, rfl, rfl, c0, c1, hX, hY⟩
  · refine hX _ ?_
    refine br_f hr ?_
    refine hY _ ?_
    exact br_f hr ⟨rfl, te_in ok ha' hb'⟩
  · have z0 := ok.1 (q0 / 4)
    have z1 := ok.1 (q1 / 4)
    have a9 : 3 * (q0 / 4) + q0 % 4 < 9 := by omega
    have b9 : 3 * (q1 / 4) + q1 % 4 < 9 := by omega
    refine hX _ ?_
    refine br_t (by decide) ?_
    refine te_xe0 ok a9 b9 (fun rc kc sc sh io xS xD xZ xT xO xF xK xE A => ?_)
    have F := te_F_io ok a9 b9 (show (3 * (q0 / 4) + q0 % 4) % 3 < te_sz P ((3 * (q0 / 4) + q0 % 4) / 3) by rw [show (3 * (q0 / 4) + q0 % 4) % 3 = q0 % 4 by omega, show (3 * (q0 / 4) + q0 % 4) / 3 = q0 / 4 by omega]; exact c0) (show (3 * (q1 / 4) + q1 % 4) % 3 < te_sz P ((3 * (q1 / 4) + q1 % 4) / 3) by rw [show (3 * (q1 / 4) + q1 % 4) % 3 = q1 % 4 by omega, show (3 * (q1 / 4) + q1 % 4) / 3 = q1 / 4 by omega]; exact c1)
    have ai := A.2.2.2.2.2.1
    have go : ∀ r : Int32, r = (if te_ea P (te_L P false) (3 * (q0 / 4) + q0 % 4) (3 * (q1 / 4) + q1 % 4) = true then 1 else 0) → wpY_before (fun r' v' => r' = r ∧ i_Rel (k + 4) (rc, kc, sc, sh, nI (3 * (q0 / 4) + q0 % 4), nI (3 * (q1 / 4) + q1 % 4), io, (te_n (te_sz P)), (te_n (te_op P)), (te_n (te_pl P)), (te_n (te_am P)), (te_n (te_st P)), xS, xD, xZ, xT, xO, xF, xK, xE) v') (dp, ru, kn, sh', (te_n (te_sz P)), (te_n (te_wh P)), (te_n (te_am P)), (te_n (te_st P)), yro, ydo, yva, yhe, yha, ypl, yke, ywo, you, ypk, yen, yea) (nI q0) (nI q1) := by
      intro r er
      unfold wpY_before
      refine hY _ ?_
      refine br_t (by decide) ?_
      refine te_yexplore ok (fun dp ru kn sh' yro ydo yva yhe yha ypl yke ywo you ypk yen yea B => ?_)
      have bi := B.2.2.2.2.2.2 _ _ a9 b9
      have vi : vp_in (nI (9 * (3 * (q0 / 4) + q0 % 4) + (3 * (q1 / 4) + q1 % 4))) 81 := vp_in_nI (by omega) (by omega)
      refine ⟨by decide, by decide, by decide, by decide, by rw [te_ix9 g0 g1]; exact vi, ?_⟩
      rw [te_ix9 g0 g1, te_ca bi (by omega)]
      cases e : te_ea P (te_L P false) (3 * (q0 / 4) + q0 % 4) (3 * (q1 / 4) + q1 % 4) with
      | true => rw [e, if_pos rfl] at er; rw [if_pos rfl]; exact br_f (by decide) ⟨er.symm, te_in ok a9 b9⟩
      | false => rw [e, if_neg Bool.false_ne_true] at er; rw [if_neg Bool.false_ne_true]; exact br_t rfl ⟨er.symm, te_in ok a9 b9⟩
    unfold wpY_before at go
    rw [F] at ai
    cases e : te_ea P (te_L P false) (3 * (q0 / 4) + q0 % 4) (3 * (q1 / 4) + q1 % 4) with
    | true =>
      rw [e, if_pos rfl] at ai go
      refine br_f (by rw [ai]; decide) ?_
      exact go 1 rfl
    | false =>
      rw [e, if_neg Bool.false_ne_true] at ai go
      refine br_t ai ?_
      exact go 0 rfl
theorem i_vc_tied {k : Nat} {u : SX} {v : SY} (I : i_Rel k u v) (hk : k + 4 ≤ 2048) (v1 : Int32) (v2 : Int32) : wpX_tied (fun r u' => wpY_tied (fun r' => r' = r ∧ i_Rel (k + 4) u' v) v v1 v2) u v1 v2 := by
  refine te_el (Q := fun u v => wpX_tied (fun r u' => wpY_tied (fun r' => r' = r ∧ i_Rel (k + 4) u' v) v v1 v2) u v1 v2) I ?_
  intro P a b rc kc sc sh io dp ru kn sh' xS xD xZ xT xO xF xK xE yro ydo yva yhe yha ypl ywo you ypk yen yea yke ok ha hb
  unfold wpX_tied wpY_tied
  rcases te_ref (P := P) (rc := rc) (kc := kc) (sc := sc) (sh := sh) (io := io) (dp := dp) (ru := ru) (kn := kn) (sh' := sh') (xS := xS) (xD := xD) (xZ := xZ) (xT := xT) (xO := xO) (xF := xF) (xK := xK) (xE := xE) (yro := yro) (ydo := ydo) (yva := yva) (yhe := yhe) (yha := yha) (ypl := ypl) (ywo := ywo) (you := you) (ypk := ypk) (yen := yen) (yea := yea) (yke := yke) ok ha hb v1 v2 with ⟨r, a', b', hr, ha', hb', hX, hY⟩ | ⟨q0, q1, g0, g1, rfl, rfl, c0, c1, hX, hY⟩
  · refine hX _ ?_
    refine br_f hr ?_
    refine hY _ ?_
    exact br_f hr ⟨rfl, te_in ok ha' hb'⟩
  · have z0 := ok.1 (q0 / 4)
    have z1 := ok.1 (q1 / 4)
    have a9 : 3 * (q0 / 4) + q0 % 4 < 9 := by omega
    have b9 : 3 * (q1 / 4) + q1 % 4 < 9 := by omega
    refine hX _ ?_
    refine br_t (by decide) ?_
    refine te_xtied ok a9 b9 ?_
    have go : ∀ r : Int32, r = (if te_ti P (3 * (q0 / 4) + q0 % 4) (3 * (q1 / 4) + q1 % 4) = true then 1 else 0) → wpY_tied (fun r' => r' = r ∧ i_Rel (k + 4) (rc, kc, sc, sh, nI (3 * (q0 / 4) + q0 % 4), nI (3 * (q1 / 4) + q1 % 4), io, (te_n (te_sz P)), (te_n (te_op P)), (te_n (te_pl P)), (te_n (te_am P)), (te_n (te_st P)), xS, xD, xZ, xT, xO, xF, xK, xE) (dp, ru, kn, sh', (te_n (te_sz P)), (te_n (te_wh P)), (te_n (te_am P)), (te_n (te_st P)), yro, ydo, yva, yhe, yha, ypl, yke, ywo, you, ypk, yen, yea)) (dp, ru, kn, sh', (te_n (te_sz P)), (te_n (te_wh P)), (te_n (te_am P)), (te_n (te_st P)), yro, ydo, yva, yhe, yha, ypl, yke, ywo, you, ypk, yen, yea) (nI q0) (nI q1) := by
      intro r er
      unfold wpY_tied
      refine hY _ ?_
      refine br_t (by decide) ⟨by decide, by decide, by decide, by decide, ?_⟩
      rw [te_ix g0, te_ix g1]
      refine te_ytied ok a9 b9 ?_
      cases e : te_ti P (3 * (q0 / 4) + q0 % 4) (3 * (q1 / 4) + q1 % 4) with
      | true => rw [e, if_pos rfl] at er; rw [if_pos rfl]; exact br_f (by decide) ⟨er.symm, te_in ok a9 b9⟩
      | false => rw [e, if_neg Bool.false_ne_true] at er; rw [if_neg Bool.false_ne_true]; exact br_t rfl ⟨er.symm, te_in ok a9 b9⟩
    unfold wpY_tied at go
    cases e : te_ti P (3 * (q0 / 4) + q0 % 4) (3 * (q1 / 4) + q1 % 4) with
    | true =>
      rw [e, if_pos rfl] at go
      rw [if_pos rfl]
      refine br_f (by decide) ?_
      exact go 1 rfl
    | false =>
      rw [e, if_neg Bool.false_ne_true] at go
      rw [if_neg Bool.false_ne_true]
      refine br_t rfl ?_
      exact go 0 rfl
end
