section
/-! pure rows to paste: stores, nI and lN arithmetic, masks, shifts, narrowing, branches by naturals (pk_le, pk_lt, pk_eq), loops (lp1 .. lp16: the measure of the state; rp1 ..: recursion), negatives. Take what you need -/
theorem pk_us {f : Nat → Int32} {k : Nat} {x : Int32} : upd f k x k = x := if_pos rfl
theorem pk_un {f : Nat → Int32} {k j : Nat} {x : Int32} (h : j ≠ k) : upd f k x j = f j := if_neg h
theorem pk_uLs {f : Nat → Int64} {k : Nat} {x : Int64} : vp_updL f k x k = x := if_pos rfl
theorem pk_uLn {f : Nat → Int64} {k j : Nat} {x : Int64} (h : j ≠ k) : vp_updL f k x j = f j := if_neg h
theorem pk_sub {a b : Nat} (h : b ≤ a) : nI a - nI b = nI (a - b) := by
  obtain ⟨c, rfl⟩ : ∃ c, a = c + b := ⟨a - b, by omega⟩
  rw [← nI_add, Int32.add_sub_cancel, Nat.add_sub_cancel]
theorem pk_m1 (n : Nat) : nI (n + 1) + (-1) = nI n := by
  rw [← nI_1, Int32.add_assoc, show (1 : Int32) + (-1) = 0 from rfl, Int32.add_zero]
theorem pk_mul (a b : Nat) : nI a * nI b = nI (a * b) := (Int32.ofNat_mul a b).symm
theorem pk_div {a d : Nat} (ha : a < 2 ^ 31) (h0 : 0 < d) (hd : d < 2 ^ 31) : nI a / nI d = nI (a / d) := by
  apply Int32.toInt_inj.mp
  rw [lg_idiv_nonneg (by rw [nI_toInt ha]; omega) (by rw [nI_toInt hd]; omega), nI_toInt ha, nI_toInt hd, nI_toInt (Nat.lt_of_le_of_lt (Nat.div_le_self a d) ha)]
  first | rfl | exact (Int.natCast_ediv _ _).symm
theorem pk_rem {a d : Nat} (ha : a < 2 ^ 31) (h0 : 0 < d) (hd : d < 2 ^ 31) : nI a - nI a / nI d * nI d = nI (a % d) := by
  rw [pk_div ha h0 hd, pk_mul, pk_sub (Nat.div_mul_le_self a d)]
  exact congrArg nI (by have := Nat.div_add_mod' a d; omega)
theorem pk_sub_toInt {a b : Nat} (ha : a < 2 ^ 30) (hb : b < 2 ^ 30) : (nI a - nI b).toInt = (a : Int) - b := by
  rw [Int32.toInt_sub, nI_toInt (by omega), nI_toInt (by omega)]
  exact Int.bmod_eq_of_le (by omega) (by omega)
theorem pk_sneg {a b : Nat} (hb : b < 2 ^ 30) (h : a < b) : nI a - nI b < 0 := by
  rw [Int32.lt_iff_toInt_lt, pk_sub_toInt (by omega) hb, show (0 : Int32).toInt = 0 from by decide]
  omega
theorem pk_ix (x : Int32) {n : Nat} (hn : n < 2 ^ 31) : x < 0 ∨ nI n ≤ x ∨ ∃ j : Nat, j < n ∧ x = nI j := by
  by_cases h : x < 0
  · exact Or.inl h
  · obtain ⟨j, hj, rfl⟩ := nI_of h
    by_cases h2 : j < n
    · exact Or.inr (Or.inr ⟨j, h2, rfl⟩)
    · exact Or.inr (Or.inl (nI_le (by omega) hj))
theorem pk_le {x y : Int32} {A B : Prop} (a b : Nat) (f : a ≤ b → A) (g : b < a → B) (hx : x = nI a := by rfl) (hy : y = nI b := by rfl) (ha : a < 2 ^ 31 := by omega) (hb : b < 2 ^ 31 := by omega) : (x ≤ y → A) ∧ (¬ x ≤ y → B) := by
  subst hx hy
  rw [nI_leI ha hb]
  exact ⟨f, fun z => g (by omega)⟩
theorem pk_lt {x y : Int32} {A B : Prop} (a b : Nat) (f : a < b → A) (g : b ≤ a → B) (hx : x = nI a := by rfl) (hy : y = nI b := by rfl) (ha : a < 2 ^ 31 := by omega) (hb : b < 2 ^ 31 := by omega) : (x < y → A) ∧ (¬ x < y → B) := by
  subst hx hy
  rw [nI_ltI ha hb]
  exact ⟨f, fun z => g (by omega)⟩
theorem pk_eq {x y : Int32} {A B : Prop} (a b : Nat) (f : a = b → A) (g : a ≠ b → B) (hx : x = nI a := by rfl) (hy : y = nI b := by rfl) (ha : a < 2 ^ 31 := by omega) (hb : b < 2 ^ 31 := by omega) : (x = y → A) ∧ (¬ x = y → B) := by
  subst hx hy
  rw [nI_eq ha hb]
  exact ⟨f, g⟩
theorem pk_in {x : Int32} (n N : Nat) (h : n < N) (hx : x = nI n := by rfl) (hN : N < 2 ^ 31 := by omega) : vp_in x N := by
  subst hx
  exact vp_in_nI h hN
theorem pk_cl {x : Int32} (n : Nat) (hx : x = nI n := by rfl) (h : n < 2 ^ 31 := by omega) : x.toNatClampNeg = n := by
  subst hx
  exact nI_clamp h
theorem pk_tn {n : Nat} (h : n < 2 ^ 32) : (nI n).toBitVec.toNat = n := Nat.mod_eq_of_lt h
theorem pk_and (x : Int32) {m : Int32} (k : Nat) (hm : m.toBitVec.toNat = 2 ^ k - 1) : x &&& m = nI (x.toBitVec.toNat % 2 ^ k) := by
  apply Int32.toBitVec_inj.mp
  apply BitVec.eq_of_toNat_eq
  rw [Int32.toBitVec_and, BitVec.toNat_and, hm, Nat.and_two_pow_sub_one_eq_mod]
  show _ = (BitVec.ofNat 32 _).toNat
  rw [BitVec.toNat_ofNat]
  exact (Nat.mod_eq_of_lt (Nat.lt_of_le_of_lt (Nat.mod_le _ _) x.toBitVec.isLt)).symm
theorem pk_andN {n : Nat} (h : n < 2 ^ 32) {m : Int32} (k : Nat) (hm : m.toBitVec.toNat = 2 ^ k - 1) : nI n &&& m = nI (n % 2 ^ k) := by
  rw [pk_and _ k hm, pk_tn h]
theorem pk_andE (x : Int32) {m : Int32} (k : Nat) (hm : m.toBitVec.toNat = 2 ^ k - 1) : ∃ j : Nat, j < 2 ^ k ∧ x &&& m = nI j := ⟨_, Nat.mod_lt _ (Nat.two_pow_pos k), pk_and x k hm⟩
theorem pk_andIn (x : Int32) {m : Int32} (k : Nat) (hm : m.toBitVec.toNat = 2 ^ k - 1) (hk : k ≤ 30) : vp_in (x &&& m) (2 ^ k) := by
  obtain ⟨j, hj, e⟩ := pk_andE x k hm
  rw [e]
  exact vp_in_nI hj (Nat.lt_of_le_of_lt (Nat.pow_le_pow_right (by decide) hk) (by decide))
theorem pk_shl (a s : Int32) (k : Nat) (hs : (s.toBitVec.smod 32).toNat = k) : (a <<< s).toBitVec.toNat = a.toBitVec.toNat * 2 ^ k % 2 ^ 32 := by
  show (a.toBitVec <<< (s.toBitVec.smod 32).toNat).toNat = _
  rw [hs, BitVec.toNat_shiftLeft, Nat.shiftLeft_eq]
theorem pk_shlN {n : Nat} (s : Int32) (k : Nat) (hs : (s.toBitVec.smod 32).toNat = k) (h : n * 2 ^ k < 2 ^ 32) : nI n <<< s = nI (n * 2 ^ k) := by
  apply Int32.toBitVec_inj.mp
  apply BitVec.eq_of_toNat_eq
  have hn : n < 2 ^ 32 := Nat.lt_of_le_of_lt (Nat.le_mul_of_pos_right n (Nat.two_pow_pos k)) h
  rw [pk_shl _ _ k hs, pk_tn hn, pk_tn h, Nat.mod_eq_of_lt h]
theorem pk_shr (a s : Int32) (k : Nat) (hs : (s.toBitVec.smod 32).toNat = k) : (a >>> s).toInt = a.toInt >>> k := by
  show (a.toBitVec.sshiftRight (s.toBitVec.smod 32).toNat).toInt = _
  rw [hs, BitVec.toInt_sshiftRight]
  rfl
theorem pk_shrN {n : Nat} (h : n < 2 ^ 31) (s : Int32) (k : Nat) (hs : (s.toBitVec.smod 32).toNat = k) : nI n >>> s = nI (n / 2 ^ k) := by
  apply Int32.toInt_inj.mp
  have h2 : n / 2 ^ k ≤ n := Nat.div_le_self _ _
  rw [pk_shr _ _ k hs, nI_toInt h, nI_toInt (by omega), Int.shiftRight_eq_div_pow]
  rfl
theorem pk_ushr (x s : Int32) (k : Nat) (hs : ((s.toUInt32 &&& Int32.toUInt32 31).toBitVec % 32).toNat = k) : (x.toUInt32 >>> (s.toUInt32 &&& Int32.toUInt32 31)).toInt32.toBitVec.toNat = x.toBitVec.toNat / 2 ^ k := by
  have e : (x.toUInt32 >>> (s.toUInt32 &&& Int32.toUInt32 31)).toInt32.toBitVec = x.toBitVec >>> k := by
    rw [← hs]
    exact UInt32.toBitVec_shiftRight _ _
  rw [e, BitVec.toNat_ushiftRight, Nat.shiftRight_eq_div_pow]
theorem pk_ushrN {n : Nat} (hn : n < 2 ^ 32) (s : Int32) (k : Nat) (hs : ((s.toUInt32 &&& Int32.toUInt32 31).toBitVec % 32).toNat = k) : ((nI n).toUInt32 >>> (s.toUInt32 &&& Int32.toUInt32 31)).toInt32 = nI (n / 2 ^ k) := by
  apply Int32.toBitVec_inj.mp
  apply BitVec.eq_of_toNat_eq
  rw [pk_ushr _ s k hs, pk_tn hn, pk_tn (Nat.lt_of_le_of_lt (Nat.div_le_self _ _) hn)]
theorem pk_nb (z : Int32) : narrow .byte (.int z.toInt8.toInt32) = .int z.toInt8.toInt32 := congrArg Value.int (by simp)
theorem pk_ns (z : Int32) : narrow .short (.int z.toInt16.toInt32) = .int z.toInt16.toInt32 := congrArg Value.int (by simp)
theorem pk_fb (r : Int32) : fits .byte (.int r.toInt8.toInt32) = true := by
  have ⟨a, b⟩ := lg_i2b_range r
  have h1 : (-128 : Int32).toInt = -128 := by decide
  have h2 : (127 : Int32).toInt = 127 := by decide
  simp only [fits, Bool.and_eq_true, decide_eq_true_eq, Int32.le_iff_toInt_le, h1, h2]
  omega
theorem pk_fs (r : Int32) : fits .short (.int r.toInt16.toInt32) = true := by
  have ⟨a, b⟩ := lg_i2s_range r
  have h1 : (-32768 : Int32).toInt = -32768 := by decide
  have h2 : (32767 : Int32).toInt = 32767 := by decide
  simp only [fits, Bool.and_eq_true, decide_eq_true_eq, Int32.le_iff_toInt_le, h1, h2]
  omega
theorem pk_charN {q : Nat} (hq : q < 65536) : narrow .char (.int (nI q)) = .int (nI q) ∧ fits .char (.int (nI q)) = true := by
  constructor
  · have e : (nI q).toUInt32.toUInt16.toUInt32.toInt32 = nI q := by
      apply Int32.toBitVec_inj.mp
      apply BitVec.eq_of_toNat_eq
      show (nI q).toUInt32.toUInt16.toUInt32.toNat = q % 2 ^ 32
      rw [UInt16.toNat_toUInt32, UInt32.toNat_toUInt16, show (nI q).toUInt32.toNat = q % 2 ^ 32 from rfl]
      omega
    exact congrArg Value.int e
  · have a : (0 : Int32) ≤ nI q := nI_pos' (by omega)
    have b : nI q ≤ 65535 := nI_le (b := 65535) (by omega) (by decide)
    show (decide ((0 : Int32) ≤ nI q) && decide (nI q ≤ 65535)) = true
    rw [decide_eq_true a, decide_eq_true b]
    rfl
theorem pk_char (x : Int32) : (x.toUInt32 % 65536).toInt32 = nI (x.toBitVec.toNat % 65536) := by
  apply Int32.toBitVec_inj.mp
  apply BitVec.eq_of_toNat_eq
  rw [pk_tn (by omega)]
  show (x.toUInt32 % 65536).toNat = _
  rw [UInt32.toNat_mod]
  rfl
theorem pk_nc (x : Int32) : narrow .char (.int (x.toUInt32 % 65536).toInt32) = .int (x.toUInt32 % 65536).toInt32 := by
  rw [pk_char]
  exact (pk_charN (Nat.mod_lt _ (by decide))).1
theorem pk_fc (x : Int32) : fits .char (.int (x.toUInt32 % 65536).toInt32) = true := by
  rw [pk_char]
  exact (pk_charN (Nat.mod_lt _ (by decide))).2
theorem pk_vb (z : Int32) : vp_nar .byte z.toInt8.toInt32 = z.toInt8.toInt32 := by rw [vp_nar_byte]; simp
theorem pk_vs (z : Int32) : vp_nar .short z.toInt16.toInt32 = z.toInt16.toInt32 := by rw [vp_nar_short]; simp
theorem pk_vc (z : Int32) : vp_nar .char (z.toUInt32 % 65536).toInt32 = (z.toUInt32 % 65536).toInt32 := Value.int.inj (pk_nc z)
theorem pk_lT {n : Nat} (h : n < 2 ^ 63) : (lN n).toInt = (n : Int) := lg_ofNat_toInt h
theorem pk_lLT {a b : Nat} (ha : a < 2 ^ 63) (hb : b < 2 ^ 63) : lN a < lN b ↔ a < b := by
  rw [Int64.lt_iff_toInt_lt, pk_lT ha, pk_lT hb]; omega
theorem pk_lLE {a b : Nat} (ha : a < 2 ^ 63) (hb : b < 2 ^ 63) : lN a ≤ lN b ↔ a ≤ b := by
  rw [Int64.le_iff_toInt_le, pk_lT ha, pk_lT hb]; omega
theorem pk_lEQ {a b : Nat} (ha : a < 2 ^ 63) (hb : b < 2 ^ 63) : lN a = lN b ↔ a = b := by
  rw [← Int64.toInt_inj, pk_lT ha, pk_lT hb]; omega
theorem pk_lOf {x : Int64} (h : ¬ x < 0) : ∃ k : Nat, k < 2 ^ 63 ∧ x = lN k := by
  rw [Int64.lt_iff_toInt_lt] at h
  have h0 : (0 : Int64).toInt = 0 := by decide
  have hx := Int64.toInt_lt x
  refine ⟨x.toInt.toNat, by omega, Int64.toInt_inj.mp ?_⟩
  rw [pk_lT (by omega)]
  omega
theorem pk_lDiv {a b : Nat} (ha : a < 2 ^ 63) (h0 : 0 < b) (hb : b < 2 ^ 63) : lN a / lN b = lN (a / b) := by
  apply Int64.toInt_inj.mp
  rw [lg_ldiv_nonneg (by rw [pk_lT ha]; omega) (by rw [pk_lT hb]; omega), pk_lT ha, pk_lT hb, pk_lT (Nat.lt_of_le_of_lt (Nat.div_le_self a b) ha)]
  rfl
theorem pk_lRem {a b : Nat} (ha : a < 2 ^ 63) (h0 : 0 < b) (hb : b < 2 ^ 63) : lN a - lN a / lN b * lN b = lN (a % b) := by
  rw [pk_lDiv ha h0 hb, lN_mul, lN_sub (Nat.div_mul_le_self a b)]
  exact congrArg lN (by have := Nat.div_add_mod' a b; omega)
theorem pk_loop {σ : Type} (W : Nat → Nat → σ → Prop) (I : Nat → σ → Prop) (e i0 : Nat) (s : σ) (hi : i0 ≤ e) (h0 : I i0 s) (hx : ∀ n s, I e s → W (n + 1) e s)
    (hs : ∀ n i s, i < e → I i s → (∀ s', I (i + 1) s' → W n (i + 1) s') → W (n + 1) i s) : ∃ n, W n i0 s :=
  ⟨e + 1, loop_i W I e hx hs (e + 1) i0 s hi (by omega) h0⟩
theorem pk_loopD {σ : Type} (W : Nat → Nat → σ → Prop) (I : Nat → σ → Prop) (hx : ∀ n s, I 0 s → W (n + 1) 0 s)
    (hs : ∀ n i s, I (i + 1) s → (∀ s', I i s' → W n i s') → W (n + 1) (i + 1) s) : ∀ (e : Nat) (s : σ), I e s → W (e + 1) e s := by
  intro e
  induction e with
  | zero => exact fun s h => hx 0 s h
  | succ e ih => exact fun s h => hs (e + 1) e s h (fun s' h' => ih s' h')
theorem lp1 {A1 : Type} (W : Nat → A1 → Prop) (I : A1 → Prop) (μ : A1 → Nat) (hs : ∀ (n : Nat) (a1 : A1), I a1 → (∀ (b1 : A1), I b1 → μ b1 < μ a1 → W n b1) → W (n + 1) a1) (a1 : A1) (h : I a1) : ∃ n, W n a1 :=
  loop_m (σ := A1) (fun n s => W n s) (fun s => I s) (fun s => μ s) (fun n s hI hk => hs n s hI (fun b1 h9 hm => hk b1 h9 hm)) a1 h
theorem lp2 {A1 A2 : Type} (W : Nat → A1 → A2 → Prop) (I : A1 → A2 → Prop) (μ : A1 → A2 → Nat) (hs : ∀ (n : Nat) (a1 : A1) (a2 : A2), I a1 a2 → (∀ (b1 : A1) (b2 : A2), I b1 b2 → μ b1 b2 < μ a1 a2 → W n b1 b2) → W (n + 1) a1 a2) (a1 : A1) (a2 : A2) (h : I a1 a2) : ∃ n, W n a1 a2 :=
  loop_m (σ := A1 × A2) (fun n s => W n s.1 s.2) (fun s => I s.1 s.2) (fun s => μ s.1 s.2) (fun n s hI hk => hs n s.1 s.2 hI (fun b1 b2 h9 hm => hk (b1, b2) h9 hm)) (a1, a2) h
theorem lp3 {A1 A2 A3 : Type} (W : Nat → A1 → A2 → A3 → Prop) (I : A1 → A2 → A3 → Prop) (μ : A1 → A2 → A3 → Nat) (hs : ∀ (n : Nat) (a1 : A1) (a2 : A2) (a3 : A3), I a1 a2 a3 → (∀ (b1 : A1) (b2 : A2) (b3 : A3), I b1 b2 b3 → μ b1 b2 b3 < μ a1 a2 a3 → W n b1 b2 b3) → W (n + 1) a1 a2 a3) (a1 : A1) (a2 : A2) (a3 : A3) (h : I a1 a2 a3) : ∃ n, W n a1 a2 a3 :=
  loop_m (σ := A1 × A2 × A3) (fun n s => W n s.1 s.2.1 s.2.2) (fun s => I s.1 s.2.1 s.2.2) (fun s => μ s.1 s.2.1 s.2.2) (fun n s hI hk => hs n s.1 s.2.1 s.2.2 hI (fun b1 b2 b3 h9 hm => hk (b1, b2, b3) h9 hm)) (a1, a2, a3) h
theorem lp4 {A1 A2 A3 A4 : Type} (W : Nat → A1 → A2 → A3 → A4 → Prop) (I : A1 → A2 → A3 → A4 → Prop) (μ : A1 → A2 → A3 → A4 → Nat) (hs : ∀ (n : Nat) (a1 : A1) (a2 : A2) (a3 : A3) (a4 : A4), I a1 a2 a3 a4 → (∀ (b1 : A1) (b2 : A2) (b3 : A3) (b4 : A4), I b1 b2 b3 b4 → μ b1 b2 b3 b4 < μ a1 a2 a3 a4 → W n b1 b2 b3 b4) → W (n + 1) a1 a2 a3 a4) (a1 : A1) (a2 : A2) (a3 : A3) (a4 : A4) (h : I a1 a2 a3 a4) : ∃ n, W n a1 a2 a3 a4 :=
  loop_m (σ := A1 × A2 × A3 × A4) (fun n s => W n s.1 s.2.1 s.2.2.1 s.2.2.2) (fun s => I s.1 s.2.1 s.2.2.1 s.2.2.2) (fun s => μ s.1 s.2.1 s.2.2.1 s.2.2.2) (fun n s hI hk => hs n s.1 s.2.1 s.2.2.1 s.2.2.2 hI (fun b1 b2 b3 b4 h9 hm => hk (b1, b2, b3, b4) h9 hm)) (a1, a2, a3, a4) h
theorem lp5 {A1 A2 A3 A4 A5 : Type} (W : Nat → A1 → A2 → A3 → A4 → A5 → Prop) (I : A1 → A2 → A3 → A4 → A5 → Prop) (μ : A1 → A2 → A3 → A4 → A5 → Nat) (hs : ∀ (n : Nat) (a1 : A1) (a2 : A2) (a3 : A3) (a4 : A4) (a5 : A5), I a1 a2 a3 a4 a5 → (∀ (b1 : A1) (b2 : A2) (b3 : A3) (b4 : A4) (b5 : A5), I b1 b2 b3 b4 b5 → μ b1 b2 b3 b4 b5 < μ a1 a2 a3 a4 a5 → W n b1 b2 b3 b4 b5) → W (n + 1) a1 a2 a3 a4 a5) (a1 : A1) (a2 : A2) (a3 : A3) (a4 : A4) (a5 : A5) (h : I a1 a2 a3 a4 a5) : ∃ n, W n a1 a2 a3 a4 a5 :=
  loop_m (σ := A1 × A2 × A3 × A4 × A5) (fun n s => W n s.1 s.2.1 s.2.2.1 s.2.2.2.1 s.2.2.2.2) (fun s => I s.1 s.2.1 s.2.2.1 s.2.2.2.1 s.2.2.2.2) (fun s => μ s.1 s.2.1 s.2.2.1 s.2.2.2.1 s.2.2.2.2) (fun n s hI hk => hs n s.1 s.2.1 s.2.2.1 s.2.2.2.1 s.2.2.2.2 hI (fun b1 b2 b3 b4 b5 h9 hm => hk (b1, b2, b3, b4, b5) h9 hm)) (a1, a2, a3, a4, a5) h
theorem lp6 {A1 A2 A3 A4 A5 A6 : Type} (W : Nat → A1 → A2 → A3 → A4 → A5 → A6 → Prop) (I : A1 → A2 → A3 → A4 → A5 → A6 → Prop) (μ : A1 → A2 → A3 → A4 → A5 → A6 → Nat) (hs : ∀ (n : Nat) (a1 : A1) (a2 : A2) (a3 : A3) (a4 : A4) (a5 : A5) (a6 : A6), I a1 a2 a3 a4 a5 a6 → (∀ (b1 : A1) (b2 : A2) (b3 : A3) (b4 : A4) (b5 : A5) (b6 : A6), I b1 b2 b3 b4 b5 b6 → μ b1 b2 b3 b4 b5 b6 < μ a1 a2 a3 a4 a5 a6 → W n b1 b2 b3 b4 b5 b6) → W (n + 1) a1 a2 a3 a4 a5 a6) (a1 : A1) (a2 : A2) (a3 : A3) (a4 : A4) (a5 : A5) (a6 : A6) (h : I a1 a2 a3 a4 a5 a6) : ∃ n, W n a1 a2 a3 a4 a5 a6 :=
  loop_m (σ := A1 × A2 × A3 × A4 × A5 × A6) (fun n s => W n s.1 s.2.1 s.2.2.1 s.2.2.2.1 s.2.2.2.2.1 s.2.2.2.2.2) (fun s => I s.1 s.2.1 s.2.2.1 s.2.2.2.1 s.2.2.2.2.1 s.2.2.2.2.2) (fun s => μ s.1 s.2.1 s.2.2.1 s.2.2.2.1 s.2.2.2.2.1 s.2.2.2.2.2) (fun n s hI hk => hs n s.1 s.2.1 s.2.2.1 s.2.2.2.1 s.2.2.2.2.1 s.2.2.2.2.2 hI (fun b1 b2 b3 b4 b5 b6 h9 hm => hk (b1, b2, b3, b4, b5, b6) h9 hm)) (a1, a2, a3, a4, a5, a6) h
theorem lp7 {A1 A2 A3 A4 A5 A6 A7 : Type} (W : Nat → A1 → A2 → A3 → A4 → A5 → A6 → A7 → Prop) (I : A1 → A2 → A3 → A4 → A5 → A6 → A7 → Prop) (μ : A1 → A2 → A3 → A4 → A5 → A6 → A7 → Nat) (hs : ∀ (n : Nat) (a1 : A1) (a2 : A2) (a3 : A3) (a4 : A4) (a5 : A5) (a6 : A6) (a7 : A7), I a1 a2 a3 a4 a5 a6 a7 → (∀ (b1 : A1) (b2 : A2) (b3 : A3) (b4 : A4) (b5 : A5) (b6 : A6) (b7 : A7), I b1 b2 b3 b4 b5 b6 b7 → μ b1 b2 b3 b4 b5 b6 b7 < μ a1 a2 a3 a4 a5 a6 a7 → W n b1 b2 b3 b4 b5 b6 b7) → W (n + 1) a1 a2 a3 a4 a5 a6 a7) (a1 : A1) (a2 : A2) (a3 : A3) (a4 : A4) (a5 : A5) (a6 : A6) (a7 : A7) (h : I a1 a2 a3 a4 a5 a6 a7) : ∃ n, W n a1 a2 a3 a4 a5 a6 a7 :=
  loop_m (σ := A1 × A2 × A3 × A4 × A5 × A6 × A7) (fun n s => W n s.1 s.2.1 s.2.2.1 s.2.2.2.1 s.2.2.2.2.1 s.2.2.2.2.2.1 s.2.2.2.2.2.2) (fun s => I s.1 s.2.1 s.2.2.1 s.2.2.2.1 s.2.2.2.2.1 s.2.2.2.2.2.1 s.2.2.2.2.2.2) (fun s => μ s.1 s.2.1 s.2.2.1 s.2.2.2.1 s.2.2.2.2.1 s.2.2.2.2.2.1 s.2.2.2.2.2.2) (fun n s hI hk => hs n s.1 s.2.1 s.2.2.1 s.2.2.2.1 s.2.2.2.2.1 s.2.2.2.2.2.1 s.2.2.2.2.2.2 hI (fun b1 b2 b3 b4 b5 b6 b7 h9 hm => hk (b1, b2, b3, b4, b5, b6, b7) h9 hm)) (a1, a2, a3, a4, a5, a6, a7) h
theorem lp8 {A1 A2 A3 A4 A5 A6 A7 A8 : Type} (W : Nat → A1 → A2 → A3 → A4 → A5 → A6 → A7 → A8 → Prop) (I : A1 → A2 → A3 → A4 → A5 → A6 → A7 → A8 → Prop) (μ : A1 → A2 → A3 → A4 → A5 → A6 → A7 → A8 → Nat) (hs : ∀ (n : Nat) (a1 : A1) (a2 : A2) (a3 : A3) (a4 : A4) (a5 : A5) (a6 : A6) (a7 : A7) (a8 : A8), I a1 a2 a3 a4 a5 a6 a7 a8 → (∀ (b1 : A1) (b2 : A2) (b3 : A3) (b4 : A4) (b5 : A5) (b6 : A6) (b7 : A7) (b8 : A8), I b1 b2 b3 b4 b5 b6 b7 b8 → μ b1 b2 b3 b4 b5 b6 b7 b8 < μ a1 a2 a3 a4 a5 a6 a7 a8 → W n b1 b2 b3 b4 b5 b6 b7 b8) → W (n + 1) a1 a2 a3 a4 a5 a6 a7 a8) (a1 : A1) (a2 : A2) (a3 : A3) (a4 : A4) (a5 : A5) (a6 : A6) (a7 : A7) (a8 : A8) (h : I a1 a2 a3 a4 a5 a6 a7 a8) : ∃ n, W n a1 a2 a3 a4 a5 a6 a7 a8 :=
  loop_m (σ := A1 × A2 × A3 × A4 × A5 × A6 × A7 × A8) (fun n s => W n s.1 s.2.1 s.2.2.1 s.2.2.2.1 s.2.2.2.2.1 s.2.2.2.2.2.1 s.2.2.2.2.2.2.1 s.2.2.2.2.2.2.2) (fun s => I s.1 s.2.1 s.2.2.1 s.2.2.2.1 s.2.2.2.2.1 s.2.2.2.2.2.1 s.2.2.2.2.2.2.1 s.2.2.2.2.2.2.2) (fun s => μ s.1 s.2.1 s.2.2.1 s.2.2.2.1 s.2.2.2.2.1 s.2.2.2.2.2.1 s.2.2.2.2.2.2.1 s.2.2.2.2.2.2.2) (fun n s hI hk => hs n s.1 s.2.1 s.2.2.1 s.2.2.2.1 s.2.2.2.2.1 s.2.2.2.2.2.1 s.2.2.2.2.2.2.1 s.2.2.2.2.2.2.2 hI (fun b1 b2 b3 b4 b5 b6 b7 b8 h9 hm => hk (b1, b2, b3, b4, b5, b6, b7, b8) h9 hm)) (a1, a2, a3, a4, a5, a6, a7, a8) h
theorem lp9 {A1 A2 A3 A4 A5 A6 A7 A8 A9 : Type} (W : Nat → A1 → A2 → A3 → A4 → A5 → A6 → A7 → A8 → A9 → Prop) (I : A1 → A2 → A3 → A4 → A5 → A6 → A7 → A8 → A9 → Prop) (μ : A1 → A2 → A3 → A4 → A5 → A6 → A7 → A8 → A9 → Nat) (hs : ∀ (n : Nat) (a1 : A1) (a2 : A2) (a3 : A3) (a4 : A4) (a5 : A5) (a6 : A6) (a7 : A7) (a8 : A8) (a9 : A9), I a1 a2 a3 a4 a5 a6 a7 a8 a9 → (∀ (b1 : A1) (b2 : A2) (b3 : A3) (b4 : A4) (b5 : A5) (b6 : A6) (b7 : A7) (b8 : A8) (b9 : A9), I b1 b2 b3 b4 b5 b6 b7 b8 b9 → μ b1 b2 b3 b4 b5 b6 b7 b8 b9 < μ a1 a2 a3 a4 a5 a6 a7 a8 a9 → W n b1 b2 b3 b4 b5 b6 b7 b8 b9) → W (n + 1) a1 a2 a3 a4 a5 a6 a7 a8 a9) (a1 : A1) (a2 : A2) (a3 : A3) (a4 : A4) (a5 : A5) (a6 : A6) (a7 : A7) (a8 : A8) (a9 : A9) (h : I a1 a2 a3 a4 a5 a6 a7 a8 a9) : ∃ n, W n a1 a2 a3 a4 a5 a6 a7 a8 a9 :=
  loop_m (σ := A1 × A2 × A3 × A4 × A5 × A6 × A7 × A8 × A9) (fun n s => W n s.1 s.2.1 s.2.2.1 s.2.2.2.1 s.2.2.2.2.1 s.2.2.2.2.2.1 s.2.2.2.2.2.2.1 s.2.2.2.2.2.2.2.1 s.2.2.2.2.2.2.2.2) (fun s => I s.1 s.2.1 s.2.2.1 s.2.2.2.1 s.2.2.2.2.1 s.2.2.2.2.2.1 s.2.2.2.2.2.2.1 s.2.2.2.2.2.2.2.1 s.2.2.2.2.2.2.2.2) (fun s => μ s.1 s.2.1 s.2.2.1 s.2.2.2.1 s.2.2.2.2.1 s.2.2.2.2.2.1 s.2.2.2.2.2.2.1 s.2.2.2.2.2.2.2.1 s.2.2.2.2.2.2.2.2) (fun n s hI hk => hs n s.1 s.2.1 s.2.2.1 s.2.2.2.1 s.2.2.2.2.1 s.2.2.2.2.2.1 s.2.2.2.2.2.2.1 s.2.2.2.2.2.2.2.1 s.2.2.2.2.2.2.2.2 hI (fun b1 b2 b3 b4 b5 b6 b7 b8 b9 h9 hm => hk (b1, b2, b3, b4, b5, b6, b7, b8, b9) h9 hm)) (a1, a2, a3, a4, a5, a6, a7, a8, a9) h
theorem lp10 {A1 A2 A3 A4 A5 A6 A7 A8 A9 A10 : Type} (W : Nat → A1 → A2 → A3 → A4 → A5 → A6 → A7 → A8 → A9 → A10 → Prop) (I : A1 → A2 → A3 → A4 → A5 → A6 → A7 → A8 → A9 → A10 → Prop) (μ : A1 → A2 → A3 → A4 → A5 → A6 → A7 → A8 → A9 → A10 → Nat) (hs : ∀ (n : Nat) (a1 : A1) (a2 : A2) (a3 : A3) (a4 : A4) (a5 : A5) (a6 : A6) (a7 : A7) (a8 : A8) (a9 : A9) (a10 : A10), I a1 a2 a3 a4 a5 a6 a7 a8 a9 a10 → (∀ (b1 : A1) (b2 : A2) (b3 : A3) (b4 : A4) (b5 : A5) (b6 : A6) (b7 : A7) (b8 : A8) (b9 : A9) (b10 : A10), I b1 b2 b3 b4 b5 b6 b7 b8 b9 b10 → μ b1 b2 b3 b4 b5 b6 b7 b8 b9 b10 < μ a1 a2 a3 a4 a5 a6 a7 a8 a9 a10 → W n b1 b2 b3 b4 b5 b6 b7 b8 b9 b10) → W (n + 1) a1 a2 a3 a4 a5 a6 a7 a8 a9 a10) (a1 : A1) (a2 : A2) (a3 : A3) (a4 : A4) (a5 : A5) (a6 : A6) (a7 : A7) (a8 : A8) (a9 : A9) (a10 : A10) (h : I a1 a2 a3 a4 a5 a6 a7 a8 a9 a10) : ∃ n, W n a1 a2 a3 a4 a5 a6 a7 a8 a9 a10 :=
  loop_m (σ := A1 × A2 × A3 × A4 × A5 × A6 × A7 × A8 × A9 × A10) (fun n s => W n s.1 s.2.1 s.2.2.1 s.2.2.2.1 s.2.2.2.2.1 s.2.2.2.2.2.1 s.2.2.2.2.2.2.1 s.2.2.2.2.2.2.2.1 s.2.2.2.2.2.2.2.2.1 s.2.2.2.2.2.2.2.2.2) (fun s => I s.1 s.2.1 s.2.2.1 s.2.2.2.1 s.2.2.2.2.1 s.2.2.2.2.2.1 s.2.2.2.2.2.2.1 s.2.2.2.2.2.2.2.1 s.2.2.2.2.2.2.2.2.1 s.2.2.2.2.2.2.2.2.2) (fun s => μ s.1 s.2.1 s.2.2.1 s.2.2.2.1 s.2.2.2.2.1 s.2.2.2.2.2.1 s.2.2.2.2.2.2.1 s.2.2.2.2.2.2.2.1 s.2.2.2.2.2.2.2.2.1 s.2.2.2.2.2.2.2.2.2) (fun n s hI hk => hs n s.1 s.2.1 s.2.2.1 s.2.2.2.1 s.2.2.2.2.1 s.2.2.2.2.2.1 s.2.2.2.2.2.2.1 s.2.2.2.2.2.2.2.1 s.2.2.2.2.2.2.2.2.1 s.2.2.2.2.2.2.2.2.2 hI (fun b1 b2 b3 b4 b5 b6 b7 b8 b9 b10 h9 hm => hk (b1, b2, b3, b4, b5, b6, b7, b8, b9, b10) h9 hm)) (a1, a2, a3, a4, a5, a6, a7, a8, a9, a10) h
theorem lp11 {A1 A2 A3 A4 A5 A6 A7 A8 A9 A10 A11 : Type} (W : Nat → A1 → A2 → A3 → A4 → A5 → A6 → A7 → A8 → A9 → A10 → A11 → Prop) (I : A1 → A2 → A3 → A4 → A5 → A6 → A7 → A8 → A9 → A10 → A11 → Prop) (μ : A1 → A2 → A3 → A4 → A5 → A6 → A7 → A8 → A9 → A10 → A11 → Nat) (hs : ∀ (n : Nat) (a1 : A1) (a2 : A2) (a3 : A3) (a4 : A4) (a5 : A5) (a6 : A6) (a7 : A7) (a8 : A8) (a9 : A9) (a10 : A10) (a11 : A11), I a1 a2 a3 a4 a5 a6 a7 a8 a9 a10 a11 → (∀ (b1 : A1) (b2 : A2) (b3 : A3) (b4 : A4) (b5 : A5) (b6 : A6) (b7 : A7) (b8 : A8) (b9 : A9) (b10 : A10) (b11 : A11), I b1 b2 b3 b4 b5 b6 b7 b8 b9 b10 b11 → μ b1 b2 b3 b4 b5 b6 b7 b8 b9 b10 b11 < μ a1 a2 a3 a4 a5 a6 a7 a8 a9 a10 a11 → W n b1 b2 b3 b4 b5 b6 b7 b8 b9 b10 b11) → W (n + 1) a1 a2 a3 a4 a5 a6 a7 a8 a9 a10 a11) (a1 : A1) (a2 : A2) (a3 : A3) (a4 : A4) (a5 : A5) (a6 : A6) (a7 : A7) (a8 : A8) (a9 : A9) (a10 : A10) (a11 : A11) (h : I a1 a2 a3 a4 a5 a6 a7 a8 a9 a10 a11) : ∃ n, W n a1 a2 a3 a4 a5 a6 a7 a8 a9 a10 a11 :=
  loop_m (σ := A1 × A2 × A3 × A4 × A5 × A6 × A7 × A8 × A9 × A10 × A11) (fun n s => W n s.1 s.2.1 s.2.2.1 s.2.2.2.1 s.2.2.2.2.1 s.2.2.2.2.2.1 s.2.2.2.2.2.2.1 s.2.2.2.2.2.2.2.1 s.2.2.2.2.2.2.2.2.1 s.2.2.2.2.2.2.2.2.2.1 s.2.2.2.2.2.2.2.2.2.2) (fun s => I s.1 s.2.1 s.2.2.1 s.2.2.2.1 s.2.2.2.2.1 s.2.2.2.2.2.1 s.2.2.2.2.2.2.1 s.2.2.2.2.2.2.2.1 s.2.2.2.2.2.2.2.2.1 s.2.2.2.2.2.2.2.2.2.1 s.2.2.2.2.2.2.2.2.2.2) (fun s => μ s.1 s.2.1 s.2.2.1 s.2.2.2.1 s.2.2.2.2.1 s.2.2.2.2.2.1 s.2.2.2.2.2.2.1 s.2.2.2.2.2.2.2.1 s.2.2.2.2.2.2.2.2.1 s.2.2.2.2.2.2.2.2.2.1 s.2.2.2.2.2.2.2.2.2.2) (fun n s hI hk => hs n s.1 s.2.1 s.2.2.1 s.2.2.2.1 s.2.2.2.2.1 s.2.2.2.2.2.1 s.2.2.2.2.2.2.1 s.2.2.2.2.2.2.2.1 s.2.2.2.2.2.2.2.2.1 s.2.2.2.2.2.2.2.2.2.1 s.2.2.2.2.2.2.2.2.2.2 hI (fun b1 b2 b3 b4 b5 b6 b7 b8 b9 b10 b11 h9 hm => hk (b1, b2, b3, b4, b5, b6, b7, b8, b9, b10, b11) h9 hm)) (a1, a2, a3, a4, a5, a6, a7, a8, a9, a10, a11) h
theorem lp12 {A1 A2 A3 A4 A5 A6 A7 A8 A9 A10 A11 A12 : Type} (W : Nat → A1 → A2 → A3 → A4 → A5 → A6 → A7 → A8 → A9 → A10 → A11 → A12 → Prop) (I : A1 → A2 → A3 → A4 → A5 → A6 → A7 → A8 → A9 → A10 → A11 → A12 → Prop) (μ : A1 → A2 → A3 → A4 → A5 → A6 → A7 → A8 → A9 → A10 → A11 → A12 → Nat) (hs : ∀ (n : Nat) (a1 : A1) (a2 : A2) (a3 : A3) (a4 : A4) (a5 : A5) (a6 : A6) (a7 : A7) (a8 : A8) (a9 : A9) (a10 : A10) (a11 : A11) (a12 : A12), I a1 a2 a3 a4 a5 a6 a7 a8 a9 a10 a11 a12 → (∀ (b1 : A1) (b2 : A2) (b3 : A3) (b4 : A4) (b5 : A5) (b6 : A6) (b7 : A7) (b8 : A8) (b9 : A9) (b10 : A10) (b11 : A11) (b12 : A12), I b1 b2 b3 b4 b5 b6 b7 b8 b9 b10 b11 b12 → μ b1 b2 b3 b4 b5 b6 b7 b8 b9 b10 b11 b12 < μ a1 a2 a3 a4 a5 a6 a7 a8 a9 a10 a11 a12 → W n b1 b2 b3 b4 b5 b6 b7 b8 b9 b10 b11 b12) → W (n + 1) a1 a2 a3 a4 a5 a6 a7 a8 a9 a10 a11 a12) (a1 : A1) (a2 : A2) (a3 : A3) (a4 : A4) (a5 : A5) (a6 : A6) (a7 : A7) (a8 : A8) (a9 : A9) (a10 : A10) (a11 : A11) (a12 : A12) (h : I a1 a2 a3 a4 a5 a6 a7 a8 a9 a10 a11 a12) : ∃ n, W n a1 a2 a3 a4 a5 a6 a7 a8 a9 a10 a11 a12 :=
  loop_m (σ := A1 × A2 × A3 × A4 × A5 × A6 × A7 × A8 × A9 × A10 × A11 × A12) (fun n s => W n s.1 s.2.1 s.2.2.1 s.2.2.2.1 s.2.2.2.2.1 s.2.2.2.2.2.1 s.2.2.2.2.2.2.1 s.2.2.2.2.2.2.2.1 s.2.2.2.2.2.2.2.2.1 s.2.2.2.2.2.2.2.2.2.1 s.2.2.2.2.2.2.2.2.2.2.1 s.2.2.2.2.2.2.2.2.2.2.2) (fun s => I s.1 s.2.1 s.2.2.1 s.2.2.2.1 s.2.2.2.2.1 s.2.2.2.2.2.1 s.2.2.2.2.2.2.1 s.2.2.2.2.2.2.2.1 s.2.2.2.2.2.2.2.2.1 s.2.2.2.2.2.2.2.2.2.1 s.2.2.2.2.2.2.2.2.2.2.1 s.2.2.2.2.2.2.2.2.2.2.2) (fun s => μ s.1 s.2.1 s.2.2.1 s.2.2.2.1 s.2.2.2.2.1 s.2.2.2.2.2.1 s.2.2.2.2.2.2.1 s.2.2.2.2.2.2.2.1 s.2.2.2.2.2.2.2.2.1 s.2.2.2.2.2.2.2.2.2.1 s.2.2.2.2.2.2.2.2.2.2.1 s.2.2.2.2.2.2.2.2.2.2.2) (fun n s hI hk => hs n s.1 s.2.1 s.2.2.1 s.2.2.2.1 s.2.2.2.2.1 s.2.2.2.2.2.1 s.2.2.2.2.2.2.1 s.2.2.2.2.2.2.2.1 s.2.2.2.2.2.2.2.2.1 s.2.2.2.2.2.2.2.2.2.1 s.2.2.2.2.2.2.2.2.2.2.1 s.2.2.2.2.2.2.2.2.2.2.2 hI (fun b1 b2 b3 b4 b5 b6 b7 b8 b9 b10 b11 b12 h9 hm => hk (b1, b2, b3, b4, b5, b6, b7, b8, b9, b10, b11, b12) h9 hm)) (a1, a2, a3, a4, a5, a6, a7, a8, a9, a10, a11, a12) h
theorem lp13 {A1 A2 A3 A4 A5 A6 A7 A8 A9 A10 A11 A12 A13 : Type} (W : Nat → A1 → A2 → A3 → A4 → A5 → A6 → A7 → A8 → A9 → A10 → A11 → A12 → A13 → Prop) (I : A1 → A2 → A3 → A4 → A5 → A6 → A7 → A8 → A9 → A10 → A11 → A12 → A13 → Prop) (μ : A1 → A2 → A3 → A4 → A5 → A6 → A7 → A8 → A9 → A10 → A11 → A12 → A13 → Nat) (hs : ∀ (n : Nat) (a1 : A1) (a2 : A2) (a3 : A3) (a4 : A4) (a5 : A5) (a6 : A6) (a7 : A7) (a8 : A8) (a9 : A9) (a10 : A10) (a11 : A11) (a12 : A12) (a13 : A13), I a1 a2 a3 a4 a5 a6 a7 a8 a9 a10 a11 a12 a13 → (∀ (b1 : A1) (b2 : A2) (b3 : A3) (b4 : A4) (b5 : A5) (b6 : A6) (b7 : A7) (b8 : A8) (b9 : A9) (b10 : A10) (b11 : A11) (b12 : A12) (b13 : A13), I b1 b2 b3 b4 b5 b6 b7 b8 b9 b10 b11 b12 b13 → μ b1 b2 b3 b4 b5 b6 b7 b8 b9 b10 b11 b12 b13 < μ a1 a2 a3 a4 a5 a6 a7 a8 a9 a10 a11 a12 a13 → W n b1 b2 b3 b4 b5 b6 b7 b8 b9 b10 b11 b12 b13) → W (n + 1) a1 a2 a3 a4 a5 a6 a7 a8 a9 a10 a11 a12 a13) (a1 : A1) (a2 : A2) (a3 : A3) (a4 : A4) (a5 : A5) (a6 : A6) (a7 : A7) (a8 : A8) (a9 : A9) (a10 : A10) (a11 : A11) (a12 : A12) (a13 : A13) (h : I a1 a2 a3 a4 a5 a6 a7 a8 a9 a10 a11 a12 a13) : ∃ n, W n a1 a2 a3 a4 a5 a6 a7 a8 a9 a10 a11 a12 a13 :=
  loop_m (σ := A1 × A2 × A3 × A4 × A5 × A6 × A7 × A8 × A9 × A10 × A11 × A12 × A13) (fun n s => W n s.1 s.2.1 s.2.2.1 s.2.2.2.1 s.2.2.2.2.1 s.2.2.2.2.2.1 s.2.2.2.2.2.2.1 s.2.2.2.2.2.2.2.1 s.2.2.2.2.2.2.2.2.1 s.2.2.2.2.2.2.2.2.2.1 s.2.2.2.2.2.2.2.2.2.2.1 s.2.2.2.2.2.2.2.2.2.2.2.1 s.2.2.2.2.2.2.2.2.2.2.2.2) (fun s => I s.1 s.2.1 s.2.2.1 s.2.2.2.1 s.2.2.2.2.1 s.2.2.2.2.2.1 s.2.2.2.2.2.2.1 s.2.2.2.2.2.2.2.1 s.2.2.2.2.2.2.2.2.1 s.2.2.2.2.2.2.2.2.2.1 s.2.2.2.2.2.2.2.2.2.2.1 s.2.2.2.2.2.2.2.2.2.2.2.1 s.2.2.2.2.2.2.2.2.2.2.2.2) (fun s => μ s.1 s.2.1 s.2.2.1 s.2.2.2.1 s.2.2.2.2.1 s.2.2.2.2.2.1 s.2.2.2.2.2.2.1 s.2.2.2.2.2.2.2.1 s.2.2.2.2.2.2.2.2.1 s.2.2.2.2.2.2.2.2.2.1 s.2.2.2.2.2.2.2.2.2.2.1 s.2.2.2.2.2.2.2.2.2.2.2.1 s.2.2.2.2.2.2.2.2.2.2.2.2) (fun n s hI hk => hs n s.1 s.2.1 s.2.2.1 s.2.2.2.1 s.2.2.2.2.1 s.2.2.2.2.2.1 s.2.2.2.2.2.2.1 s.2.2.2.2.2.2.2.1 s.2.2.2.2.2.2.2.2.1 s.2.2.2.2.2.2.2.2.2.1 s.2.2.2.2.2.2.2.2.2.2.1 s.2.2.2.2.2.2.2.2.2.2.2.1 s.2.2.2.2.2.2.2.2.2.2.2.2 hI (fun b1 b2 b3 b4 b5 b6 b7 b8 b9 b10 b11 b12 b13 h9 hm => hk (b1, b2, b3, b4, b5, b6, b7, b8, b9, b10, b11, b12, b13) h9 hm)) (a1, a2, a3, a4, a5, a6, a7, a8, a9, a10, a11, a12, a13) h
theorem lp14 {A1 A2 A3 A4 A5 A6 A7 A8 A9 A10 A11 A12 A13 A14 : Type} (W : Nat → A1 → A2 → A3 → A4 → A5 → A6 → A7 → A8 → A9 → A10 → A11 → A12 → A13 → A14 → Prop) (I : A1 → A2 → A3 → A4 → A5 → A6 → A7 → A8 → A9 → A10 → A11 → A12 → A13 → A14 → Prop) (μ : A1 → A2 → A3 → A4 → A5 → A6 → A7 → A8 → A9 → A10 → A11 → A12 → A13 → A14 → Nat) (hs : ∀ (n : Nat) (a1 : A1) (a2 : A2) (a3 : A3) (a4 : A4) (a5 : A5) (a6 : A6) (a7 : A7) (a8 : A8) (a9 : A9) (a10 : A10) (a11 : A11) (a12 : A12) (a13 : A13) (a14 : A14), I a1 a2 a3 a4 a5 a6 a7 a8 a9 a10 a11 a12 a13 a14 → (∀ (b1 : A1) (b2 : A2) (b3 : A3) (b4 : A4) (b5 : A5) (b6 : A6) (b7 : A7) (b8 : A8) (b9 : A9) (b10 : A10) (b11 : A11) (b12 : A12) (b13 : A13) (b14 : A14), I b1 b2 b3 b4 b5 b6 b7 b8 b9 b10 b11 b12 b13 b14 → μ b1 b2 b3 b4 b5 b6 b7 b8 b9 b10 b11 b12 b13 b14 < μ a1 a2 a3 a4 a5 a6 a7 a8 a9 a10 a11 a12 a13 a14 → W n b1 b2 b3 b4 b5 b6 b7 b8 b9 b10 b11 b12 b13 b14) → W (n + 1) a1 a2 a3 a4 a5 a6 a7 a8 a9 a10 a11 a12 a13 a14) (a1 : A1) (a2 : A2) (a3 : A3) (a4 : A4) (a5 : A5) (a6 : A6) (a7 : A7) (a8 : A8) (a9 : A9) (a10 : A10) (a11 : A11) (a12 : A12) (a13 : A13) (a14 : A14) (h : I a1 a2 a3 a4 a5 a6 a7 a8 a9 a10 a11 a12 a13 a14) : ∃ n, W n a1 a2 a3 a4 a5 a6 a7 a8 a9 a10 a11 a12 a13 a14 :=
  loop_m (σ := A1 × A2 × A3 × A4 × A5 × A6 × A7 × A8 × A9 × A10 × A11 × A12 × A13 × A14) (fun n s => W n s.1 s.2.1 s.2.2.1 s.2.2.2.1 s.2.2.2.2.1 s.2.2.2.2.2.1 s.2.2.2.2.2.2.1 s.2.2.2.2.2.2.2.1 s.2.2.2.2.2.2.2.2.1 s.2.2.2.2.2.2.2.2.2.1 s.2.2.2.2.2.2.2.2.2.2.1 s.2.2.2.2.2.2.2.2.2.2.2.1 s.2.2.2.2.2.2.2.2.2.2.2.2.1 s.2.2.2.2.2.2.2.2.2.2.2.2.2) (fun s => I s.1 s.2.1 s.2.2.1 s.2.2.2.1 s.2.2.2.2.1 s.2.2.2.2.2.1 s.2.2.2.2.2.2.1 s.2.2.2.2.2.2.2.1 s.2.2.2.2.2.2.2.2.1 s.2.2.2.2.2.2.2.2.2.1 s.2.2.2.2.2.2.2.2.2.2.1 s.2.2.2.2.2.2.2.2.2.2.2.1 s.2.2.2.2.2.2.2.2.2.2.2.2.1 s.2.2.2.2.2.2.2.2.2.2.2.2.2) (fun s => μ s.1 s.2.1 s.2.2.1 s.2.2.2.1 s.2.2.2.2.1 s.2.2.2.2.2.1 s.2.2.2.2.2.2.1 s.2.2.2.2.2.2.2.1 s.2.2.2.2.2.2.2.2.1 s.2.2.2.2.2.2.2.2.2.1 s.2.2.2.2.2.2.2.2.2.2.1 s.2.2.2.2.2.2.2.2.2.2.2.1 s.2.2.2.2.2.2.2.2.2.2.2.2.1 s.2.2.2.2.2.2.2.2.2.2.2.2.2) (fun n s hI hk => hs n s.1 s.2.1 s.2.2.1 s.2.2.2.1 s.2.2.2.2.1 s.2.2.2.2.2.1 s.2.2.2.2.2.2.1 s.2.2.2.2.2.2.2.1 s.2.2.2.2.2.2.2.2.1 s.2.2.2.2.2.2.2.2.2.1 s.2.2.2.2.2.2.2.2.2.2.1 s.2.2.2.2.2.2.2.2.2.2.2.1 s.2.2.2.2.2.2.2.2.2.2.2.2.1 s.2.2.2.2.2.2.2.2.2.2.2.2.2 hI (fun b1 b2 b3 b4 b5 b6 b7 b8 b9 b10 b11 b12 b13 b14 h9 hm => hk (b1, b2, b3, b4, b5, b6, b7, b8, b9, b10, b11, b12, b13, b14) h9 hm)) (a1, a2, a3, a4, a5, a6, a7, a8, a9, a10, a11, a12, a13, a14) h
theorem lp15 {A1 A2 A3 A4 A5 A6 A7 A8 A9 A10 A11 A12 A13 A14 A15 : Type} (W : Nat → A1 → A2 → A3 → A4 → A5 → A6 → A7 → A8 → A9 → A10 → A11 → A12 → A13 → A14 → A15 → Prop) (I : A1 → A2 → A3 → A4 → A5 → A6 → A7 → A8 → A9 → A10 → A11 → A12 → A13 → A14 → A15 → Prop) (μ : A1 → A2 → A3 → A4 → A5 → A6 → A7 → A8 → A9 → A10 → A11 → A12 → A13 → A14 → A15 → Nat) (hs : ∀ (n : Nat) (a1 : A1) (a2 : A2) (a3 : A3) (a4 : A4) (a5 : A5) (a6 : A6) (a7 : A7) (a8 : A8) (a9 : A9) (a10 : A10) (a11 : A11) (a12 : A12) (a13 : A13) (a14 : A14) (a15 : A15), I a1 a2 a3 a4 a5 a6 a7 a8 a9 a10 a11 a12 a13 a14 a15 → (∀ (b1 : A1) (b2 : A2) (b3 : A3) (b4 : A4) (b5 : A5) (b6 : A6) (b7 : A7) (b8 : A8) (b9 : A9) (b10 : A10) (b11 : A11) (b12 : A12) (b13 : A13) (b14 : A14) (b15 : A15), I b1 b2 b3 b4 b5 b6 b7 b8 b9 b10 b11 b12 b13 b14 b15 → μ b1 b2 b3 b4 b5 b6 b7 b8 b9 b10 b11 b12 b13 b14 b15 < μ a1 a2 a3 a4 a5 a6 a7 a8 a9 a10 a11 a12 a13 a14 a15 → W n b1 b2 b3 b4 b5 b6 b7 b8 b9 b10 b11 b12 b13 b14 b15) → W (n + 1) a1 a2 a3 a4 a5 a6 a7 a8 a9 a10 a11 a12 a13 a14 a15) (a1 : A1) (a2 : A2) (a3 : A3) (a4 : A4) (a5 : A5) (a6 : A6) (a7 : A7) (a8 : A8) (a9 : A9) (a10 : A10) (a11 : A11) (a12 : A12) (a13 : A13) (a14 : A14) (a15 : A15) (h : I a1 a2 a3 a4 a5 a6 a7 a8 a9 a10 a11 a12 a13 a14 a15) : ∃ n, W n a1 a2 a3 a4 a5 a6 a7 a8 a9 a10 a11 a12 a13 a14 a15 :=
  loop_m (σ := A1 × A2 × A3 × A4 × A5 × A6 × A7 × A8 × A9 × A10 × A11 × A12 × A13 × A14 × A15) (fun n s => W n s.1 s.2.1 s.2.2.1 s.2.2.2.1 s.2.2.2.2.1 s.2.2.2.2.2.1 s.2.2.2.2.2.2.1 s.2.2.2.2.2.2.2.1 s.2.2.2.2.2.2.2.2.1 s.2.2.2.2.2.2.2.2.2.1 s.2.2.2.2.2.2.2.2.2.2.1 s.2.2.2.2.2.2.2.2.2.2.2.1 s.2.2.2.2.2.2.2.2.2.2.2.2.1 s.2.2.2.2.2.2.2.2.2.2.2.2.2.1 s.2.2.2.2.2.2.2.2.2.2.2.2.2.2) (fun s => I s.1 s.2.1 s.2.2.1 s.2.2.2.1 s.2.2.2.2.1 s.2.2.2.2.2.1 s.2.2.2.2.2.2.1 s.2.2.2.2.2.2.2.1 s.2.2.2.2.2.2.2.2.1 s.2.2.2.2.2.2.2.2.2.1 s.2.2.2.2.2.2.2.2.2.2.1 s.2.2.2.2.2.2.2.2.2.2.2.1 s.2.2.2.2.2.2.2.2.2.2.2.2.1 s.2.2.2.2.2.2.2.2.2.2.2.2.2.1 s.2.2.2.2.2.2.2.2.2.2.2.2.2.2) (fun s => μ s.1 s.2.1 s.2.2.1 s.2.2.2.1 s.2.2.2.2.1 s.2.2.2.2.2.1 s.2.2.2.2.2.2.1 s.2.2.2.2.2.2.2.1 s.2.2.2.2.2.2.2.2.1 s.2.2.2.2.2.2.2.2.2.1 s.2.2.2.2.2.2.2.2.2.2.1 s.2.2.2.2.2.2.2.2.2.2.2.1 s.2.2.2.2.2.2.2.2.2.2.2.2.1 s.2.2.2.2.2.2.2.2.2.2.2.2.2.1 s.2.2.2.2.2.2.2.2.2.2.2.2.2.2) (fun n s hI hk => hs n s.1 s.2.1 s.2.2.1 s.2.2.2.1 s.2.2.2.2.1 s.2.2.2.2.2.1 s.2.2.2.2.2.2.1 s.2.2.2.2.2.2.2.1 s.2.2.2.2.2.2.2.2.1 s.2.2.2.2.2.2.2.2.2.1 s.2.2.2.2.2.2.2.2.2.2.1 s.2.2.2.2.2.2.2.2.2.2.2.1 s.2.2.2.2.2.2.2.2.2.2.2.2.1 s.2.2.2.2.2.2.2.2.2.2.2.2.2.1 s.2.2.2.2.2.2.2.2.2.2.2.2.2.2 hI (fun b1 b2 b3 b4 b5 b6 b7 b8 b9 b10 b11 b12 b13 b14 b15 h9 hm => hk (b1, b2, b3, b4, b5, b6, b7, b8, b9, b10, b11, b12, b13, b14, b15) h9 hm)) (a1, a2, a3, a4, a5, a6, a7, a8, a9, a10, a11, a12, a13, a14, a15) h
theorem lp16 {A1 A2 A3 A4 A5 A6 A7 A8 A9 A10 A11 A12 A13 A14 A15 A16 : Type} (W : Nat → A1 → A2 → A3 → A4 → A5 → A6 → A7 → A8 → A9 → A10 → A11 → A12 → A13 → A14 → A15 → A16 → Prop) (I : A1 → A2 → A3 → A4 → A5 → A6 → A7 → A8 → A9 → A10 → A11 → A12 → A13 → A14 → A15 → A16 → Prop) (μ : A1 → A2 → A3 → A4 → A5 → A6 → A7 → A8 → A9 → A10 → A11 → A12 → A13 → A14 → A15 → A16 → Nat) (hs : ∀ (n : Nat) (a1 : A1) (a2 : A2) (a3 : A3) (a4 : A4) (a5 : A5) (a6 : A6) (a7 : A7) (a8 : A8) (a9 : A9) (a10 : A10) (a11 : A11) (a12 : A12) (a13 : A13) (a14 : A14) (a15 : A15) (a16 : A16), I a1 a2 a3 a4 a5 a6 a7 a8 a9 a10 a11 a12 a13 a14 a15 a16 → (∀ (b1 : A1) (b2 : A2) (b3 : A3) (b4 : A4) (b5 : A5) (b6 : A6) (b7 : A7) (b8 : A8) (b9 : A9) (b10 : A10) (b11 : A11) (b12 : A12) (b13 : A13) (b14 : A14) (b15 : A15) (b16 : A16), I b1 b2 b3 b4 b5 b6 b7 b8 b9 b10 b11 b12 b13 b14 b15 b16 → μ b1 b2 b3 b4 b5 b6 b7 b8 b9 b10 b11 b12 b13 b14 b15 b16 < μ a1 a2 a3 a4 a5 a6 a7 a8 a9 a10 a11 a12 a13 a14 a15 a16 → W n b1 b2 b3 b4 b5 b6 b7 b8 b9 b10 b11 b12 b13 b14 b15 b16) → W (n + 1) a1 a2 a3 a4 a5 a6 a7 a8 a9 a10 a11 a12 a13 a14 a15 a16) (a1 : A1) (a2 : A2) (a3 : A3) (a4 : A4) (a5 : A5) (a6 : A6) (a7 : A7) (a8 : A8) (a9 : A9) (a10 : A10) (a11 : A11) (a12 : A12) (a13 : A13) (a14 : A14) (a15 : A15) (a16 : A16) (h : I a1 a2 a3 a4 a5 a6 a7 a8 a9 a10 a11 a12 a13 a14 a15 a16) : ∃ n, W n a1 a2 a3 a4 a5 a6 a7 a8 a9 a10 a11 a12 a13 a14 a15 a16 :=
  loop_m (σ := A1 × A2 × A3 × A4 × A5 × A6 × A7 × A8 × A9 × A10 × A11 × A12 × A13 × A14 × A15 × A16) (fun n s => W n s.1 s.2.1 s.2.2.1 s.2.2.2.1 s.2.2.2.2.1 s.2.2.2.2.2.1 s.2.2.2.2.2.2.1 s.2.2.2.2.2.2.2.1 s.2.2.2.2.2.2.2.2.1 s.2.2.2.2.2.2.2.2.2.1 s.2.2.2.2.2.2.2.2.2.2.1 s.2.2.2.2.2.2.2.2.2.2.2.1 s.2.2.2.2.2.2.2.2.2.2.2.2.1 s.2.2.2.2.2.2.2.2.2.2.2.2.2.1 s.2.2.2.2.2.2.2.2.2.2.2.2.2.2.1 s.2.2.2.2.2.2.2.2.2.2.2.2.2.2.2) (fun s => I s.1 s.2.1 s.2.2.1 s.2.2.2.1 s.2.2.2.2.1 s.2.2.2.2.2.1 s.2.2.2.2.2.2.1 s.2.2.2.2.2.2.2.1 s.2.2.2.2.2.2.2.2.1 s.2.2.2.2.2.2.2.2.2.1 s.2.2.2.2.2.2.2.2.2.2.1 s.2.2.2.2.2.2.2.2.2.2.2.1 s.2.2.2.2.2.2.2.2.2.2.2.2.1 s.2.2.2.2.2.2.2.2.2.2.2.2.2.1 s.2.2.2.2.2.2.2.2.2.2.2.2.2.2.1 s.2.2.2.2.2.2.2.2.2.2.2.2.2.2.2) (fun s => μ s.1 s.2.1 s.2.2.1 s.2.2.2.1 s.2.2.2.2.1 s.2.2.2.2.2.1 s.2.2.2.2.2.2.1 s.2.2.2.2.2.2.2.1 s.2.2.2.2.2.2.2.2.1 s.2.2.2.2.2.2.2.2.2.1 s.2.2.2.2.2.2.2.2.2.2.1 s.2.2.2.2.2.2.2.2.2.2.2.1 s.2.2.2.2.2.2.2.2.2.2.2.2.1 s.2.2.2.2.2.2.2.2.2.2.2.2.2.1 s.2.2.2.2.2.2.2.2.2.2.2.2.2.2.1 s.2.2.2.2.2.2.2.2.2.2.2.2.2.2.2) (fun n s hI hk => hs n s.1 s.2.1 s.2.2.1 s.2.2.2.1 s.2.2.2.2.1 s.2.2.2.2.2.1 s.2.2.2.2.2.2.1 s.2.2.2.2.2.2.2.1 s.2.2.2.2.2.2.2.2.1 s.2.2.2.2.2.2.2.2.2.1 s.2.2.2.2.2.2.2.2.2.2.1 s.2.2.2.2.2.2.2.2.2.2.2.1 s.2.2.2.2.2.2.2.2.2.2.2.2.1 s.2.2.2.2.2.2.2.2.2.2.2.2.2.1 s.2.2.2.2.2.2.2.2.2.2.2.2.2.2.1 s.2.2.2.2.2.2.2.2.2.2.2.2.2.2.2 hI (fun b1 b2 b3 b4 b5 b6 b7 b8 b9 b10 b11 b12 b13 b14 b15 b16 h9 hm => hk (b1, b2, b3, b4, b5, b6, b7, b8, b9, b10, b11, b12, b13, b14, b15, b16) h9 hm)) (a1, a2, a3, a4, a5, a6, a7, a8, a9, a10, a11, a12, a13, a14, a15, a16) h
theorem pk_least (P : Nat → Prop) (h : ∃ k, P k) : ∃ k, P k ∧ ∀ j, j < k → ¬ P j := by
  obtain ⟨k, hk⟩ := h
  induction k using Nat.strongRecOn with
  | ind k ih =>
    by_cases e : ∃ j, j < k ∧ P j
    · obtain ⟨j, hj, pj⟩ := e
      exact ih j hj pj
    · exact ⟨k, hk, fun j hj pj => e ⟨j, hj, pj⟩⟩
theorem rp1 {ρ A1 : Type} (W : Nat → (ρ → Prop) → A1 → Prop) (ok : A1 → Prop) (μ : A1 → Nat) (val : A1 → ρ)
    (hs : ∀ (d : Nat) (post : ρ → Prop) (a1 : A1), ok a1 → post (val a1) → (∀ (post' : ρ → Prop) (b1 : A1), ok b1 → μ b1 < μ a1 → post' (val b1) → W d post' b1) → W (d + 1) post a1) :
    ∀ (d : Nat) (post : ρ → Prop) (a1 : A1), ok a1 → μ a1 < d → post (val a1) → W d post a1 := by
  intro d
  induction d with
  | zero => intro post a1 _ h; omega
  | succ d ih =>
    intro post a1 ho hm hp
    exact hs d post a1 ho hp (fun post' b1 ho' hm' hp' => ih post' b1 ho' (by omega) hp')
theorem rp2 {ρ A1 A2 : Type} (W : Nat → (ρ → Prop) → A1 → A2 → Prop) (ok : A1 → A2 → Prop) (μ : A1 → A2 → Nat) (val : A1 → A2 → ρ)
    (hs : ∀ (d : Nat) (post : ρ → Prop) (a1 : A1) (a2 : A2), ok a1 a2 → post (val a1 a2) → (∀ (post' : ρ → Prop) (b1 : A1) (b2 : A2), ok b1 b2 → μ b1 b2 < μ a1 a2 → post' (val b1 b2) → W d post' b1 b2) → W (d + 1) post a1 a2) :
    ∀ (d : Nat) (post : ρ → Prop) (a1 : A1) (a2 : A2), ok a1 a2 → μ a1 a2 < d → post (val a1 a2) → W d post a1 a2 := by
  intro d
  induction d with
  | zero => intro post a1 a2 _ h; omega
  | succ d ih =>
    intro post a1 a2 ho hm hp
    exact hs d post a1 a2 ho hp (fun post' b1 b2 ho' hm' hp' => ih post' b1 b2 ho' (by omega) hp')
theorem rp3 {ρ A1 A2 A3 : Type} (W : Nat → (ρ → Prop) → A1 → A2 → A3 → Prop) (ok : A1 → A2 → A3 → Prop) (μ : A1 → A2 → A3 → Nat) (val : A1 → A2 → A3 → ρ)
    (hs : ∀ (d : Nat) (post : ρ → Prop) (a1 : A1) (a2 : A2) (a3 : A3), ok a1 a2 a3 → post (val a1 a2 a3) → (∀ (post' : ρ → Prop) (b1 : A1) (b2 : A2) (b3 : A3), ok b1 b2 b3 → μ b1 b2 b3 < μ a1 a2 a3 → post' (val b1 b2 b3) → W d post' b1 b2 b3) → W (d + 1) post a1 a2 a3) :
    ∀ (d : Nat) (post : ρ → Prop) (a1 : A1) (a2 : A2) (a3 : A3), ok a1 a2 a3 → μ a1 a2 a3 < d → post (val a1 a2 a3) → W d post a1 a2 a3 := by
  intro d
  induction d with
  | zero => intro post a1 a2 a3 _ h; omega
  | succ d ih =>
    intro post a1 a2 a3 ho hm hp
    exact hs d post a1 a2 a3 ho hp (fun post' b1 b2 b3 ho' hm' hp' => ih post' b1 b2 b3 ho' (by omega) hp')
theorem rp4 {ρ A1 A2 A3 A4 : Type} (W : Nat → (ρ → Prop) → A1 → A2 → A3 → A4 → Prop) (ok : A1 → A2 → A3 → A4 → Prop) (μ : A1 → A2 → A3 → A4 → Nat) (val : A1 → A2 → A3 → A4 → ρ)
    (hs : ∀ (d : Nat) (post : ρ → Prop) (a1 : A1) (a2 : A2) (a3 : A3) (a4 : A4), ok a1 a2 a3 a4 → post (val a1 a2 a3 a4) → (∀ (post' : ρ → Prop) (b1 : A1) (b2 : A2) (b3 : A3) (b4 : A4), ok b1 b2 b3 b4 → μ b1 b2 b3 b4 < μ a1 a2 a3 a4 → post' (val b1 b2 b3 b4) → W d post' b1 b2 b3 b4) → W (d + 1) post a1 a2 a3 a4) :
    ∀ (d : Nat) (post : ρ → Prop) (a1 : A1) (a2 : A2) (a3 : A3) (a4 : A4), ok a1 a2 a3 a4 → μ a1 a2 a3 a4 < d → post (val a1 a2 a3 a4) → W d post a1 a2 a3 a4 := by
  intro d
  induction d with
  | zero => intro post a1 a2 a3 a4 _ h; omega
  | succ d ih =>
    intro post a1 a2 a3 a4 ho hm hp
    exact hs d post a1 a2 a3 a4 ho hp (fun post' b1 b2 b3 b4 ho' hm' hp' => ih post' b1 b2 b3 b4 ho' (by omega) hp')
theorem rp5 {ρ A1 A2 A3 A4 A5 : Type} (W : Nat → (ρ → Prop) → A1 → A2 → A3 → A4 → A5 → Prop) (ok : A1 → A2 → A3 → A4 → A5 → Prop) (μ : A1 → A2 → A3 → A4 → A5 → Nat) (val : A1 → A2 → A3 → A4 → A5 → ρ)
    (hs : ∀ (d : Nat) (post : ρ → Prop) (a1 : A1) (a2 : A2) (a3 : A3) (a4 : A4) (a5 : A5), ok a1 a2 a3 a4 a5 → post (val a1 a2 a3 a4 a5) → (∀ (post' : ρ → Prop) (b1 : A1) (b2 : A2) (b3 : A3) (b4 : A4) (b5 : A5), ok b1 b2 b3 b4 b5 → μ b1 b2 b3 b4 b5 < μ a1 a2 a3 a4 a5 → post' (val b1 b2 b3 b4 b5) → W d post' b1 b2 b3 b4 b5) → W (d + 1) post a1 a2 a3 a4 a5) :
    ∀ (d : Nat) (post : ρ → Prop) (a1 : A1) (a2 : A2) (a3 : A3) (a4 : A4) (a5 : A5), ok a1 a2 a3 a4 a5 → μ a1 a2 a3 a4 a5 < d → post (val a1 a2 a3 a4 a5) → W d post a1 a2 a3 a4 a5 := by
  intro d
  induction d with
  | zero => intro post a1 a2 a3 a4 a5 _ h; omega
  | succ d ih =>
    intro post a1 a2 a3 a4 a5 ho hm hp
    exact hs d post a1 a2 a3 a4 a5 ho hp (fun post' b1 b2 b3 b4 b5 ho' hm' hp' => ih post' b1 b2 b3 b4 b5 ho' (by omega) hp')
theorem rp6 {ρ A1 A2 A3 A4 A5 A6 : Type} (W : Nat → (ρ → Prop) → A1 → A2 → A3 → A4 → A5 → A6 → Prop) (ok : A1 → A2 → A3 → A4 → A5 → A6 → Prop) (μ : A1 → A2 → A3 → A4 → A5 → A6 → Nat) (val : A1 → A2 → A3 → A4 → A5 → A6 → ρ)
    (hs : ∀ (d : Nat) (post : ρ → Prop) (a1 : A1) (a2 : A2) (a3 : A3) (a4 : A4) (a5 : A5) (a6 : A6), ok a1 a2 a3 a4 a5 a6 → post (val a1 a2 a3 a4 a5 a6) → (∀ (post' : ρ → Prop) (b1 : A1) (b2 : A2) (b3 : A3) (b4 : A4) (b5 : A5) (b6 : A6), ok b1 b2 b3 b4 b5 b6 → μ b1 b2 b3 b4 b5 b6 < μ a1 a2 a3 a4 a5 a6 → post' (val b1 b2 b3 b4 b5 b6) → W d post' b1 b2 b3 b4 b5 b6) → W (d + 1) post a1 a2 a3 a4 a5 a6) :
    ∀ (d : Nat) (post : ρ → Prop) (a1 : A1) (a2 : A2) (a3 : A3) (a4 : A4) (a5 : A5) (a6 : A6), ok a1 a2 a3 a4 a5 a6 → μ a1 a2 a3 a4 a5 a6 < d → post (val a1 a2 a3 a4 a5 a6) → W d post a1 a2 a3 a4 a5 a6 := by
  intro d
  induction d with
  | zero => intro post a1 a2 a3 a4 a5 a6 _ h; omega
  | succ d ih =>
    intro post a1 a2 a3 a4 a5 a6 ho hm hp
    exact hs d post a1 a2 a3 a4 a5 a6 ho hp (fun post' b1 b2 b3 b4 b5 b6 ho' hm' hp' => ih post' b1 b2 b3 b4 b5 b6 ho' (by omega) hp')
theorem rec_p {σ ρ : Type} (W : Nat → (ρ → Prop) → σ → Prop) (ok : σ → Prop) (μ : σ → Nat) (val : σ → ρ)
    (hs : ∀ d s post, ok s → post (val s) → (∀ s' post', ok s' → μ s' < μ s → post' (val s') → W d post' s') → W (d + 1) post s) :
    ∀ d s post, ok s → μ s < d → post (val s) → W d post s := by
  intro d
  induction d with
  | zero => intro s post _ h; omega
  | succ d ih =>
    intro s post ho hm hp
    exact hs d s post ho hp (fun s' post' ho' hm' hp' => ih s' post' ho' (by omega) hp')
theorem rec_q {σ ρ : Type} (W : Nat → (ρ → Prop) → σ → Prop) (ok : σ → Prop) (μ : σ → Nat) (Q : σ → ρ → Prop)
    (hs : ∀ d s post, ok s → (∀ r, Q s r → post r) → (∀ s' post', ok s' → μ s' < μ s → (∀ r, Q s' r → post' r) → W d post' s') → W (d + 1) post s) :
    ∀ d s post, ok s → μ s < d → (∀ r, Q s r → post r) → W d post s := by
  intro d
  induction d with
  | zero => intro s post _ h; omega
  | succ d ih =>
    intro s post ho hm hp
    exact hs d s post ho hp (fun s' post' ho' hm' hp' => ih s' post' ho' (by omega) hp')
def bx_sum (f : Nat → Int32) : Nat → Int32
  | 0 => 0
  | n + 1 => bx_sum f n + f n
theorem ek_u {A : Prop} {B : Nat → Prop} {k N : Nat} (hk : k < N) (h : B k) : (some k = none → A) ∧ (∀ y : Nat, some k = some y → (y < N ∧ B y)) :=
  ⟨fun z => absurd z (Option.some_ne_none k), fun _ e => (by cases e; exact ⟨hk, h⟩)⟩
theorem ek_nu {A : Prop} {B : Nat → Prop} (h : A) : ((none : Option Nat) = none → A) ∧ (∀ y : Nat, (none : Option Nat) = some y → B y) :=
  ⟨fun _ => h, fun _ e => (by cases e)⟩
theorem ek_if {c d A B : Prop} (e : c ↔ d) (f : d → A) (g : ¬ d → B) : (c → A) ∧ (¬ c → B) :=
  ⟨fun z => f (e.mp z), fun z => g (fun y => z (e.mpr y))⟩
theorem ek_v {α : Sort _} {P : α → Prop} {a b : α} (e : a = b) (h : P b) : P a := e ▸ h
theorem co_some {x : Option Nat} {A : Prop} {B : Nat → Prop} (i : Nat) (h : B i) (hx : x = some i := by rfl) : (x = none → A) ∧ (∀ y : Nat, x = some y → B y) := by
  subst hx
  exact ⟨fun e => (nomatch e), fun y e => Option.some.inj e ▸ h⟩
theorem co_none {x : Option Nat} {A : Prop} {B : Nat → Prop} (h : A) (hx : x = none := by rfl) : (x = none → A) ∧ (∀ y : Nat, x = some y → B y) := by
  subst hx
  exact ⟨fun _ => h, fun y e => (nomatch e)⟩
theorem co_any {x : Option Nat} {A : Prop} {B : Nat → Prop} (hn : x = none → A) (hs : ∀ i : Nat, x = some i → B i) : (x = none → A) ∧ (∀ y : Nat, x = some y → B y) := ⟨hn, hs⟩
theorem co_2 {P : Nat → Prop} (h0 : P 0) (h1 : P 1) {i : Nat} (hi : i < 2) : P i :=
  match i, hi with
  | 0, _ => h0
  | 1, _ => h1
theorem co_3 {P : Nat → Prop} (h0 : P 0) (h1 : P 1) (h2 : P 2) {i : Nat} (hi : i < 3) : P i :=
  match i, hi with
  | 0, _ => h0
  | 1, _ => h1
  | 2, _ => h2
theorem co_4 {P : Nat → Prop} (h0 : P 0) (h1 : P 1) (h2 : P 2) (h3 : P 3) {i : Nat} (hi : i < 4) : P i :=
  match i, hi with
  | 0, _ => h0
  | 1, _ => h1
  | 2, _ => h2
  | 3, _ => h3
theorem co_dec {N : Nat} {P : Nat → Prop} [DecidablePred P] (h : (List.range N).all (fun i => decide (P i)) = true) {i : Nat} (hi : i < N) : P i := by
  have := List.all_eq_true.mp h i (List.mem_range.mpr hi)
  exact of_decide_eq_true this
theorem co_tab {α : Type} {l : List α} {d : α} {P : α → Prop} (h : ∀ a, a ∈ l → P a) {i : Nat} (hi : i < l.length) : P (l.getD i d) := by
  rw [List.getD_eq_getElem?_getD, List.getElem?_eq_getElem hi]
  exact h _ (List.getElem_mem hi)
theorem pk_mu {x : Int32} {L : Nat} (h0 : ¬ x < 0) (h : ¬ nI L ≤ x) (hL : L < 2 ^ 31) : ∃ j : Nat, j < L ∧ x = nI j ∧ x + 1 = nI (j + 1) ∧ x.toNatClampNeg = j ∧ L - (x + 1).toNatClampNeg < L - x.toNatClampNeg := by
  obtain ⟨j, hj, rfl⟩ := nI_of h0
  have hl : j < L := Nat.not_le.mp fun q => h (nI_le q hj)
  refine ⟨j, hl, rfl, nI_1 j, nI_clamp hj, ?_⟩
  rw [nI_1, nI_clamp (by omega), nI_clamp hj]
  omega
theorem op_s {α : Type} {r : Option α} {A : Prop} {B : α → Prop} {y : α} (h : r = some y) (b : B y) : (r = none → A) ∧ ∀ z, r = some z → B z :=
  ⟨fun e => (by rw [h] at e; cases e), fun z e => (by rw [h] at e; cases e; exact b)⟩
def l_holds {α : Type} (a : Nat → Option Nat) (LP : List Nat) (p : Nat → α) (c : Nat) (b : Nat → α) : Prop :=
  ∀ j, j < c → ∃ y, a j = some y ∧ y ∈ LP ∧ p y = b j
theorem l_holds_0 {α : Type} {a : Nat → Option Nat} {LP : List Nat} {p b : Nat → α} : l_holds a LP p 0 b := fun j h => absurd h (Nat.not_lt_zero j)
theorem l_in_new (LP : List Nat) (q : Nat) : q ∈ LP ++ [q] := List.mem_append.mpr (Or.inr (List.mem_singleton.mpr rfl))
def l_sum (b : Nat → Int32) : Nat → Int32
  | 0 => 0
  | k + 1 => l_sum b k + b k
theorem sb_shr0 (x : Int32) : x >>> ((0 : Int32) &&& 31) = x := by
  rw [show ((0 : Int32) &&& 31) = 0 by decide]
  simp
theorem sb_shl0 (x : Int32) : x <<< ((0 : Int32) &&& 31) = x := by
  rw [show ((0 : Int32) &&& 31) = 0 by decide]
  simp
theorem sb_cl0 : (0 : Int32).toNatClampNeg = 0 := by decide
theorem sb_m1 {p : Nat} (h : 0 < p) : nI p + (-1) = nI (p - 1) := by
  obtain ⟨q, rfl⟩ : ∃ q, p = q + 1 := ⟨p - 1, by omega⟩
  exact pk_m1 q
def sb_b (c : Nat) : Int32 := (nI c).toInt8.toInt32
theorem sb_byte : ∀ c, c < 256 → sb_b c &&& 255 = nI c ∧ ((nI c).toUInt32 % 65536).toInt32 = nI c ∧ nI c ≤ 255 := by decide +kernel
def sb_Fit (a : Nat → Int32) : Prop := ∀ j, fits .byte (.int (a j)) = true
def sb_Lat (t : Nat → Nat) (n : Nat) (a : Nat → Int32) : Prop := ∀ j, j < n → t j < 256 ∧ a j = sb_b (t j)
theorem sb_fitB (c : Nat) : fits .byte (.int (sb_b c)) = true := pk_fb _
theorem sb_fit0 : sb_Fit (fun _ => 0) := fun _ => by
  show fits .byte (.int 0) = true
  decide
theorem sb_fitU {a : Nat → Int32} {k : Nat} {x : Int32} (h : sb_Fit a) (hx : fits .byte (.int x) = true) : sb_Fit (upd a k x) := by
  intro j
  by_cases e : j = k
  · subst e
    rw [pk_us]
    exact hx
  · rw [pk_un e]
    exact h j
def sb_cat (t : Nat → Nat) (n : Nat) (s : Nat → Nat) : Nat → Nat := fun j => if j < n then t j else s (j - n)
theorem sb_cat_lo {t s : Nat → Nat} {n j : Nat} (h : j < n) : sb_cat t n s j = t j := if_pos h
theorem sb_cat_hi {t s : Nat → Nat} {n j : Nat} : sb_cat t n s (n + j) = s j := by
  show (if n + j < n then t (n + j) else s (n + j - n)) = s j
  rw [if_neg (by omega), Nat.add_sub_cancel_left]
theorem sb_latPut {t s : Nat → Nat} {n w : Nat} {a a' : Nat → Int32} (h : sb_Lat t n a) (hk : ∀ j, j < n → a' j = a j) (hs : ∀ i, i < w → s i < 256 ∧ a' (n + i) = sb_b (s i)) : sb_Lat (sb_cat t n s) (n + w) a' := by
  intro j hj
  by_cases e : j < n
  · rw [sb_cat_lo e, hk j e]
    exact h j e
  · obtain ⟨i, rfl⟩ : ∃ i, j = n + i := ⟨j - n, by omega⟩
    rw [sb_cat_hi]
    exact hs i (by omega)
theorem sb_latKeep {t : Nat → Nat} {n : Nat} {a a' : Nat → Int32} (h : sb_Lat t n a) (hk : ∀ j, j < n → a' j = a j) : sb_Lat t n a' := fun j hj => by
  rw [hk j hj]
  exact h j hj
def sb_cap (q m : Nat) : Nat := if q ≤ m then m else if 2 * m + 2 < q then q else 2 * m + 2
def sb_Room (q m mc ms : Nat) : Prop := q ≤ m ∨ (1 ≤ mc ∧ sb_cap q m ≤ ms ∧ sb_cap q m ≤ 65536)
theorem sb_cap_ge (q m : Nat) : q ≤ sb_cap q m := by
  unfold sb_cap
  split
  · omega
  · split <;> omega
theorem sb_cap_gem (q m : Nat) : m ≤ sb_cap q m := by
  unfold sb_cap
  split
  · omega
  · split <;> omega
theorem sb_cap_le {q m mc ms : Nat} (hm : m ≤ 65536) (hr : sb_Room q m mc ms) : sb_cap q m ≤ 65536 := by
  rcases hr with h | h
  · rw [sb_cap, if_pos h]
    exact hm
  · exact h.2.2
theorem sb_at {P : Int32 → Prop} {x y : Int32} (e : x = y) (h : P y) : P x := e ▸ h
def sb_dg (w : Nat) : Nat := if w < 10 then 1 else if w < 100 then 2 else if w < 1000 then 3 else if w < 10000 then 4 else if w < 100000 then 5 else if w < 1000000 then 6 else if w < 10000000 then 7 else if w < 100000000 then 8 else if w < 1000000000 then 9 else 10
def sb_dec (v : Nat) : Nat → Nat := fun i => 48 + v / 10 ^ (sb_dg v - 1 - i) % 10
theorem sb_dg_in (w : Nat) : 1 ≤ sb_dg w ∧ sb_dg w ≤ 10 := by
  unfold sb_dg
  constructor <;> (repeat' split) <;> omega
theorem sb_dg100 {w : Nat} (h : 100 ≤ w) (hw : w < 2 ^ 31) : sb_dg w = sb_dg (w / 100) + 2 := by
  rw [sb_dg, sb_dg, if_neg (show ¬ w < 10 by omega), if_neg (show ¬ w < 100 by omega)]
  by_cases h3 : w < 1000
  · rw [if_pos h3, if_pos (show w / 100 < 10 by omega)]
  rw [if_neg h3, if_neg (show ¬ w / 100 < 10 by omega)]
  by_cases h4 : w < 10000
  · rw [if_pos h4, if_pos (show w / 100 < 100 by omega)]
  rw [if_neg h4, if_neg (show ¬ w / 100 < 100 by omega)]
  by_cases h5 : w < 100000
  · rw [if_pos h5, if_pos (show w / 100 < 1000 by omega)]
  rw [if_neg h5, if_neg (show ¬ w / 100 < 1000 by omega)]
  by_cases h6 : w < 1000000
  · rw [if_pos h6, if_pos (show w / 100 < 10000 by omega)]
  rw [if_neg h6, if_neg (show ¬ w / 100 < 10000 by omega)]
  by_cases h7 : w < 10000000
  · rw [if_pos h7, if_pos (show w / 100 < 100000 by omega)]
  rw [if_neg h7, if_neg (show ¬ w / 100 < 100000 by omega)]
  by_cases h8 : w < 100000000
  · rw [if_pos h8, if_pos (show w / 100 < 1000000 by omega)]
  rw [if_neg h8, if_neg (show ¬ w / 100 < 1000000 by omega)]
  by_cases h9 : w < 1000000000
  · rw [if_pos h9, if_pos (show w / 100 < 10000000 by omega)]
  rw [if_neg h9, if_neg (show ¬ w / 100 < 10000000 by omega)]
  rw [if_pos (show w / 100 < 100000000 by omega)]
theorem sb_negT {w : Nat} (h : w < 2 ^ 31) : (-nI w).toInt = -(w : Int) := by
  rw [Int32.toInt_neg, nI_toInt h]
  exact Int.bmod_eq_of_le (by omega) (by omega)
theorem sb_nle {a b : Nat} (ha : a < 2 ^ 31) (hb : b < 2 ^ 31) : -nI a ≤ -nI b ↔ b ≤ a := by
  rw [Int32.le_iff_toInt_le, sb_negT ha, sb_negT hb]
  omega
theorem sb_nlt {a b : Nat} (ha : a < 2 ^ 31) (hb : b < 2 ^ 31) : -nI a < -nI b ↔ b < a := by
  rw [Int32.lt_iff_toInt_lt, sb_negT ha, sb_negT hb]
  omega
theorem sb_cmp {A B : Prop} {x : Int32} (v c : Nat) (f : c ≤ v → A) (g : v < c → B) (hv : v < 2 ^ 31) (hx : x = -nI c := by rfl) (hc : c < 2 ^ 31 := by omega) : (-nI v ≤ x → A) ∧ (¬ -nI v ≤ x → B) := by
  subst hx
  rw [sb_nle hv hc]
  exact ⟨f, fun z => g (by omega)⟩
theorem sb_ndiv {w : Nat} (hw : w < 2 ^ 31) : (-nI w) / 100 = -nI (w / 100) := by
  apply Int32.toInt_inj.mp
  have h100 : (100 : Int32).toInt = 100 := by decide
  rw [Int32.toInt_div, sb_negT hw, h100, sb_negT (by omega), Int.neg_tdiv, Int.tdiv_eq_ediv_of_nonneg (by omega), Int.bmod_eq_of_le (by omega) (by omega)]
  omega
theorem sb_nrem {w : Nat} (hw : w < 2 ^ 31) : (-nI (w / 100)) * 100 - (-nI w) = nI (w % 100) := by
  have h := pk_rem (a := w) (d := 100) hw (by decide) (by decide)
  rw [pk_div hw (by decide) (by decide)] at h
  rw [← h]
  show (-nI (w / 100)) * nI 100 - (-nI w) = nI w - nI (w / 100) * nI 100
  rw [Int32.neg_mul, Int32.sub_neg, Int32.add_comm, ← Int32.sub_eq_add_neg]
end
section
/-! the pure list machine -/
abbrev ty_V : Type := Nat → Int32
abbrev ty_D : Type := ty_V × Nat × Nat × Nat × ty_V
abbrev ty_R : Type := Int32 × ty_V × ty_D
abbrev zq_wr (o : Int32) : Prop := (1 ≤ o ∧ o ≤ 12) ∨ o = 15
abbrev zq_r1 (o : Int32) : Prop := (2 ≤ o ∧ o ≤ 14) ∨ o = 17 ∨ o = 18
abbrev zq_r2 (o : Int32) : Prop := (3 ≤ o ∧ o ≤ 9) ∨ o = 13
abbrev zq_jp (o : Int32) : Prop := 16 ≤ o ∧ o ≤ 18
abbrev zq_pu (o : Int32) : Prop := 1 ≤ o ∧ o ≤ 11 ∧ ¬ o = 6 ∧ ¬ o = 7
abbrev zq_tk (o x : Int32) : Prop := o = 16 ∨ (o = 17 ∧ x = 0) ∨ (o = 18 ∧ ¬ x = 0)
abbrev zq_ce (o h : Int32) : Prop := ((o = 6 ∨ o = 7 ∨ o = 12) ∧ h = 0) ∨ (13 ≤ o ∧ o ≤ 15) ∨ o = 19 ∨ o = 21
def zq_end (g : Nat) (o x y : Int32) (D : ty_D) : Int32 :=
  if (o = 6 ∨ o = 7) ∧ y = 0 then 2
  else if (o = 12 ∨ o = 13) ∧ (x < 0 ∨ 8 ≤ x) then 2
  else if o = 15 ∧ g ≤ D.2.2.1 then 3
  else if o = 14 ∧ 20 ≤ D.2.2.2.1 then 4
  else if o = 19 ∧ 99 ≤ D.2.1 then 5
  else if o = 21 then 1 else 0
def zq_val (o x y : Int32) : Int32 :=
  if o = 3 then x + y else if o = 4 then x - y else if o = 5 then x * y
  else if o = 6 then (if y = 0 then 0 else x / y)
  else if o = 7 then (if y = 0 then 0 else x - x / y * y)
  else if o = 8 then (if x < y then 1 else 0)
  else if o = 9 then (if x = y then 1 else 0)
  else if o = 10 then (if x = 0 then 1 else 0)
  else if o = 11 then -x else x
def zq_res (I : ty_V) (o x y : Int32) (D : ty_D) : Int32 :=
  if o = 12 then D.1 (x &&& 7).toNatClampNeg else if o = 15 then I D.2.2.1 else zq_val o x y
def zq_eff (o x y : Int32) (D : ty_D) : ty_D :=
  if o = 13 then (upd D.1 (x &&& 7).toNatClampNeg y, D.2)
  else if o = 14 then (D.1, D.2.1, D.2.2.1, D.2.2.2.1 + 1, upd D.2.2.2.2 D.2.2.2.1 x)
  else if o = 15 then (D.1, D.2.1, D.2.2.1 + 1, D.2.2.2)
  else if o = 19 then (D.1, D.2.1 + 1, D.2.2) else D
def zq_x (o f : Int32) (V : ty_V) : Int32 := if zq_r1 o then V f.toNatClampNeg else f
def zq_y (o s : Int32) (V : ty_V) : Int32 := if zq_r2 o then V s.toNatClampNeg else 0
def zq_w (o t r : Int32) (V : ty_V) : ty_V := if zq_wr o then upd V t.toNatClampNeg r else V
def zq_sb (g : Nat) (I : ty_V) (o t f s : Int32) (V : ty_V) (D : ty_D) (J : Int32 → Prop) (T : Int32 → Prop) (N : ty_V → ty_D → Prop) : Prop :=
  (zq_tk o (zq_x o f V) → J t) ∧ (¬ zq_tk o (zq_x o f V) →
    ((¬ zq_end g o (zq_x o f V) (zq_y o s V) D = 0 → T (zq_end g o (zq_x o f V) (zq_y o s V) D)) ∧
    (zq_end g o (zq_x o f V) (zq_y o s V) D = 0 → N (zq_w o t (zq_res I o (zq_x o f V) (zq_y o s V) D) V) (zq_eff o (zq_x o f V) (zq_y o s V) D))))
def zq_fin (R : ty_R) (V : ty_V) (D : ty_D) (e : Int32) : Prop := e = R.1 ∧ (∀ v, v < 6 → V v = R.2.1 v) ∧ D = R.2.2
def zq_ex (g : Nat) (I : ty_V) (n : Nat) (op tg fi se : ty_V) (A : Nat → ty_V → ty_D → Prop) (R : ty_R) : Nat → Nat → Nat → ty_V → ty_D → Prop
  | 0 => fun _ _ _ _ => False
  | m + 1 => fun b p V D => p < n ∧ A p V D ∧ zq_sb g I (op p) (tg p) (fi p) (se p) V D
      (fun l => ∃ q, q < n ∧ op q = 20 ∧ tg q = l ∧ ((p < q ∧ zq_ex g I n op tg fi se A R m b q V D) ∨ (q ≤ p ∧ ∃ c, b = c + 1 ∧ zq_ex g I n op tg fi se A R m c q V D)))
      (zq_fin R V D)
      (fun W E => zq_ex g I n op tg fi se A R m b (p + 1) W E)
def zq_hm (g : Nat) (op fi se hm : ty_V) (p : Nat) (V : ty_V) (D : ty_D) : Prop :=
  ¬ hm p = 0 → zq_end g (op p) (zq_x (op p) (fi p) V) (zq_y (op p) (se p) V) D = 0
abbrev zq_wi (o t f s h : Int32) : Prop := (0 ≤ o ∧ o ≤ 21) ∧ (0 ≤ t ∧ t < 180) ∧ (zq_wr o → t < 96) ∧ (zq_r1 o → 0 ≤ f ∧ f < 96) ∧ (0 ≤ s ∧ s < 96) ∧ (h = 0 ∨ (h = 1 ∧ (o = 6 ∨ o = 7 ∨ o = 12)))
def zq_wf (n : Nat) (op tg fi se hm : ty_V) : Prop :=
  n ≤ 500 ∧ (∀ i, i < n → zq_wi (op i) (tg i) (fi i) (se i) (hm i)) ∧
  (∀ i, i < n → zq_jp (op i) → ∃ q, q < n ∧ op q = 20 ∧ tg q = tg i) ∧
  (∀ p q, p < n → q < n → op p = 20 → op q = 20 → tg p = tg q → p = q)
def zq_gd (g : Nat) (I : ty_V) (R : ty_R) (D0 : ty_D) (n : Nat) (op tg fi se hm : ty_V) : Prop :=
  zq_wf n op tg fi se hm ∧ ∃ m, zq_ex g I n op tg fi se (zq_hm g op fi se hm) R m 99 0 (fun _ => 0) D0

theorem zq_us {f : Nat → Int32} {k : Nat} {x : Int32} : upd f k x k = x := by simp [upd]
theorem zq_un {f : Nat → Int32} {k j : Nat} {x : Int32} (h : j ≠ k) : upd f k x j = f j := by simp [upd, h]

theorem zq_tkj {o x : Int32} (h : zq_tk o x) : zq_jp o := by
  rcases h with rfl | ⟨rfl, _⟩ | ⟨rfl, _⟩ <;> decide
theorem zq_cases {g : Nat} {I : ty_V} {o t f s : Int32} {V : ty_V} {D : ty_D} {J : Int32 → Prop} {T : Int32 → Prop} {N : ty_V → ty_D → Prop}
    (h : zq_sb g I o t f s V D J T N) :
    (zq_tk o (zq_x o f V) ∧ J t) ∨ (¬ zq_tk o (zq_x o f V) ∧ ¬ zq_end g o (zq_x o f V) (zq_y o s V) D = 0 ∧ T (zq_end g o (zq_x o f V) (zq_y o s V) D)) ∨
    (¬ zq_tk o (zq_x o f V) ∧ zq_end g o (zq_x o f V) (zq_y o s V) D = 0 ∧ N (zq_w o t (zq_res I o (zq_x o f V) (zq_y o s V) D) V) (zq_eff o (zq_x o f V) (zq_y o s V) D)) := by
  by_cases h1 : zq_tk o (zq_x o f V)
  · exact Or.inl ⟨h1, h.1 h1⟩
  · by_cases h2 : zq_end g o (zq_x o f V) (zq_y o s V) D = 0
    · exact Or.inr (Or.inr ⟨h1, h2, (h.2 h1).2 h2⟩)
    · exact Or.inr (Or.inl ⟨h1, h2, (h.2 h1).1 h2⟩)
theorem zq_sbJ {g : Nat} {I : ty_V} {o t f s : Int32} {V : ty_V} {D : ty_D} {J : Int32 → Prop} {T : Int32 → Prop} {N : ty_V → ty_D → Prop}
    (h : zq_tk o (zq_x o f V)) (hJ : J t) : zq_sb g I o t f s V D J T N := ⟨fun _ => hJ, fun h1 => absurd h h1⟩
theorem zq_sbT {g : Nat} {I : ty_V} {o t f s : Int32} {V : ty_V} {D : ty_D} {J : Int32 → Prop} {T : Int32 → Prop} {N : ty_V → ty_D → Prop}
    (h : ¬ zq_tk o (zq_x o f V)) (h2 : ¬ zq_end g o (zq_x o f V) (zq_y o s V) D = 0) (hT : T (zq_end g o (zq_x o f V) (zq_y o s V) D)) :
    zq_sb g I o t f s V D J T N := ⟨fun h1 => absurd h1 h, fun _ => ⟨fun _ => hT, fun h3 => absurd h3 h2⟩⟩
theorem zq_sbN {g : Nat} {I : ty_V} {o t f s : Int32} {V : ty_V} {D : ty_D} {J : Int32 → Prop} {T : Int32 → Prop} {N : ty_V → ty_D → Prop}
    (h : ¬ zq_tk o (zq_x o f V)) (h2 : zq_end g o (zq_x o f V) (zq_y o s V) D = 0)
    (hN : N (zq_w o t (zq_res I o (zq_x o f V) (zq_y o s V) D) V) (zq_eff o (zq_x o f V) (zq_y o s V) D)) :
    zq_sb g I o t f s V D J T N := ⟨fun h1 => absurd h1 h, fun _ => ⟨fun h3 => absurd h2 h3, fun _ => hN⟩⟩
theorem zq_sbm {g : Nat} {I : ty_V} {o t f s : Int32} {V : ty_V} {D : ty_D} {J J' : Int32 → Prop} {T T' : Int32 → Prop} {N N' : ty_V → ty_D → Prop}
    (hJ : zq_jp o → J t → J' t) (hT : ∀ e, T e → T' e) (hN : ∀ W E, N W E → N' W E) (h : zq_sb g I o t f s V D J T N) : zq_sb g I o t f s V D J' T' N' := by
  rcases zq_cases h with ⟨h1, h2⟩ | ⟨h1, h2, h3⟩ | ⟨h1, h2, h3⟩
  · exact zq_sbJ h1 (hJ (zq_tkj h1) h2)
  · exact zq_sbT h1 h2 (hT _ h3)
  · exact zq_sbN h1 h2 (hN _ _ h3)
theorem zq_nop {g : Nat} {I : ty_V} {o t f s : Int32} {V : ty_V} {D : ty_D} {J : Int32 → Prop} {T : Int32 → Prop} {N : ty_V → ty_D → Prop}
    (ho : o = 0 ∨ o = 20) : zq_sb g I o t f s V D J T N ↔ N V D := by
  rcases ho with rfl | rfl <;> simp [zq_sb, zq_end, zq_w, zq_eff, zq_tk, zq_wr]
theorem zq_nope {g : Nat} {o x y : Int32} {D : ty_D} (ho : o = 0 ∨ o = 20) : zq_end g o x y D = 0 := by
  rcases ho with rfl | rfl <;> simp [zq_end]

section
variable {g : Nat} {I : ty_V} {n : Nat} {op tg fi se hm : ty_V} {A A1 : Nat → ty_V → ty_D → Prop} {R : ty_R}
theorem zq_exi {m b p : Nat} {V : ty_V} {D : ty_D} (h1 : p < n) (h2 : A p V D) (h3 : zq_sb g I (op p) (tg p) (fi p) (se p) V D
      (fun l => ∃ q, q < n ∧ op q = 20 ∧ tg q = l ∧ ((p < q ∧ zq_ex g I n op tg fi se A R m b q V D) ∨ (q ≤ p ∧ ∃ c, b = c + 1 ∧ zq_ex g I n op tg fi se A R m c q V D)))
      (zq_fin R V D)
      (fun W E => zq_ex g I n op tg fi se A R m b (p + 1) W E)) : zq_ex g I n op tg fi se A R (m + 1) b p V D := And.intro h1 (And.intro h2 h3)
theorem zq_exe {m b p : Nat} {V : ty_V} {D : ty_D} (h : zq_ex g I n op tg fi se A R m b p V D) : ∃ k, m = k + 1 ∧ p < n ∧ A p V D ∧ zq_sb g I (op p) (tg p) (fi p) (se p) V D
      (fun l => ∃ q, q < n ∧ op q = 20 ∧ tg q = l ∧ ((p < q ∧ zq_ex g I n op tg fi se A R k b q V D) ∨ (q ≤ p ∧ ∃ c, b = c + 1 ∧ zq_ex g I n op tg fi se A R k c q V D)))
      (zq_fin R V D)
      (fun W E => zq_ex g I n op tg fi se A R k b (p + 1) W E) := by
  cases m with
  | zero => exact absurd h id
  | succ k => exact ⟨k, rfl, h⟩
theorem zq_mono (hA : ∀ p V D, p < n → A p V D → A1 p V D) : ∀ m b p V D m1 b1, m ≤ m1 → b ≤ b1 →
    zq_ex g I n op tg fi se A R m b p V D → zq_ex g I n op tg fi se A1 R m1 b1 p V D := by
  intro m
  induction m with
  | zero => intro b p V D m1 b1 _ _ h; exact absurd h id
  | succ m ih =>
    intro b p V D m1 b1 hm hb h
    obtain ⟨k, hk, h1, h2, h3⟩ := zq_exe h
    obtain rfl : k = m := by omega
    obtain ⟨m1, rfl⟩ : ∃ k, m1 = k + 1 := ⟨m1 - 1, by omega⟩
    refine zq_exi h1 (hA _ _ _ h1 h2) (zq_sbm ?_ (fun _ h => h) ?_ h3)
    · rintro _ ⟨q, hq, g1, g2, g3⟩
      refine ⟨q, hq, g1, g2, ?_⟩
      rcases g3 with ⟨g3, g4⟩ | ⟨g3, c, hc, g4⟩
      · exact Or.inl ⟨g3, ih _ _ _ _ _ _ (by omega) hb g4⟩
      · exact Or.inr ⟨g3, b1 - 1, by omega, ih _ _ _ _ _ _ (by omega) (by omega) g4⟩
    · intro W E h; exact ih _ _ _ _ _ _ (by omega) hb h
theorem zq_mn {m b p m1 b1 : Nat} {V : ty_V} {D : ty_D} (h : zq_ex g I n op tg fi se A R m b p V D) (hm : m ≤ m1) (hb : b ≤ b1) :
    zq_ex g I n op tg fi se A R m1 b1 p V D := zq_mono (fun _ _ _ _ h => h) _ _ _ _ _ _ _ hm hb h
theorem zq_swap {op1 tg1 fi1 se1 : ty_V}
    (hs : ∀ p V D, p < n → A p V D → A1 p V D ∧ ∀ J T N, zq_sb g I (op p) (tg p) (fi p) (se p) V D J T N → zq_sb g I (op1 p) (tg1 p) (fi1 p) (se1 p) V D J T N)
    (hl : ∀ p q, p < n → q < n → zq_jp (op p) → op q = 20 → tg q = tg p → op1 q = 20 ∧ tg1 q = tg q) : ∀ m b p V D,
    zq_ex g I n op tg fi se A R m b p V D → zq_ex g I n op1 tg1 fi1 se1 A1 R m b p V D := by
  intro m
  induction m with
  | zero => intro b p V D h; exact absurd h id
  | succ m ih =>
    intro b p V D h
    obtain ⟨k, hk, h1, h2, h3⟩ := zq_exe h
    obtain rfl : k = m := by omega
    refine zq_exi h1 (hs _ _ _ h1 h2).1 ((hs _ _ _ h1 h2).2 _ _ _ (zq_sbm ?_ (fun _ h => h) ?_ h3))
    · rintro hj ⟨q, hq, h4, h5, h6⟩
      have hlq := hl p q h1 hq hj h4 h5
      refine ⟨q, hq, hlq.1, hlq.2.trans h5, ?_⟩
      rcases h6 with ⟨h6, h7⟩ | ⟨h6, c, rfl, h7⟩
      · exact Or.inl ⟨h6, ih _ _ _ _ h7⟩
      · exact Or.inr ⟨h6, c, rfl, ih _ _ _ _ h7⟩
    · intro W E h; exact ih _ _ _ _ h
theorem zq_adv {F : ty_V → ty_D → Prop} (i : Nat)
    (hstep : ∀ V D, A i V D → ¬ zq_tk (op i) (zq_x (op i) (fi i) V) → zq_end g (op i) (zq_x (op i) (fi i) V) (zq_y (op i) (se i) V) D = 0 →
      F (zq_w (op i) (tg i) (zq_res I (op i) (zq_x (op i) (fi i) V) (zq_y (op i) (se i) V) D) V) (zq_eff (op i) (zq_x (op i) (fi i) V) (zq_y (op i) (se i) V) D)) :
    ∀ m b p V D, (p = i + 1 → ¬ op p = 20 → F V D) → zq_ex g I n op tg fi se A R m b p V D →
      zq_ex g I n op tg fi se (fun p V D => A p V D ∧ (p = i + 1 → ¬ op p = 20 → F V D)) R m b p V D := by
  intro m
  induction m with
  | zero => intro b p V D _ h; exact absurd h id
  | succ m ih =>
    intro b p V D hF h
    obtain ⟨k, hk, h1, h2, h3⟩ := zq_exe h
    obtain rfl : k = m := by omega
    refine zq_exi h1 ⟨h2, hF⟩ ?_
    rcases zq_cases h3 with ⟨h4, h5⟩ | ⟨h4, h5, h6⟩ | ⟨h4, h5, h6⟩
    · refine zq_sbJ h4 ?_
      obtain ⟨q, hq, h6, h7, h8⟩ := h5
      refine ⟨q, hq, h6, h7, ?_⟩
      rcases h8 with ⟨h8, h9⟩ | ⟨h8, c, rfl, h9⟩
      · exact Or.inl ⟨h8, ih _ _ _ _ (fun _ h => absurd h6 h) h9⟩
      · exact Or.inr ⟨h8, c, rfl, ih _ _ _ _ (fun _ h => absurd h6 h) h9⟩
    · exact zq_sbT h4 h5 h6
    · refine zq_sbN h4 h5 (ih _ _ _ _ ?_ h6)
      intro e _
      obtain rfl : p = i := by omega
      exact hstep _ _ h2 h4 h5
theorem zq_unr {op1 tg1 fi1 se1 : ty_V} {U : Nat → Prop} (hU : ∀ p, U (p + 1) → U p ∨ op p = 16 ∨ op p = 21) (hL : ∀ q, U q → ¬ op q = 20)
    (hs : ∀ p, p < n → ¬ U p → op1 p = op p ∧ tg1 p = tg p ∧ fi1 p = fi p ∧ se1 p = se p) (hA : ∀ p V D, p < n → ¬ U p → A p V D → A1 p V D) : ∀ m b p V D,
    ¬ U p → zq_ex g I n op tg fi se A R m b p V D → zq_ex g I n op1 tg1 fi1 se1 A1 R m b p V D := by
  intro m
  induction m with
  | zero => intro b p V D _ h; exact absurd h id
  | succ m ih =>
    intro b p V D hp h
    obtain ⟨k, hk, h1, h2, h3⟩ := zq_exe h
    obtain rfl : k = m := by omega
    obtain ⟨e1, e2, e3, e4⟩ := hs p h1 hp
    refine zq_exi h1 (hA _ _ _ h1 hp h2) ?_
    rw [e1, e2, e3, e4]
    rcases zq_cases h3 with ⟨h4, h5⟩ | ⟨h4, h5, h6⟩ | ⟨h4, h5, h6⟩
    · refine zq_sbJ h4 ?_
      obtain ⟨q, hq, h6, h7, h8⟩ := h5
      have hqU : ¬ U q := fun h => hL q h h6
      obtain ⟨e1, e2, e3, e4⟩ := hs q hq hqU
      refine ⟨q, hq, e1.trans h6, e2.trans h7, ?_⟩
      rcases h8 with ⟨h8, h9⟩ | ⟨h8, c, rfl, h9⟩
      · exact Or.inl ⟨h8, ih _ _ _ _ hqU h9⟩
      · exact Or.inr ⟨h8, c, rfl, ih _ _ _ _ hqU h9⟩
    · exact zq_sbT h4 h5 h6
    · refine zq_sbN h4 h5 (ih _ _ _ _ ?_ h6)
      intro hu
      rcases hU p hu with hu | hu | hu
      · exact hp hu
      · exact h4 (Or.inl hu)
      · rw [hu] at h5
        simp [zq_end] at h5
theorem zq_skip : ∀ d m b p V D, (∀ k, p ≤ k → k < p + d → op k = 0 ∨ op k = 20) → zq_ex g I n op tg fi se A R m b p V D →
    ∃ k, k ≤ m ∧ zq_ex g I n op tg fi se A R k b (p + d) V D := by
  intro d
  induction d with
  | zero => intro m b p V D _ h; exact ⟨m, Nat.le_refl _, h⟩
  | succ d ih =>
    intro m b p V D hs h
    obtain ⟨k, hk, h1, h2, h3⟩ := zq_exe h
    have h4 := (zq_nop (hs p (Nat.le_refl _) (by omega))).mp h3
    obtain ⟨j, hj, h5⟩ := ih k b (p + 1) V D (fun q h1 h2 => hs q (by omega) (by omega)) h4
    refine ⟨j, by omega, ?_⟩
    rw [show p + (d + 1) = p + 1 + d by omega]; exact h5
theorem zq_unsk (hA : ∀ p V D, (op p = 0 ∨ op p = 20) → A p V D) : ∀ d m b p V D, (∀ k, p ≤ k → k < p + d → op k = 0 ∨ op k = 20) →
    zq_ex g I n op tg fi se A R m b (p + d) V D → zq_ex g I n op tg fi se A R (m + d) b p V D := by
  intro d
  induction d with
  | zero => intro m b p V D _ h; exact h
  | succ d ih =>
    intro m b p V D hs h
    have h1 : zq_ex g I n op tg fi se A R m b (p + 1 + d) V D := by rw [show p + 1 + d = p + (d + 1) by omega]; exact h
    have h2 := ih m b (p + 1) V D (fun q h1 h2 => hs q (by omega) (by omega)) h1
    obtain ⟨k, _, h3, _⟩ := zq_exe h
    exact zq_exi (by omega) (hA _ _ _ (hs p (Nat.le_refl _) (by omega))) ((zq_nop (hs p (Nat.le_refl _) (by omega))).mpr h2)
end
end
section
/-! the passes' atoms over the pure list machine -/
section
variable {g : Nat} {I : ty_V} {n : Nat} {op tg fi se hm : ty_V} {R : ty_R}
theorem zq_wrj {o : Int32} (h : zq_wr o) : ¬ zq_jp o := by
  intro h2
  rcases h with ⟨_, h⟩ | rfl
  · exact absurd (Int32.le_trans h2.1 h) (by decide)
  · exact absurd h2.1 (by decide)
theorem zq_wre {o x : Int32} (h : zq_wr o) : ¬ zq_tk o x := fun h2 => zq_wrj h (zq_tkj h2)
/-- a jump to a jump goes to where that one goes -/
theorem zq_thread {A : Nat → ty_V → ty_D → Prop} {i L to : Nat} (hi : zq_jp (op i)) (hLt : L ≤ to) (hsil : ∀ k, L ≤ k → k < to → op k = 0 ∨ op k = 20)
    (ho : op to = 16) (hu : ∀ q, q < n → op q = 20 → tg q = tg i → q = L) : ∀ M m, m < M → ∀ b p V D,
    zq_ex g I n op tg fi se A R m b p V D → zq_ex g I n op (upd tg i (tg to)) fi se A R m b p V D := by
  have hne : ∀ q, op q = 20 → q ≠ i := by
    intro q hq e
    rw [e] at hq; rw [hq] at hi; exact absurd hi (by decide)
  intro M
  induction M with
  | zero => intro m hm; omega
  | succ M ih =>
    intro m hm b p V D h
    obtain ⟨k, rfl, h1, h2, h3⟩ := zq_exe h
    refine zq_exi h1 h2 ?_
    rcases zq_cases h3 with ⟨h4, h5⟩ | ⟨h4, h5, h6⟩ | ⟨h4, h5, h6⟩
    · refine zq_sbJ h4 ?_
      obtain ⟨q, hq, h6, h7, h8⟩ := h5
      by_cases hp : p = i
      · subst hp
        obtain rfl := hu q hq h6 h7
        obtain ⟨c, hc, hc2, h9⟩ : ∃ c, (p < q → c ≤ b) ∧ (q ≤ p → c + 1 = b) ∧ zq_ex g I n op tg fi se A R k c q V D := by
          rcases h8 with ⟨h8, h9⟩ | ⟨h8, c, rfl, h9⟩
          · exact ⟨b, fun _ => Nat.le_refl _, fun h => by omega, h9⟩
          · exact ⟨c, fun _ => by omega, fun h => rfl, h9⟩
        clear h8
        obtain ⟨j, hj, h10⟩ := zq_skip (to - q) k c q V D (fun k h1 h2 => hsil k h1 (by omega)) h9
        rw [show q + (to - q) = to by omega] at h10
        obtain ⟨j, rfl, _, _, h13⟩ := zq_exe h10
        have h14 := h13.1 (by rw [ho]; exact Or.inl rfl)
        obtain ⟨r, hr, h15, h16, h17⟩ := h14
        refine ⟨r, hr, h15, ?_, ?_⟩
        · rw [zq_un (hne r h15), zq_us]; exact h16
        · obtain ⟨d, hd, hd2, h18⟩ : ∃ d, (to < r → d ≤ c) ∧ (r ≤ to → d + 1 = c) ∧ zq_ex g I n op (upd tg p (tg to)) fi se A R j d r V D := by
            rcases h17 with ⟨h17, h18⟩ | ⟨h17, d, rfl, h18⟩
            · exact ⟨c, fun _ => Nat.le_refl _, fun h => by omega, ih _ (by omega) _ _ _ _ h18⟩
            · exact ⟨d, fun _ => by omega, fun h => rfl, ih _ (by omega) _ _ _ _ h18⟩
          clear h17
          by_cases hpr : p < r
          · exact Or.inl ⟨hpr, zq_mn h18 (by omega) (by omega)⟩
          · refine Or.inr ⟨by omega, b - 1, by omega, zq_mn h18 (by omega) (by omega)⟩
      · refine ⟨q, hq, h6, ?_, ?_⟩
        · rw [zq_un hp, zq_un (hne q h6)]; exact h7
        · rcases h8 with ⟨h8, h9⟩ | ⟨h8, c, rfl, h9⟩
          · exact Or.inl ⟨h8, ih _ (by omega) _ _ _ _ h9⟩
          · exact Or.inr ⟨h8, c, rfl, ih _ (by omega) _ _ _ _ h9⟩
    · exact zq_sbT h4 h5 h6
    · have hj : p = i → ¬ zq_wr (op p) := by
        intro e hw; rw [e] at hw; exact zq_wrj hw hi
      refine zq_sbN h4 h5 ?_
      by_cases hp : p = i
      · have e : ∀ t r, zq_w (op p) t r V = V := fun t r => if_neg (hj hp)
        rw [e] at h6 ⊢
        exact ih _ (by omega) _ _ _ _ h6
      · rw [zq_un hp]; exact ih _ (by omega) _ _ _ _ h6
/-- a jump to what comes next anyway is none -/
theorem zq_dropj {i L goal : Nat} (hi : zq_jp (op i)) (hL : i < L) (hLg : L ≤ goal) (hsil : ∀ k, i < k → k < goal → op k = 0 ∨ op k = 20)
    (hu : ∀ q, q < n → op q = 20 → tg q = tg i → q = L) : ∀ M m, m < M → ∀ b p V D,
    zq_ex g I n op tg fi se (zq_hm g op fi se hm) R m b p V D →
    ∃ j, zq_ex g I n (upd op i 0) tg (upd fi i 0) (upd se i 0) (zq_hm g (upd op i 0) (upd fi i 0) (upd se i 0) (upd hm i 0)) R j b p V D := by
  have hne : ∀ q, op q = 20 → q ≠ i := by
    intro q hq e
    rw [e] at hq; rw [hq] at hi; exact absurd hi (by decide)
  have hA : ∀ p V D, (upd op i 0 p = 0 ∨ upd op i 0 p = 20) → zq_hm g (upd op i 0) (upd fi i 0) (upd se i 0) (upd hm i 0) p V D :=
    fun p V D h _ => zq_nope h
  have hn : ∀ b V D, (∃ j, zq_ex g I n (upd op i 0) tg (upd fi i 0) (upd se i 0) (zq_hm g (upd op i 0) (upd fi i 0) (upd se i 0) (upd hm i 0)) R j b (i + 1) V D) →
      ∃ j, zq_ex g I n (upd op i 0) tg (upd fi i 0) (upd se i 0) (zq_hm g (upd op i 0) (upd fi i 0) (upd se i 0) (upd hm i 0)) R j b i V D := by
    rintro b V D ⟨j, h⟩
    obtain ⟨k, _, h1, _⟩ := zq_exe h
    exact ⟨j + 1, zq_exi (by omega) (hA _ _ _ (Or.inl zq_us)) ((zq_nop (Or.inl zq_us)).mpr h)⟩
  intro M
  induction M with
  | zero => intro m hm; omega
  | succ M ih =>
    intro m hm1 b p V D h
    obtain ⟨k, rfl, h1, h2, h3⟩ := zq_exe h
    by_cases hp : p = i
    · subst hp
      apply hn
      rcases zq_cases h3 with ⟨h4, h5⟩ | ⟨h4, h5, h6⟩ | ⟨h4, h5, h6⟩
      · obtain ⟨q, hq, h6, h7, h8⟩ := h5
        obtain rfl := hu q hq h6 h7
        rcases h8 with ⟨h8, h9⟩ | ⟨h8, c, rfl, h9⟩
        · obtain ⟨j, hj, h10⟩ := zq_skip (goal - q) k b q V D (fun k h1 h2 => hsil k (by omega) (by omega)) h9
          rw [show q + (goal - q) = goal by omega] at h10
          obtain ⟨j2, h11⟩ := ih _ (by omega) _ _ _ _ h10
          refine ⟨j2 + (goal - (p + 1)), zq_unsk hA (goal - (p + 1)) j2 b (p + 1) V D ?_ ?_⟩
          · intro k hk hk2
            rw [zq_un (by omega)]; exact hsil k (by omega) (by omega)
          · rw [show p + 1 + (goal - (p + 1)) = goal by omega]; exact h11
        · omega
      · exfalso
        apply h5
        have hj : ∀ o : Int32, zq_jp o → ∀ x y D, zq_end g o x y D = 0 := by
          intro o ho x y D
          have ne : ∀ c : Int32, (c < 16 ∨ 18 < c) → ¬ o = c := by
            rintro c hc rfl
            rcases hc with hc | hc
            · exact absurd ho.1 (Int32.not_le.mpr hc)
            · exact absurd ho.2 (Int32.not_le.mpr hc)
          simp [zq_end, ne 6 (by decide), ne 7 (by decide), ne 12 (by decide), ne 13 (by decide), ne 15 (by decide), ne 14 (by decide), ne 19 (by decide), ne 21 (by decide)]
        exact hj _ hi _ _ _
      · have hw : ¬ zq_wr (op p) := fun hw => zq_wrj hw hi
        have e : ∀ x y, zq_eff (op p) x y D = D := by
          intro x y
          have ne : ∀ c : Int32, (c < 16 ∨ 18 < c) → ¬ op p = c := by
            intro c hc e
            rw [e] at hi
            rcases hc with hc | hc
            · exact absurd hi.1 (Int32.not_le.mpr hc)
            · exact absurd hi.2 (Int32.not_le.mpr hc)
          simp [zq_eff, ne 13 (by decide), ne 15 (by decide), ne 14 (by decide), ne 19 (by decide)]
        rw [e, zq_w, if_neg hw] at h6
        exact ih _ (by omega) _ _ _ _ h6
    · have hA2 : zq_hm g (upd op i 0) (upd fi i 0) (upd se i 0) (upd hm i 0) p V D := by
        unfold zq_hm
        rw [zq_un hp, zq_un hp, zq_un hp, zq_un hp]; exact h2
      rcases zq_cases h3 with ⟨h4, h5⟩ | ⟨h4, h5, h6⟩ | ⟨h4, h5, h6⟩
      · obtain ⟨q, hq, h6, h7, h8⟩ := h5
        have fin : ∀ c, (p < q → c = b) → (q ≤ p → b = c + 1) → zq_ex g I n op tg fi se (zq_hm g op fi se hm) R k c q V D →
            ∃ j, zq_ex g I n (upd op i 0) tg (upd fi i 0) (upd se i 0) (zq_hm g (upd op i 0) (upd fi i 0) (upd se i 0) (upd hm i 0)) R j b p V D := by
          intro c hc hc2 h9
          obtain ⟨j, h10⟩ := ih _ (by omega) _ _ _ _ h9
          refine ⟨j + 1, zq_exi h1 hA2 ?_⟩
          rw [zq_un hp, zq_un hp, zq_un hp]
          refine zq_sbJ h4 ⟨q, hq, by rw [zq_un (hne q h6)]; exact h6, h7, ?_⟩
          by_cases hpq : p < q
          · obtain rfl := hc hpq
            exact Or.inl ⟨hpq, h10⟩
          · exact Or.inr ⟨by omega, c, hc2 (by omega), h10⟩
        rcases h8 with ⟨h8, h9⟩ | ⟨h8, c, rfl, h9⟩
        · exact fin b (fun _ => rfl) (fun h => by omega) h9
        · exact fin c (fun h => by omega) (fun _ => rfl) h9
      · refine ⟨1, zq_exi h1 hA2 ?_⟩
        rw [zq_un hp, zq_un hp, zq_un hp]
        exact zq_sbT h4 h5 h6
      · obtain ⟨j, h10⟩ := ih _ (by omega) _ _ _ _ h6
        refine ⟨j + 1, zq_exi h1 hA2 ?_⟩
        rw [zq_un hp, zq_un hp, zq_un hp]
        exact zq_sbN h4 h5 h10
/-- the number of instructions other than 0 below p -/
def zq_rk (op : ty_V) : Nat → Nat
  | 0 => 0
  | p + 1 => if op p = 0 then zq_rk op p else zq_rk op p + 1
theorem zq_rk_le (op : ty_V) {p q : Nat} (h : p ≤ q) : zq_rk op p ≤ zq_rk op q := by
  induction h with
  | refl => exact Nat.le_refl _
  | step _ ih =>
    refine Nat.le_trans ih ?_
    simp only [zq_rk]; split <;> omega
theorem zq_rk_lt {op : ty_V} {p q : Nat} (h : p < q) (ho : ¬ op p = 0) : zq_rk op p < zq_rk op q := by
  have h1 := zq_rk_le op (show p + 1 ≤ q from h)
  simp only [zq_rk, if_neg ho] at h1; omega
/-- the gaps are closed -/
theorem zq_close {op1 tg1 fi1 se1 hm1 : ty_V} (hc : ∀ p, p < n → ¬ op p = 0 → op1 (zq_rk op p) = op p ∧ tg1 (zq_rk op p) = tg p ∧ fi1 (zq_rk op p) = fi p ∧
      se1 (zq_rk op p) = se p ∧ hm1 (zq_rk op p) = hm p) : ∀ m b p V D,
    zq_ex g I n op tg fi se (zq_hm g op fi se hm) R m b p V D →
    zq_ex g I (zq_rk op n) op1 tg1 fi1 se1 (zq_hm g op1 fi1 se1 hm1) R m b (zq_rk op p) V D := by
  intro m
  induction m with
  | zero => intro b p V D h; exact absurd h id
  | succ m ih =>
    intro b p V D h
    obtain ⟨k, hk, h1, h2, h3⟩ := zq_exe h
    obtain rfl : k = m := by omega
    by_cases h0 : op p = 0
    · have h4 := ih _ _ _ _ ((zq_nop (Or.inl h0)).mp h3)
      simp only [zq_rk, if_pos h0] at h4
      exact zq_mn h4 (by omega) (Nat.le_refl _)
    · obtain ⟨e1, e2, e3, e4, e5⟩ := hc p h1 h0
      refine zq_exi (zq_rk_lt h1 h0) ?_ ?_
      · unfold zq_hm; rw [e1, e3, e4, e5]; exact h2
      · rw [e1, e2, e3, e4]
        refine zq_sbm ?_ (fun _ h => h) ?_ h3
        · rintro _ ⟨q, hq, h6, h7, h8⟩
          have hq0 : ¬ op q = 0 := by rw [h6]; decide
          obtain ⟨d1, d2, _⟩ := hc q hq hq0
          refine ⟨zq_rk op q, zq_rk_lt hq hq0, d1.trans h6, d2.trans h7, ?_⟩
          rcases h8 with ⟨h8, h9⟩ | ⟨h8, c, rfl, h9⟩
          · exact Or.inl ⟨zq_rk_lt h8 h0, ih _ _ _ _ h9⟩
          · exact Or.inr ⟨zq_rk_le op h8, c, rfl, ih _ _ _ _ h9⟩
        · intro W E h
          have h4 := ih _ _ _ _ h
          simp only [zq_rk, if_neg h0] at h4
          exact h4
/-! what lives -/
def zq_LP (n : Nat) (op tg fi se hm : ty_V) (L : Nat → Nat → Prop) : Prop := ∀ i, i < n →
  (¬ op i = 16 → ¬ op i = 21 → ∀ v, L (i + 1) v → (zq_wr (op i) ∧ v = (tg i).toNatClampNeg) ∨ L i v) ∧
  (zq_jp (op i) → ∀ q, q < n → op q = 20 → tg q = tg i → ∀ v, L q v → L i v) ∧
  (zq_r1 (op i) → L i (fi i).toNatClampNeg) ∧ (zq_r2 (op i) → L i (se i).toNatClampNeg) ∧
  (zq_ce (op i) (hm i) → ∀ v, v < 6 → L i v)
theorem zq_endce {o x y h : Int32} {D : ty_D} (h1 : ¬ zq_end g o x y D = 0) (h2 : ¬ h = 0 → zq_end g o x y D = 0) : zq_ce o h := by
  have hh : h = 0 := Classical.byContradiction fun e => h1 (h2 e)
  subst hh
  unfold zq_end at h1
  by_cases a1 : (o = 6 ∨ o = 7) ∧ y = 0
  · rcases a1.1 with rfl | rfl <;> decide
  · rw [if_neg a1] at h1
    by_cases a2 : (o = 12 ∨ o = 13) ∧ (x < 0 ∨ 8 ≤ x)
    · rcases a2.1 with rfl | rfl <;> decide
    · rw [if_neg a2] at h1
      by_cases a3 : o = 15 ∧ g ≤ D.2.2.1
      · rw [a3.1]; decide
      · rw [if_neg a3] at h1
        by_cases a4 : o = 14 ∧ 20 ≤ D.2.2.2.1
        · rw [a4.1]; decide
        · rw [if_neg a4] at h1
          by_cases a5 : o = 19 ∧ 99 ≤ D.2.1
          · rw [a5.1]; decide
          · rw [if_neg a5] at h1
            by_cases a6 : o = 21
            · rw [a6]; decide
            · rw [if_neg a6] at h1; exact absurd rfl h1
theorem zq_end21 {x y : Int32} {D : ty_D} : ¬ zq_end g 21 x y D = 0 := by simp [zq_end]
/-- one instruction from two states that agree where it looks -/
theorem zq_agree {o f s : Int32} {V V' : ty_V} (h1 : zq_r1 o → V f.toNatClampNeg = V' f.toNatClampNeg) (h2 : zq_r2 o → V s.toNatClampNeg = V' s.toNatClampNeg) :
    zq_x o f V = zq_x o f V' ∧ zq_y o s V = zq_y o s V' := by
  unfold zq_x zq_y
  constructor
  · by_cases h : zq_r1 o
    · rw [if_pos h, if_pos h, h1 h]
    · rw [if_neg h, if_neg h]
  · by_cases h : zq_r2 o
    · rw [if_pos h, if_pos h, h2 h]
    · rw [if_neg h, if_neg h]
theorem zq_wag {o t r : Int32} {V V' : ty_V} {L L1 : Nat → Prop} (hV : ∀ v, L v → V v = V' v) (hL : ∀ v, L1 v → (zq_wr o ∧ v = t.toNatClampNeg) ∨ L v) :
    ∀ v, L1 v → zq_w o t r V v = zq_w o t r V' v := by
  intro v hv
  unfold zq_w
  by_cases h : zq_wr o
  · rw [if_pos h, if_pos h]
    by_cases e : v = t.toNatClampNeg
    · rw [e, zq_us, zq_us]
    · rw [zq_un e, zq_un e]
      rcases hL v hv with h3 | h3
      · exact absurd h3.2 e
      · exact hV v h3
  · rw [if_neg h, if_neg h]
    rcases hL v hv with h3 | h3
    · exact absurd h3.1 h
    · exact hV v h3
/-- what nobody looks at is dropped -/
theorem zq_dead {L : Nat → Nat → Prop} {i : Nat} (hLP : zq_LP n op tg fi se hm L) (hw : zq_wr (op i))
    (hpu : zq_pu (op i) ∨ (¬ hm i = 0 ∧ (op i = 6 ∨ op i = 7 ∨ op i = 12))) (hd : ¬ L (i + 1) (tg i).toNatClampNeg) : ∀ m b p V V' D, (∀ v, L p v → V v = V' v) →
    zq_ex g I n op tg fi se (zq_hm g op fi se hm) R m b p V D →
    zq_ex g I n (upd op i 0) tg (upd fi i 0) (upd se i 0) (zq_hm g (upd op i 0) (upd fi i 0) (upd se i 0) (upd hm i 0)) R m b p V' D := by
  have hne : ∀ q, op q = 20 → q ≠ i := by
    intro q hq e
    rw [e] at hq; rw [hq] at hw; exact absurd hw (by decide)
  have heff : ∀ x y D, zq_eff (op i) x y D = D := by
    intro x y D
    have h : ¬ op i = 13 ∧ ¬ op i = 14 ∧ ¬ op i = 15 ∧ ¬ op i = 19 := by
      rcases hpu with h | ⟨_, h | h | h⟩
      · refine ⟨?_, ?_, ?_, ?_⟩ <;> (intro e; rw [e] at h; exact absurd h (by decide))
      · rw [h]; decide
      · rw [h]; decide
      · rw [h]; decide
    simp [zq_eff, h.1, h.2.1, h.2.2.1, h.2.2.2]
  intro m
  induction m with
  | zero => intro b p V V' D _ h; exact absurd h id
  | succ m ih =>
    intro b p V V' D hV h
    obtain ⟨k, hk, h1, h2, h3⟩ := zq_exe h
    obtain rfl : k = m := by omega
    obtain ⟨l1, l2, l3, l4, l5⟩ := hLP p h1
    by_cases hp : p = i
    · subst hp
      refine zq_exi h1 (fun _ => zq_nope (Or.inl zq_us)) ((zq_nop (Or.inl zq_us)).mpr ?_)
      rcases zq_cases h3 with ⟨h4, h5⟩ | ⟨h4, h5, h6⟩ | ⟨h4, h5, h6⟩
      · exact absurd h4 (zq_wre hw)
      · exfalso
        rcases hpu with h | h
        · have := zq_endce (h := 0) h5 (fun h => absurd rfl h)
          have ne : ∀ c : Int32, (c < 1 ∨ 11 < c) → ¬ op p = c := by
            intro c hc e
            rw [e] at h
            rcases hc with hc | hc
            · exact absurd h.1 (Int32.not_le.mpr hc)
            · exact absurd h.2.1 (Int32.not_le.mpr hc)
          rcases this with ⟨h7, _⟩ | h7 | h7 | h7
          · rcases h7 with h7 | h7 | h7
            · exact h.2.2.1 h7
            · exact h.2.2.2 h7
            · exact ne 12 (by decide) h7
          · exact absurd (Int32.le_trans h7.1 h.2.1) (by decide)
          · exact ne 19 (by decide) h7
          · exact ne 21 (by decide) h7
        · exact h5 (h2 h.1)
      · rw [heff] at h6
        refine ih _ _ _ _ _ ?_ h6
        intro v hv
        have hvt : v ≠ (tg p).toNatClampNeg := fun e => hd (e ▸ hv)
        rw [zq_w, if_pos hw, zq_un hvt]
        have h16 : ¬ op p = 16 := fun e => by rw [e] at hw; exact absurd hw (by decide)
        have h21 : ¬ op p = 21 := fun e => by rw [e] at hw; exact absurd hw (by decide)
        rcases l1 h16 h21 v hv with h7 | h7
        · exact absurd h7.2 hvt
        · exact hV v h7
    · obtain ⟨e1, e2⟩ := zq_agree (o := op p) (f := fi p) (s := se p) (V := V) (V' := V') (fun h => hV _ (l3 h)) (fun h => hV _ (l4 h))
      refine zq_exi h1 ?_ ?_
      · unfold zq_hm; rw [zq_un hp, zq_un hp, zq_un hp, zq_un hp, ← e1, ← e2]; exact h2
      · rw [zq_un hp, zq_un hp, zq_un hp]
        rcases zq_cases h3 with ⟨h4, h5⟩ | ⟨h4, h5, h6⟩ | ⟨h4, h5, h6⟩
        · refine zq_sbJ (by rw [← e1]; exact h4) ?_
          obtain ⟨q, hq, h6, h7, h8⟩ := h5
          have hVq : ∀ v, L q v → V v = V' v := fun v hv => hV v (l2 (zq_tkj h4) q hq h6 h7 v hv)
          refine ⟨q, hq, by rw [zq_un (hne q h6)]; exact h6, h7, ?_⟩
          rcases h8 with ⟨h8, h9⟩ | ⟨h8, c, rfl, h9⟩
          · exact Or.inl ⟨h8, ih _ _ _ _ _ hVq h9⟩
          · exact Or.inr ⟨h8, c, rfl, ih _ _ _ _ _ hVq h9⟩
        · refine zq_sbT (by rw [← e1]; exact h4) (by rw [← e1, ← e2]; exact h5) ?_
          rw [← e1, ← e2]
          refine ⟨h6.1, fun v hv => ?_, h6.2.2⟩
          rw [← hV v (l5 (zq_endce h5 h2) v hv)]; exact h6.2.1 v hv
        · refine zq_sbN (by rw [← e1]; exact h4) (by rw [← e1, ← e2]; exact h5) ?_
          rw [← e1, ← e2]
          refine ih _ _ _ _ _ ?_ h6
          refine zq_wag hV (l1 (fun e => h4 (Or.inl e)) (fun e => ?_))
          rw [e] at h5; exact zq_end21 h5
/-- what is moved on at once is written there -/
theorem zq_join {L : Nat → Nat → Prop} {i : Nat} (hLP : zq_LP n op tg fi se hm L) (hi : i + 1 < n) (hw : zq_wr (op i)) (h2 : op (i + 1) = 2) (hf : fi (i + 1) = tg i)
    (hne : (tg (i + 1)).toNatClampNeg ≠ (tg i).toNatClampNeg) (hd : ¬ L (i + 2) (tg i).toNatClampNeg) : ∀ m b p V V' D,
    (p = i + 1 → V (tg i).toNatClampNeg = V' (tg (i + 1)).toNatClampNeg ∧ ∀ v, L (i + 2) v → v ≠ (tg (i + 1)).toNatClampNeg → V v = V' v) →
    (p ≠ i + 1 → ∀ v, L p v → V v = V' v) →
    zq_ex g I n op tg fi se (zq_hm g op fi se hm) R m b p V D →
    zq_ex g I n (upd op (i + 1) 0) (upd tg i (tg (i + 1))) (upd fi (i + 1) 0) (upd se (i + 1) 0)
      (zq_hm g (upd op (i + 1) 0) (upd fi (i + 1) 0) (upd se (i + 1) 0) (upd hm (i + 1) 0)) R m b p V' D := by
  have hne1 : ∀ q, op q = 20 → q ≠ i + 1 := by
    intro q hq e
    rw [e, h2] at hq; exact absurd hq (by decide)
  have hne2 : ∀ q, op q = 20 → q ≠ i := by
    intro q hq e
    rw [e] at hq; rw [hq] at hw; exact absurd hw (by decide)
  intro m
  induction m with
  | zero => intro b p V V' D _ _ h; exact absurd h id
  | succ m ih =>
    intro b p V V' D hA hB h
    obtain ⟨k, hk, g1, g2, g3⟩ := zq_exe h
    obtain rfl : k = m := by omega
    obtain ⟨l1, l2, l3, l4, l5⟩ := hLP p g1
    by_cases hp : p = i + 1
    · obtain ⟨a1, a2⟩ := hA hp
      subst hp
      refine zq_exi g1 (fun _ => zq_nope (Or.inl zq_us)) ((zq_nop (Or.inl zq_us)).mpr ?_)
      have hx : zq_x (op (i + 1)) (fi (i + 1)) V = V (tg i).toNatClampNeg := by rw [zq_x, h2, if_pos (by decide), hf]
      have g4 := (g3.2 (fun h => absurd (zq_tkj h) (by rw [h2]; decide))).2 (by rw [h2]; simp [zq_end])
      rw [h2] at g4
      have er : ∀ x y, zq_res I 2 x y D = x := by intro x y; simp [zq_res, zq_val]
      have ee : ∀ x y, zq_eff 2 x y D = D := by intro x y; simp [zq_eff]
      rw [er, ee, zq_w, if_pos (by decide), ← h2, hx] at g4
      refine ih _ _ _ _ _ (fun h => by omega) (fun _ v hv => ?_) g4
      by_cases e : v = (tg (i + 1)).toNatClampNeg
      · rw [e, zq_us]; exact a1
      · rw [zq_un e]; exact a2 v hv e
    · have hV := hB hp
      obtain ⟨e1, e2⟩ := zq_agree (o := op p) (f := fi p) (s := se p) (V := V) (V' := V') (fun h => hV _ (l3 h)) (fun h => hV _ (l4 h))
      refine zq_exi g1 ?_ ?_
      · unfold zq_hm; rw [zq_un hp, zq_un hp, zq_un hp, zq_un hp, ← e1, ← e2]; exact g2
      · rw [zq_un hp, zq_un hp, zq_un hp]
        rcases zq_cases g3 with ⟨h4, h5⟩ | ⟨h4, h5, h6⟩ | ⟨h4, h5, h6⟩
        · have hpi : p ≠ i := by
            intro e; rw [e] at h4; exact zq_wre hw h4
          rw [zq_un hpi]
          refine zq_sbJ (by rw [← e1]; exact h4) ?_
          obtain ⟨q, hq, h6, h7, h8⟩ := h5
          have hVq : ∀ v, L q v → V v = V' v := fun v hv => hV v (l2 (zq_tkj h4) q hq h6 h7 v hv)
          refine ⟨q, hq, by rw [zq_un (hne1 q h6)]; exact h6, by rw [zq_un (hne2 q h6)]; exact h7, ?_⟩
          rcases h8 with ⟨h8, h9⟩ | ⟨h8, c, rfl, h9⟩
          · exact Or.inl ⟨h8, ih _ _ _ _ _ (fun e => absurd e (hne1 q h6)) (fun _ => hVq) h9⟩
          · exact Or.inr ⟨h8, c, rfl, ih _ _ _ _ _ (fun e => absurd e (hne1 q h6)) (fun _ => hVq) h9⟩
        · refine zq_sbT (by rw [← e1]; exact h4) (by rw [← e1, ← e2]; exact h5) ?_
          rw [← e1, ← e2]
          refine ⟨h6.1, fun v hv => ?_, h6.2.2⟩
          rw [← hV v (l5 (zq_endce h5 g2) v hv)]; exact h6.2.1 v hv
        · refine zq_sbN (by rw [← e1]; exact h4) (by rw [← e1, ← e2]; exact h5) ?_
          rw [← e1, ← e2]
          have h16 : ¬ op p = 16 := fun e => h4 (Or.inl e)
          have h21 : ¬ op p = 21 := fun e => by rw [e] at h5; exact zq_end21 h5
          by_cases hpi : p = i
          · subst hpi
            rw [zq_us]
            refine ih _ _ _ _ _ (fun _ => ⟨?_, ?_⟩) (fun h => absurd rfl h) h6
            · rw [zq_w, if_pos hw, zq_us, zq_w, if_pos hw, zq_us]
            · intro v hv hvd
              have hvt : v ≠ (tg p).toNatClampNeg := fun e => hd (e ▸ hv)
              rw [zq_w, if_pos hw, zq_un hvt, zq_w, if_pos hw, zq_un hvd]
              have k1 : L (p + 1) v := by
                rcases (hLP (p + 1) hi).1 (by rw [h2]; decide) (by rw [h2]; decide) v hv with h7 | h7
                · exact absurd h7.2 hvd
                · exact h7
              rcases l1 h16 h21 v k1 with h7 | h7
              · exact absurd h7.2 hvt
              · exact hV v h7
          · rw [zq_un hpi]
            exact ih _ _ _ _ _ (fun e => by omega) (fun _ => zq_wag hV (l1 h16 h21)) h6
end
end
section
/-! liveness: rounds and bits, pure -/
section
variable (gen kil : Nat → Nat → Bool) (fa jm : Nat → Bool) (lb : Nat → Nat)
def zl_F (X : Nat → Nat → Bool) (i v : Nat) : Bool := gen i v || (!(kil i v) && ((fa i && X (i + 1) v) || (jm i && X (lb i) v)))
def zl_p (n : Nat) : Nat → Nat → Nat → Bool
  | 0 => fun _ _ => false
  | r + 1 => fun i v => decide (i < n) && zl_F gen kil fa jm lb (zl_p n r) i v
theorem zl_Fm {X Y : Nat → Nat → Bool} {i v : Nat} (h1 : X (i + 1) v = true → Y (i + 1) v = true) (h2 : X (lb i) v = true → Y (lb i) v = true) :
    zl_F gen kil fa jm lb X i v = true → zl_F gen kil fa jm lb Y i v = true := by
  simp only [zl_F, Bool.or_eq_true, Bool.and_eq_true]
  rintro (h | ⟨h, h3 | h3⟩)
  · exact Or.inl h
  · exact Or.inr ⟨h, Or.inl ⟨h3.1, h1 h3.2⟩⟩
  · exact Or.inr ⟨h, Or.inr ⟨h3.1, h2 h3.2⟩⟩
theorem zl_pin {n r i v : Nat} (h : zl_p gen kil fa jm lb n r i v = true) : i < n := by
  cases r with
  | zero => exact absurd h (by simp [zl_p])
  | succ r =>
    simp only [zl_p, Bool.and_eq_true, decide_eq_true_eq] at h
    exact h.1
theorem zl_ps {n : Nat} : ∀ r i v, zl_p gen kil fa jm lb n r i v = true → zl_p gen kil fa jm lb n (r + 1) i v = true := by
  intro r
  induction r with
  | zero => intro i v h; exact absurd h (by simp [zl_p])
  | succ r ih =>
    intro i v h
    have hi := zl_pin gen kil fa jm lb h
    simp only [zl_p, Bool.and_eq_true, decide_eq_true_eq] at h ⊢
    exact ⟨hi, zl_Fm gen kil fa jm lb (ih _ _) (ih _ _) h.2⟩
def zl_cn (f : Nat → Bool) : Nat → Nat
  | 0 => 0
  | k + 1 => zl_cn f k + (if f k = true then 1 else 0)
theorem zl_cnb (f : Nat → Bool) : ∀ k, zl_cn f k ≤ k := by
  intro k
  induction k with
  | zero => exact Nat.le_refl _
  | succ k ih => simp only [zl_cn]; split <;> omega
theorem zl_cnle {f h : Nat → Bool} : ∀ k, (∀ i, i < k → f i = true → h i = true) → zl_cn f k ≤ zl_cn h k := by
  intro k
  induction k with
  | zero => intro _; exact Nat.le_refl _
  | succ k ih =>
    intro hh
    have h1 := ih (fun i hi => hh i (by omega))
    have h2 := hh k (by omega)
    simp only [zl_cn]
    by_cases hf : f k = true
    · rw [if_pos hf, if_pos (h2 hf)]; omega
    · rw [if_neg hf]; split <;> omega
theorem zl_cnlt {f h : Nat → Bool} : ∀ k, (∀ i, i < k → f i = true → h i = true) → (∃ i, i < k ∧ ¬ f i = true ∧ h i = true) → zl_cn f k < zl_cn h k := by
  intro k
  induction k with
  | zero => rintro _ ⟨i, hi, _⟩; omega
  | succ k ih =>
    rintro hh ⟨i, hi, h1, h2⟩
    simp only [zl_cn]
    by_cases e : i = k
    · subst e
      have := zl_cnle i (fun j hj => hh j (by omega))
      rw [if_neg h1, if_pos h2]; omega
    · have h3 := ih (fun i hi => hh i (by omega)) ⟨i, by omega, h1, h2⟩
      have h4 := hh k (by omega)
      by_cases hf : f k = true
      · rw [if_pos hf, if_pos (h4 hf)]; omega
      · rw [if_neg hf]; split <;> omega
theorem zl_st1 {n v : Nat} : ∀ r, (∀ i, zl_p gen kil fa jm lb n (r + 1) i v = true → zl_p gen kil fa jm lb n r i v = true) ∨
    r + 1 ≤ zl_cn (fun i => zl_p gen kil fa jm lb n (r + 1) i v) n := by
  intro r
  induction r with
  | zero =>
    by_cases h : ∀ i, zl_p gen kil fa jm lb n 1 i v = true → zl_p gen kil fa jm lb n 0 i v = true
    · exact Or.inl h
    · refine Or.inr ?_
      obtain ⟨i, hi⟩ := Classical.not_forall.mp h
      obtain ⟨h1, h2⟩ := Classical.not_imp.mp hi
      have := zl_cnlt (f := fun _ => false) (h := fun i => zl_p gen kil fa jm lb n (0 + 1) i v) n (fun _ _ h => absurd h (by simp)) ⟨i, zl_pin gen kil fa jm lb h1, by simp, h1⟩
      omega
  | succ r ih =>
    rcases ih with ih | ih
    · refine Or.inl fun i h => ?_
      have hi := zl_pin gen kil fa jm lb h
      simp only [zl_p, Bool.and_eq_true, decide_eq_true_eq]
      refine ⟨hi, zl_Fm gen kil fa jm lb (X := zl_p gen kil fa jm lb n (r + 1)) (ih _) (ih _) ?_⟩
      have h2 : zl_p gen kil fa jm lb n (r + 1 + 1) i v = true := h
      rw [zl_p] at h2
      simp only [Bool.and_eq_true, decide_eq_true_eq] at h2
      exact h2.2
    · by_cases h : ∀ i, zl_p gen kil fa jm lb n (r + 1 + 1) i v = true → zl_p gen kil fa jm lb n (r + 1) i v = true
      · exact Or.inl h
      · refine Or.inr ?_
        obtain ⟨i, hi⟩ := Classical.not_forall.mp h
        obtain ⟨h1, h2⟩ := Classical.not_imp.mp hi
        have := zl_cnlt (f := fun i => zl_p gen kil fa jm lb n (r + 1) i v) (h := fun i => zl_p gen kil fa jm lb n (r + 1 + 1) i v) n
          (fun i _ h => zl_ps gen kil fa jm lb _ _ _ h) ⟨i, zl_pin gen kil fa jm lb h1, h2, h1⟩
        omega
theorem zl_st {n v : Nat} : ∀ r i, zl_p gen kil fa jm lb n r i v = true → zl_p gen kil fa jm lb n n i v = true := by
  have h0 : ∀ i, zl_p gen kil fa jm lb n (n + 1) i v = true → zl_p gen kil fa jm lb n n i v = true := by
    rcases zl_st1 gen kil fa jm lb (n := n) (v := v) n with h | h
    · exact h
    · have := zl_cnb (fun i => zl_p gen kil fa jm lb n (n + 1) i v) n
      omega
  intro r
  induction r with
  | zero => intro i h; exact absurd h (by simp [zl_p])
  | succ r ih =>
    intro i h
    apply h0
    have hi := zl_pin gen kil fa jm lb h
    simp only [zl_p, Bool.and_eq_true, decide_eq_true_eq] at h ⊢
    exact ⟨hi, zl_Fm gen kil fa jm lb (ih _) (ih _) h.2⟩
theorem zl_pup {n : Nat} : ∀ r s i v, r ≤ s → zl_p gen kil fa jm lb n r i v = true → zl_p gen kil fa jm lb n s i v = true := by
  intro r s i v h h1
  induction h with
  | refl => exact h1
  | step _ ih => exact zl_ps gen kil fa jm lb _ _ _ ih
/-- the least solution is a solution -/
theorem zl_FT {n i v : Nat} (hi : i < n) : zl_F gen kil fa jm lb (zl_p gen kil fa jm lb n n) i v = zl_p gen kil fa jm lb n n i v := by
  rw [Bool.eq_iff_iff]
  constructor
  · intro h
    refine zl_st gen kil fa jm lb (n + 1) i ?_
    simp only [zl_p, Bool.and_eq_true, decide_eq_true_eq]
    exact ⟨hi, h⟩
  · intro h
    have := zl_ps gen kil fa jm lb _ _ _ h
    rw [zl_p] at this
    simp only [Bool.and_eq_true, decide_eq_true_eq] at this
    exact this.2
/-- a step of a round -/
theorem zl_up {n r i v : Nat} {L : Nat → Nat → Bool} (h1 : zl_p gen kil fa jm lb n r (i + 1) v = true → L (i + 1) v = true)
    (h2 : zl_p gen kil fa jm lb n r (lb i) v = true → L (lb i) v = true) (h : zl_p gen kil fa jm lb n (r + 1) i v = true) : zl_F gen kil fa jm lb L i v = true := by
  rw [zl_p] at h
  simp only [Bool.and_eq_true, decide_eq_true_eq] at h
  exact zl_Fm gen kil fa jm lb h1 h2 h.2
theorem zl_dn {n i v : Nat} {L : Nat → Nat → Bool} (hi : i < n) (h1 : L (i + 1) v = true → zl_p gen kil fa jm lb n n (i + 1) v = true)
    (h2 : L (lb i) v = true → zl_p gen kil fa jm lb n n (lb i) v = true) (h : zl_F gen kil fa jm lb L i v = true) : zl_p gen kil fa jm lb n n i v = true := by
  rw [← zl_FT gen kil fa jm lb hi]
  exact zl_Fm gen kil fa jm lb h1 h2 h
end
/-! bits of two words -/
def zl_b (w z : Int64) (v : Nat) : Bool := if v < 64 then w.toBitVec.getLsbD v else z.toBitVec.getLsbD (v - 64)
def zl_lo (k : Nat) : Int64 := Int64.ofBitVec (if k < 64 then BitVec.twoPow 64 k else 0#64)
def zl_hi (k : Nat) : Int64 := Int64.ofBitVec (if k < 64 then 0#64 else BitVec.twoPow 64 (k - 64))
theorem zl_sh : ∀ l, l < 64 → ((1 : Int64) <<< ((nI l).toInt64 &&& 63)) = Int64.ofBitVec (BitVec.twoPow 64 l) := by decide +kernel
theorem zl_sub64 {k : Nat} (h : 64 ≤ k) : nI k - 64 = nI (k - 64) := by
  have e : nI k = nI (k - 64) + nI 64 := by rw [nI_add]; congr 1; omega
  rw [e]
  show nI (k - 64) + 64 - 64 = _
  rw [Int32.add_sub_cancel]
theorem zl_xlo {post : Int64 → Prop} {k : Nat} (hk : k < 128) (h : post (zl_lo k)) : wpX_lowBit post (nI k) := by
  unfold wpX_lowBit
  by_cases h1 : k < 64
  · have h2 : ¬ (64 : Int32) ≤ nI k := nI_ge (b := 64) h1 (by decide)
    refine br_f h2 ?_
    rw [zl_sh k h1]
    rw [zl_lo, if_pos h1] at h; exact h
  · have h2 : (64 : Int32) ≤ nI k := nI_le (a := 64) (by omega) (by omega)
    refine br_t h2 ?_
    rw [zl_lo, if_neg h1] at h; exact h
theorem zl_xhi {post : Int64 → Prop} {k : Nat} (hk : k < 128) (h : post (zl_hi k)) : wpX_highBit post (nI k) := by
  unfold wpX_highBit
  by_cases h1 : k < 64
  · have h2 : ¬ (64 : Int32) ≤ nI k := nI_ge (b := 64) h1 (by decide)
    refine br_f h2 ?_
    rw [zl_hi, if_pos h1] at h; exact h
  · have h2 : (64 : Int32) ≤ nI k := nI_le (a := 64) (by omega) (by omega)
    refine br_t h2 ?_
    rw [zl_sub64 (by omega), zl_sh (k - 64) (by omega)]
    rw [zl_hi, if_neg h1] at h; exact h
theorem zl_gtp {i j : Nat} (hi : i < 64) (hj : j < 64) : (BitVec.twoPow 64 i).getLsbD j = decide (j = i) := by
  rw [BitVec.getLsbD_twoPow]
  simp only [hi, decide_true, Bool.true_and]
  rw [Bool.eq_iff_iff, decide_eq_true_eq, decide_eq_true_eq]; omega
theorem zl_bor {w z : Int64} {k v : Nat} (hk : k < 128) (hv : v < 128) : zl_b (w ||| zl_lo k) (z ||| zl_hi k) v = (zl_b w z v || decide (v = k)) := by
  unfold zl_b zl_lo zl_hi
  by_cases h1 : v < 64
  · rw [if_pos h1, if_pos h1, Int64.toBitVec_or, BitVec.getLsbD_or, Int64.toBitVec_ofBitVec]
    congr 1
    by_cases h2 : k < 64
    · rw [if_pos h2, zl_gtp h2 h1]
    · rw [if_neg h2]
      simp; omega
  · rw [if_neg h1, if_neg h1, Int64.toBitVec_or, BitVec.getLsbD_or, Int64.toBitVec_ofBitVec]
    congr 1
    by_cases h2 : k < 64
    · rw [if_pos h2]
      simp; omega
    · rw [if_neg h2, zl_gtp (by omega) (by omega)]
      rw [Bool.eq_iff_iff, decide_eq_true_eq, decide_eq_true_eq]; omega
theorem zl_m1 : (-1 : Int64).toBitVec = BitVec.allOnes 64 := by decide
theorem zl_ban {w z : Int64} {k v : Nat} (hk : k < 128) (hv : v < 128) : zl_b (w &&& (zl_lo k ^^^ (-1))) (z &&& (zl_hi k ^^^ (-1))) v = (zl_b w z v && !(decide (v = k))) := by
  unfold zl_b zl_lo zl_hi
  by_cases h1 : v < 64
  · rw [if_pos h1, if_pos h1, Int64.toBitVec_and, BitVec.getLsbD_and, Int64.toBitVec_xor, BitVec.getLsbD_xor, zl_m1, Int64.toBitVec_ofBitVec, BitVec.getLsbD_allOnes]
    congr 1
    by_cases h2 : k < 64
    · rw [if_pos h2, zl_gtp h2 h1]; simp [h1]
    · rw [if_neg h2]
      simp [h1]; omega
  · rw [if_neg h1, if_neg h1, Int64.toBitVec_and, BitVec.getLsbD_and, Int64.toBitVec_xor, BitVec.getLsbD_xor, zl_m1, Int64.toBitVec_ofBitVec, BitVec.getLsbD_allOnes]
    congr 1
    by_cases h2 : k < 64
    · rw [if_pos h2]
      have h3 : v - 64 < 64 := by omega
      have h4 : ¬ v = k := by omega
      simp [h3, h4]
    · rw [if_neg h2, zl_gtp (by omega) (by omega)]
      have : decide (v - 64 = k - 64) = decide (v = k) := by
        rw [Bool.eq_iff_iff, decide_eq_true_eq, decide_eq_true_eq]; omega
      rw [this]
      have h3 : v - 64 < 64 := by omega
      simp [h3]
theorem zl_b63 : ∀ v, v < 64 → (63 : Int64).toBitVec.getLsbD v = decide (v < 6) := by decide
theorem zl_b6 {w z : Int64} {v : Nat} : zl_b (w ||| 63) z v = (zl_b w z v || decide (v < 6)) := by
  unfold zl_b
  by_cases h1 : v < 64
  · rw [if_pos h1, if_pos h1, Int64.toBitVec_or, BitVec.getLsbD_or, zl_b63 v h1]
  · rw [if_neg h1, if_neg h1]
    have : ¬ v < 6 := by omega
    simp [this]
theorem zl_bo {w z w' z' : Int64} {v : Nat} : zl_b (w ||| w') (z ||| z') v = (zl_b w z v || zl_b w' z' v) := by
  unfold zl_b
  by_cases h1 : v < 64
  · rw [if_pos h1, if_pos h1, if_pos h1, Int64.toBitVec_or, BitVec.getLsbD_or]
  · rw [if_neg h1, if_neg h1, if_neg h1, Int64.toBitVec_or, BitVec.getLsbD_or]
theorem zl_b0 {v : Nat} : zl_b 0 0 v = false := by
  unfold zl_b; split <;> simp
theorem zl_ext {w z w' z' : Int64} (h : ∀ v, v < 128 → zl_b w z v = zl_b w' z' v) : w = w' ∧ z = z' := by
  constructor
  · apply Int64.toBitVec_inj.mp
    apply BitVec.eq_of_getLsbD_eq
    intro i hi
    have := h i (by omega)
    unfold zl_b at this
    rw [if_pos hi, if_pos hi] at this; exact this
  · apply Int64.toBitVec_inj.mp
    apply BitVec.eq_of_getLsbD_eq
    intro i hi
    have := h (i + 64) (by omega)
    unfold zl_b at this
    rw [if_neg (by omega), if_neg (by omega)] at this
    simpa using this
theorem zl_and0 {w : Int64} {k : Nat} (hk : k < 64) : (w &&& Int64.ofBitVec (BitVec.twoPow 64 k)) = 0 ↔ w.toBitVec.getLsbD k = false := by
  constructor
  · intro h
    have h2 := congrArg (fun x => x.toBitVec.getLsbD k) h
    simp only [Int64.toBitVec_and, BitVec.getLsbD_and, Int64.toBitVec_ofBitVec] at h2
    rw [zl_gtp hk hk] at h2
    simpa using h2
  · intro h
    apply Int64.toBitVec_inj.mp
    apply BitVec.eq_of_getLsbD_eq
    intro i hi
    rw [Int64.toBitVec_and, BitVec.getLsbD_and, Int64.toBitVec_ofBitVec, zl_gtp hk hi]
    by_cases e : i = k
    · subst e; simp [h]
    · simp [e]
end
section
/-! tokens, the stack of what is missing, the tree's ends -/
abbrev zt_ok (t : Int32) : Prop := (0 ≤ t ∧ t ≤ 5) ∨ (10 ≤ t ∧ t ≤ 21) ∨ (30 ≤ t ∧ t ≤ 35) ∨ (61 ≤ t ∧ t ≤ 72) ∨ (80 ≤ t ∧ t ≤ 120)
def zt_pt (t : Int32) : Nat := if t = 2 then 3 else if (61 ≤ t ∧ t ≤ 69) ∨ t = 1 ∨ t = 3 ∨ t = 5 then 2
  else if (70 ≤ t ∧ t ≤ 72) ∨ (10 ≤ t ∧ t ≤ 15) ∨ t = 4 then 1 else 0
def zt_kd (t : Int32) : Int32 := if 30 ≤ t then 1 else 0
def zt_kp (t : Int32) (k : Nat) : Int32 := if t = 1 then 0 else if (t = 2 ∨ t = 3) ∧ 0 < k then 0 else 1
def zt_kf (t : Int32) : Nat → Nat → List Int32
  | 0, _ => []
  | d + 1, j => zt_kp t j :: zt_kf t d (j + 1)
theorem zt_kfl (t : Int32) : ∀ d j, (zt_kf t d j).length = d := by
  intro d
  induction d with
  | zero => intro j; rfl
  | succ d ih => intro j; simp only [zt_kf, List.length_cons, ih]
def zt_stk (tk : ty_V) : Nat → List Int32
  | 0 => [0]
  | k + 1 => zt_kf (tk k) (zt_pt (tk k)) 0 ++ (zt_stk tk k).tail
def zt_hv (tk : ty_V) (c : Nat) : Prop := ∀ k, k < c → zt_ok (tk k) ∧ ∃ s, zt_stk tk k = zt_kd (tk k) :: s
theorem zt_p3 (t : Int32) : zt_pt t ≤ 3 := by
  unfold zt_pt; split
  · omega
  · split
    · omega
    · split <;> omega
theorem zt_len {tk : ty_V} {c : Nat} (h : zt_hv tk c) : ∀ k, k ≤ c → (zt_stk tk k).length ≤ 1 + 2 * k := by
  intro k
  induction k with
  | zero => intro _; exact Nat.le_refl _
  | succ k ih =>
    intro hk
    have h1 := ih (by omega)
    obtain ⟨_, s, hs⟩ := h k (by omega)
    have h3 := zt_p3 (tk k)
    rw [hs] at h1
    simp only [zt_stk, hs, List.length_append, List.tail_cons, zt_kfl, List.length_cons] at h1 ⊢
    omega
theorem zt_cong {tk tk' : ty_V} : ∀ k, (∀ j, j < k → tk j = tk' j) → zt_stk tk k = zt_stk tk' k := by
  intro k
  induction k with
  | zero => intro _; rfl
  | succ k ih =>
    intro h
    simp only [zt_stk]
    rw [ih (fun j hj => h j (by omega)), h k (by omega)]
/-- the list lies in the array, its head topmost -/
def zt_ar (w : ty_V) : List Int32 → Prop
  | [] => True
  | x :: s => w s.length = x ∧ zt_ar w s
theorem zt_aru {w : ty_V} {i : Nat} {x : Int32} : ∀ s : List Int32, s.length ≤ i → zt_ar w s → zt_ar (upd w i x) s := by
  intro s
  induction s with
  | nil => intro _ _; trivial
  | cons y s ih =>
    intro hl h
    simp only [List.length_cons] at hl
    exact ⟨by rw [zq_un (by omega)]; exact h.1, ih (by omega) h.2⟩
theorem zt_arp {w : ty_V} {x : Int32} {s : List Int32} (h : zt_ar w s) : zt_ar (upd w s.length x) (x :: s) := ⟨zq_us, zt_aru s (Nat.le_refl _) h⟩
/-! ends -/
def zt_ch (e : Nat → Nat) (n : Nat) : Nat → Nat
  | 0 => n + 1
  | k + 1 => e (zt_ch e n k)
def zt_tr (tk : ty_V) (c : Nat) (e : Nat → Nat) (lo : Nat) : Prop := ∀ n, lo ≤ n → n < c → n < e n ∧ e n ≤ c ∧ e n = zt_ch e n (zt_pt (tk n)) ∧
  ∀ k, k < zt_pt (tk n) → zt_ch e n k < c ∧ zt_kd (tk (zt_ch e n k)) = zt_kp (tk n) k
def zt_fs (tk : ty_V) (c : Nat) (e : Nat → Nat) : List Int32 → Nat → Prop
  | [], p => p = c
  | k :: s, p => p < c ∧ zt_kd (tk p) = k ∧ zt_fs tk c e s (e p)
def zt_it (e : Nat → Nat) (p : Nat) : Nat → Nat
  | 0 => p
  | k + 1 => e (zt_it e p k)
theorem zt_its (e : Nat → Nat) (p : Nat) : ∀ k, zt_it e (e p) k = zt_it e p (k + 1) := by
  intro k
  induction k with
  | zero => rfl
  | succ k ih => simp only [zt_it] at ih ⊢; rw [ih]
theorem zt_chit (e : Nat → Nat) (n : Nat) : ∀ k, zt_ch e n k = zt_it e (n + 1) k := by
  intro k
  induction k with
  | zero => rfl
  | succ k ih => simp only [zt_ch, zt_it, ih]
theorem zt_spl {tk : ty_V} {c : Nat} {e : Nat → Nat} {t : Int32} {r : List Int32} : ∀ d j p, zt_fs tk c e (zt_kf t d j ++ r) p →
    (∀ k, k < d → zt_it e p k < c ∧ zt_kd (tk (zt_it e p k)) = zt_kp t (j + k)) ∧ zt_fs tk c e r (zt_it e p d) := by
  intro d
  induction d with
  | zero => intro j p h; exact ⟨fun k hk => absurd hk (by omega), h⟩
  | succ d ih =>
    intro j p h
    obtain ⟨h1, h2, h3⟩ := h
    obtain ⟨h4, h5⟩ := ih (j + 1) (e p) h3
    refine ⟨fun k hk => ?_, ?_⟩
    · cases k with
      | zero => exact ⟨h1, h2⟩
      | succ k =>
        have := h4 k (by omega)
        rw [zt_its] at this
        rw [show j + (k + 1) = j + 1 + k by omega]; exact this
    · rw [zt_its] at h5; exact h5
theorem zt_fsu {tk : ty_V} {c : Nat} {e e' : Nat → Nat} {lo : Nat} (h1 : ∀ n, lo ≤ n → e' n = e n) (h2 : ∀ n, lo ≤ n → n < c → n < e n) : ∀ s p, lo ≤ p →
    zt_fs tk c e s p → zt_fs tk c e' s p := by
  intro s
  induction s with
  | nil => intro p _ h; exact h
  | cons k s ih =>
    intro p hp h
    refine ⟨h.1, h.2.1, ?_⟩
    have h3 := h2 p hp h.1
    rw [h1 p hp]
    exact ih _ (by omega) h.2.2
theorem zt_itge {tk : ty_V} {c : Nat} {e : Nat → Nat} {lo : Nat} (h2 : ∀ n, lo ≤ n → n < c → n < e n) {p d : Nat} (hp : lo ≤ p) (h : ∀ k, k < d → zt_it e p k < c) :
    ∀ k, k ≤ d → p + k ≤ zt_it e p k := by
  intro k
  induction k with
  | zero => intro _; exact Nat.le_refl _
  | succ k ih =>
    intro hk
    have h3 := ih (by omega)
    have h4 := h2 (zt_it e p k) (by omega) (h k (by omega))
    simp only [zt_it]; omega
theorem zt_itu {c : Nat} {e e' : Nat → Nat} {lo : Nat} (h1 : ∀ n, lo ≤ n → e' n = e n) (h2 : ∀ n, lo ≤ n → n < c → n < e n) {p d : Nat} (hp : lo ≤ p) (h : ∀ k, k < d → zt_it e p k < c) :
    ∀ k, k ≤ d → zt_it e' p k = zt_it e p k ∧ lo ≤ zt_it e p k := by
  intro k
  induction k with
  | zero => intro _; exact ⟨rfl, hp⟩
  | succ k ih =>
    intro hk
    obtain ⟨h3, h4⟩ := ih (by omega)
    have h5 := h2 _ h4 (h k (by omega))
    simp only [zt_it]
    rw [h3, h1 _ h4]
    exact ⟨rfl, by omega⟩
theorem zt_bld {tk : ty_V} {c : Nat} (hv : zt_hv tk c) (hc : zt_stk tk c = []) : ∀ d, d ≤ c →
    ∃ e, zt_tr tk c e (c - d) ∧ zt_fs tk c e (zt_stk tk (c - d)) (c - d) := by
  intro d
  induction d with
  | zero =>
    intro _
    refine ⟨fun _ => 0, fun n h1 h2 => by omega, ?_⟩
    rw [Nat.sub_zero, hc]; rfl
  | succ d ih =>
    intro hd
    obtain ⟨e, h1, h2⟩ := ih (by omega)
    obtain ⟨n, hn⟩ : ∃ n, n = c - (d + 1) := ⟨_, rfl⟩
    rw [← hn]
    have hn1 : c - d = n + 1 := by omega
    rw [hn1] at h1 h2
    obtain ⟨_, s, hs⟩ := hv n (by omega)
    simp only [zt_stk, hs, List.tail_cons] at h2
    obtain ⟨h3, h4⟩ := zt_spl _ _ _ h2
    have hgt : ∀ m, n + 1 ≤ m → m < c → m < e m := fun m hm hm2 => (h1 m hm hm2).1
    have hpos := zt_itge (tk := tk) hgt (Nat.le_refl (n + 1)) (fun k hk => (h3 k hk).1)
    let e' : Nat → Nat := fun m => if m = n then zt_it e (n + 1) (zt_pt (tk n)) else e m
    have heq : ∀ m, n + 1 ≤ m → e' m = e m := fun m hm => if_neg (by omega)
    have hen : e' n = zt_it e (n + 1) (zt_pt (tk n)) := if_pos rfl
    have hcle : zt_it e (n + 1) (zt_pt (tk n)) ≤ c := by
      cases hp : zt_pt (tk n) with
      | zero => simp only [zt_it]; omega
      | succ k =>
        have h5 := (h3 k (by omega)).1
        have h6 := hpos k (by omega)
        simp only [zt_it]
        exact (h1 _ (by omega) h5).2.1
    have hch : ∀ m, n ≤ m → m < c → ∀ k, k ≤ zt_pt (tk m) → (∀ j, j < k → zt_it e (m + 1) j < c) → zt_ch e' m k = zt_it e (m + 1) k := by
      intro m hm hmc k hk hj
      rw [zt_chit]
      exact (zt_itu (c := c) (lo := n + 1) heq hgt (p := m + 1) (d := k) (by omega) hj k (Nat.le_refl _)).1
    refine ⟨e', ?_, ?_⟩
    · intro m hm hmc
      by_cases e0 : m = n
      · subst e0
        have hch' := fun k hk => hch m hm hmc k hk (fun j hj => (h3 j (by omega)).1)
        refine ⟨?_, ?_, ?_, ?_⟩
        · rw [hen]
          have := hpos _ (Nat.le_refl _)
          omega
        · rw [hen]; exact hcle
        · rw [hen, hch' _ (Nat.le_refl _)]
        · intro k hk
          rw [hch' k (by omega)]
          have := h3 k hk
          rw [Nat.zero_add] at this
          exact this
      · obtain ⟨g1, g2, g3, g4⟩ := h1 m (by omega) hmc
        have hem : e' m = e m := heq m (by omega)
        have hlt : ∀ j, j < zt_pt (tk m) → zt_it e (m + 1) j < c := fun j hj => by rw [← zt_chit]; exact (g4 j hj).1
        have hch' := fun k hk => hch m (by omega) hmc k hk (fun j hj => hlt j (by omega))
        refine ⟨by rw [hem]; exact g1, by rw [hem]; exact g2, ?_, ?_⟩
        · rw [hem, hch' _ (Nat.le_refl _), ← zt_chit]; exact g3
        · intro k hk
          rw [hch' k (by omega), ← zt_chit]; exact g4 k hk
    · rw [hs]
      refine ⟨by omega, rfl, ?_⟩
      rw [hen]
      exact zt_fsu (lo := n + 1) heq hgt _ _ (by have := hpos _ (Nat.le_refl _); omega) h4
theorem zt_tree {tk : ty_V} {c : Nat} (hv : zt_hv tk c) (hc : zt_stk tk c = []) : ∃ e, zt_tr tk c e 0 ∧ e 0 = c ∧ 0 < c ∧ zt_kd (tk 0) = 0 := by
  obtain ⟨e, h1, h2⟩ := zt_bld hv hc c (Nat.le_refl _)
  rw [Nat.sub_self] at h1 h2
  exact ⟨e, h1, h2.2.2, h2.1, h2.2.1⟩
end
section
/-! the code of the tree -/
def zc_ins (op tg fi se : ty_V) (i : Nat) (o t f s : Int32) : Prop := op i = o ∧ tg i = t ∧ fi i = f ∧ se i = s
def zc_op (t : Int32) : Int32 := if 80 ≤ t then 1 else if t = 70 then 10 else if t = 71 then 11 else if t = 72 then 12 else if 61 ≤ t then t - 58
  else if 30 ≤ t then 2 else if 16 ≤ t then 15 else if 10 ≤ t then 2 else if t = 5 then 13 else 14
def zc_tg (t : Int32) (m : Nat) : Int32 := if 30 ≤ t then nI (6 + m) else if 16 ≤ t then t - 16 else if 10 ≤ t then t - 10 else 0
def zc_fi (t : Int32) (c : Nat) : Int32 := if 80 ≤ t then t - 100 else if 61 ≤ t then nI (6 + c) else if 30 ≤ t then t - 30 else if 16 ≤ t then 0 else nI (6 + c)
def zc_se (t : Int32) (c : Nat) : Int32 := if zt_pt t = 2 then nI (6 + c) else 0
def zc_jo (t : Int32) : Int32 := if t = 68 then 17 else 18
def zc_v1 (t : Int32) : Int32 := if t = 68 then 0 else 1
def zc_v2 (t : Int32) : Int32 := if t = 68 then 1 else 0
def zc_lay (tk : ty_V) (e : Nat → Nat) (op tg fi se : ty_V) : Nat → Nat → Nat → Nat → Prop
  | 0 => fun _ _ _ => False
  | f + 1 => fun m a b =>
    if tk m = 0 then b = a
    else if tk m = 1 then ∃ c, zc_lay tk e op tg fi se f (m + 1) a c ∧ zc_lay tk e op tg fi se f (e (m + 1)) c b
    else if tk m = 2 then ∃ c d k, zc_lay tk e op tg fi se f (m + 1) a c ∧ zc_ins op tg fi se c 17 (nI (2 * m)) (nI (6 + (m + 1))) 0 ∧
      zc_lay tk e op tg fi se f (e (m + 1)) (c + 1) d ∧ zc_ins op tg fi se d 16 (nI (2 * m + 1)) 0 0 ∧ zc_ins op tg fi se (d + 1) 20 (nI (2 * m)) 0 0 ∧
      zc_lay tk e op tg fi se f (e (e (m + 1))) (d + 2) k ∧ zc_ins op tg fi se k 20 (nI (2 * m + 1)) 0 0 ∧ b = k + 1
    else if tk m = 3 then ∃ c d, zc_ins op tg fi se a 20 (nI (2 * m)) 0 0 ∧ zc_lay tk e op tg fi se f (m + 1) (a + 1) c ∧
      zc_ins op tg fi se c 17 (nI (2 * m + 1)) (nI (6 + (m + 1))) 0 ∧ zc_ins op tg fi se (c + 1) 19 0 0 0 ∧
      zc_lay tk e op tg fi se f (e (m + 1)) (c + 2) d ∧ zc_ins op tg fi se d 16 (nI (2 * m)) 0 0 ∧ zc_ins op tg fi se (d + 1) 20 (nI (2 * m + 1)) 0 0 ∧ b = d + 2
    else if tk m = 68 ∨ tk m = 69 then ∃ c d, zc_lay tk e op tg fi se f (m + 1) a c ∧ zc_ins op tg fi se c 1 (nI (6 + m)) (zc_v1 (tk m)) 0 ∧
      zc_ins op tg fi se (c + 1) (zc_jo (tk m)) (nI (2 * m)) (nI (6 + (m + 1))) 0 ∧ zc_lay tk e op tg fi se f (e (m + 1)) (c + 2) d ∧
      zc_ins op tg fi se d (zc_jo (tk m)) (nI (2 * m)) (nI (6 + e (m + 1))) 0 ∧ zc_ins op tg fi se (d + 1) 1 (nI (6 + m)) (zc_v2 (tk m)) 0 ∧
      zc_ins op tg fi se (d + 2) 20 (nI (2 * m)) 0 0 ∧ b = d + 3
    else if zt_pt (tk m) = 0 then zc_ins op tg fi se a (zc_op (tk m)) (zc_tg (tk m) m) (zc_fi (tk m) (m + 1)) (zc_se (tk m) (e (m + 1))) ∧ b = a + 1
    else if zt_pt (tk m) = 1 then ∃ c, zc_lay tk e op tg fi se f (m + 1) a c ∧
      zc_ins op tg fi se c (zc_op (tk m)) (zc_tg (tk m) m) (zc_fi (tk m) (m + 1)) (zc_se (tk m) (e (m + 1))) ∧ b = c + 1
    else ∃ c d, zc_lay tk e op tg fi se f (m + 1) a c ∧ zc_lay tk e op tg fi se f (e (m + 1)) c d ∧
      zc_ins op tg fi se d (zc_op (tk m)) (zc_tg (tk m) m) (zc_fi (tk m) (m + 1)) (zc_se (tk m) (e (m + 1))) ∧ b = d + 1
section
variable {tk : ty_V} {e : Nat → Nat} {op tg fi se op1 tg1 fi1 se1 : ty_V}
theorem zc_le : ∀ f m a b, zc_lay tk e op tg fi se f m a b → a ≤ b := by
  intro f
  induction f with
  | zero => intro m a b h; exact absurd h id
  | succ f ih =>
    intro m a b h
    unfold zc_lay at h
    split at h
    · omega
    split at h
    · obtain ⟨c, h1, h2⟩ := h
      have := ih _ _ _ h1; have := ih _ _ _ h2; omega
    split at h
    · obtain ⟨c, d, k, h1, _, h2, _, _, h3, _, h4⟩ := h
      have := ih _ _ _ h1; have := ih _ _ _ h2; have := ih _ _ _ h3; omega
    split at h
    · obtain ⟨c, d, _, h1, _, _, h2, _, _, h3⟩ := h
      have := ih _ _ _ h1; have := ih _ _ _ h2; omega
    split at h
    · obtain ⟨c, d, h1, _, _, h2, _, _, _, h3⟩ := h
      have := ih _ _ _ h1; have := ih _ _ _ h2; omega
    split at h
    · omega
    split at h
    · obtain ⟨c, h1, _, h2⟩ := h
      have := ih _ _ _ h1; omega
    · obtain ⟨c, d, h1, h2, _, h3⟩ := h
      have := ih _ _ _ h1; have := ih _ _ _ h2; omega
theorem zc_insm {i : Nat} {o t f s : Int32} (h : op1 i = op i ∧ tg1 i = tg i ∧ fi1 i = fi i ∧ se1 i = se i) (hi : zc_ins op tg fi se i o t f s) : zc_ins op1 tg1 fi1 se1 i o t f s :=
  ⟨h.1.trans hi.1, h.2.1.trans hi.2.1, h.2.2.1.trans hi.2.2.1, h.2.2.2.trans hi.2.2.2⟩
theorem zc_mono : ∀ f m a b f', f ≤ f' → (∀ i, i < b → op1 i = op i ∧ tg1 i = tg i ∧ fi1 i = fi i ∧ se1 i = se i) →
    zc_lay tk e op tg fi se f m a b → zc_lay tk e op1 tg1 fi1 se1 f' m a b := by
  intro f
  induction f with
  | zero => intro m a b f' _ _ h; exact absurd h id
  | succ f ih =>
    intro m a b f' hf hs h
    obtain ⟨f', rfl⟩ : ∃ k, f' = k + 1 := ⟨f' - 1, by omega⟩
    have hi : ∀ i o t f s, i < b → zc_ins op tg fi se i o t f s → zc_ins op1 tg1 fi1 se1 i o t f s := fun i o t f s h => zc_insm (hs i h)
    have hl : ∀ m a c, c ≤ b → zc_lay tk e op tg fi se f m a c → zc_lay tk e op1 tg1 fi1 se1 f' m a c :=
      fun m a c hc h => ih _ _ _ _ (by omega) (fun i hi => hs i (by omega)) h
    unfold zc_lay at h ⊢
    split at h
    · rename_i h0; rw [if_pos h0]; exact h
    rename_i h0; rw [if_neg h0]
    split at h
    · rename_i h0; rw [if_pos h0]
      obtain ⟨c, h1, h2⟩ := h
      have := zc_le _ _ _ _ h1; have := zc_le _ _ _ _ h2
      exact ⟨c, hl _ _ _ (by omega) h1, hl _ _ _ (by omega) h2⟩
    rename_i h0; rw [if_neg h0]
    split at h
    · rename_i h0; rw [if_pos h0]
      obtain ⟨c, d, k, h1, i1, h2, i2, i3, h3, i4, h4⟩ := h
      have := zc_le _ _ _ _ h1; have := zc_le _ _ _ _ h2; have := zc_le _ _ _ _ h3
      exact ⟨c, d, k, hl _ _ _ (by omega) h1, hi _ _ _ _ _ (by omega) i1, hl _ _ _ (by omega) h2, hi _ _ _ _ _ (by omega) i2, hi _ _ _ _ _ (by omega) i3,
        hl _ _ _ (by omega) h3, hi _ _ _ _ _ (by omega) i4, h4⟩
    rename_i h0; rw [if_neg h0]
    split at h
    · rename_i h0; rw [if_pos h0]
      obtain ⟨c, d, i0, h1, i1, i2, h2, i3, i4, h3⟩ := h
      have := zc_le _ _ _ _ h1; have := zc_le _ _ _ _ h2
      exact ⟨c, d, hi _ _ _ _ _ (by omega) i0, hl _ _ _ (by omega) h1, hi _ _ _ _ _ (by omega) i1, hi _ _ _ _ _ (by omega) i2, hl _ _ _ (by omega) h2,
        hi _ _ _ _ _ (by omega) i3, hi _ _ _ _ _ (by omega) i4, h3⟩
    rename_i h0; rw [if_neg h0]
    split at h
    · rename_i h0; rw [if_pos h0]
      obtain ⟨c, d, h1, i1, i2, h2, i3, i4, i5, h3⟩ := h
      have := zc_le _ _ _ _ h1; have := zc_le _ _ _ _ h2
      exact ⟨c, d, hl _ _ _ (by omega) h1, hi _ _ _ _ _ (by omega) i1, hi _ _ _ _ _ (by omega) i2, hl _ _ _ (by omega) h2,
        hi _ _ _ _ _ (by omega) i3, hi _ _ _ _ _ (by omega) i4, hi _ _ _ _ _ (by omega) i5, h3⟩
    rename_i h0; rw [if_neg h0]
    split at h
    · rename_i h0; rw [if_pos h0]
      exact ⟨hi _ _ _ _ _ (by omega) h.1, h.2⟩
    rename_i h0; rw [if_neg h0]
    split at h
    · rename_i h0; rw [if_pos h0]
      obtain ⟨c, h1, i1, h2⟩ := h
      have := zc_le _ _ _ _ h1
      exact ⟨c, hl _ _ _ (by omega) h1, hi _ _ _ _ _ (by omega) i1, h2⟩
    · rename_i h0; rw [if_neg h0]
      obtain ⟨c, d, h1, h2, i1, h3⟩ := h
      have := zc_le _ _ _ _ h1; have := zc_le _ _ _ _ h2
      exact ⟨c, d, hl _ _ _ (by omega) h1, hl _ _ _ (by omega) h2, hi _ _ _ _ _ (by omega) i1, h3⟩
end
end
section
/-! the component's small predicates -/
def zb_i (p : Prop) [Decidable p] : Int32 := if p then 1 else 0
theorem zb_t {p : Prop} [Decidable p] (h : p) : zb_i p = 1 := if_pos h
theorem zb_f {p : Prop} [Decidable p] (h : ¬ p) : zb_i p = 0 := if_neg h
theorem zb_br {p A B : Prop} [Decidable p] (g : ¬ p → A) (f : p → B) : (zb_i p = 0 → A) ∧ (¬ zb_i p = 0 → B) := by
  by_cases h : p
  · rw [zb_t h]; exact ⟨fun e => absurd e (by decide), fun _ => f h⟩
  · rw [zb_f h]; exact ⟨fun _ => g h, fun e => absurd rfl e⟩
theorem zb_n {p : Prop} [Decidable p] : narrow .boolean (.int (zb_i p)) = .int (zb_i p) := by
  by_cases h : p
  · rw [zb_t h]; rfl
  · rw [zb_f h]; rfl
theorem zx_writes {post : Int32 → Prop} {o : Int32} (h : post (zb_i (zq_wr o))) : wpX_writes post o := by
  have key : ¬ (1 ≤ o ∧ o ≤ 12) → wX_writes_11 post o := by
    intro hn
    unfold wX_writes_11
    refine br_c (fun h2 => ?_) (fun h2 => ?_)
    · rw [zb_t (p := zq_wr o) (Or.inr h2)] at h; exact h
    · rw [zb_f (p := zq_wr o) (fun h3 => h3.elim hn h2)] at h; exact h
  unfold wpX_writes
  refine br_c (fun h1 => key (fun h2 => absurd h2.1 (Int32.not_le.mpr h1))) (fun h1 => br_c (fun h2 => ?_) (fun h2 => key (fun h3 => h2 h3.2)))
  rw [zb_t (p := zq_wr o) (Or.inl ⟨Int32.not_lt.mp h1, h2⟩)] at h; exact h
theorem zx_readsFirst {post : Int32 → Prop} {o : Int32} (h : post (zb_i (zq_r1 o))) : wpX_readsFirst post o := by
  have key : ¬ (2 ≤ o ∧ o ≤ 14) → wX_readsFirst_15 post o := by
    intro hn
    unfold wX_readsFirst_15 wX_readsFirst_16
    refine br_t rfl (br_c (fun h2 => ?_) (fun h2 => br_c (fun h3 => ?_) (fun h3 => ?_)))
    · rw [zb_t (p := zq_r1 o) (Or.inr (Or.inl h2))] at h; exact h
    · rw [zb_t (p := zq_r1 o) (Or.inr (Or.inr h3))] at h; exact h
    · rw [zb_f (p := zq_r1 o) (fun h4 => h4.elim hn (fun h5 => h5.elim h2 h3))] at h; exact h
  unfold wpX_readsFirst
  refine br_c (fun h1 => key (fun h2 => absurd h2.1 (Int32.not_le.mpr h1))) (fun h1 => br_c (fun h2 => key (fun h3 => absurd h3.2 (Int32.not_le.mpr h2))) (fun h2 => ?_))
  unfold wX_readsFirst_16
  refine br_f (by decide) ?_
  rw [zb_t (p := zq_r1 o) (Or.inl ⟨Int32.not_lt.mp h1, Int32.not_lt.mp h2⟩)] at h; exact h
theorem zx_readsSecond {post : Int32 → Prop} {o : Int32} (h : post (zb_i (zq_r2 o))) : wpX_readsSecond post o := by
  have key : ¬ (3 ≤ o ∧ o ≤ 9) → wX_readsSecond_11 post o := by
    intro hn
    unfold wX_readsSecond_11
    refine br_c (fun h2 => ?_) (fun h2 => ?_)
    · rw [zb_t (p := zq_r2 o) (Or.inr h2)] at h; exact h
    · rw [zb_f (p := zq_r2 o) (fun h3 => h3.elim hn h2)] at h; exact h
  unfold wpX_readsSecond
  refine br_c (fun h1 => key (fun h2 => absurd h2.1 (Int32.not_le.mpr h1))) (fun h1 => br_c (fun h2 => ?_) (fun h2 => key (fun h3 => h2 h3.2)))
  rw [zb_t (p := zq_r2 o) (Or.inl ⟨Int32.not_lt.mp h1, h2⟩)] at h; exact h
theorem zx_isJump {post : Int32 → Prop} {o : Int32} (h : post (zb_i (zq_jp o))) : wpX_isJump post o := by
  unfold wpX_isJump
  refine br_c (fun h1 => ?_) (fun h1 => br_c (fun h2 => ?_) (fun h2 => ?_))
  · rw [zb_f (p := zq_jp o) (fun h3 => absurd h3.1 (Int32.not_le.mpr h1))] at h; exact h
  · rw [zb_f (p := zq_jp o) (fun h3 => absurd h3.2 (Int32.not_le.mpr h2))] at h; exact h
  · rw [zb_t (p := zq_jp o) ⟨Int32.not_lt.mp h1, Int32.not_lt.mp h2⟩] at h; exact h
theorem zx_isPure {post : Int32 → Prop} {o : Int32} (h : post (zb_i (zq_pu o))) : wpX_isPure post o := by
  unfold wpX_isPure
  refine br_c (fun h1 => ?_) (fun h1 => br_c (fun h2 => ?_) (fun h2 => br_c (fun h3 => ?_) (fun h3 => br_c (fun h4 => ?_) (fun h4 => ?_))))
  · rw [zb_f (p := zq_pu o) (fun h3 => absurd h3.1 (Int32.not_le.mpr h1))] at h; exact h
  · rw [zb_f (p := zq_pu o) (fun h3 => absurd h3.2.1 (Int32.not_le.mpr h2))] at h; exact h
  · rw [zb_f (p := zq_pu o) (fun h5 => h5.2.2.1 h3)] at h; exact h
  · rw [zb_f (p := zq_pu o) (fun h5 => h5.2.2.2 h4)] at h; exact h
  · rw [zb_t (p := zq_pu o) ⟨Int32.not_lt.mp h1, Int32.not_lt.mp h2, h3, h4⟩] at h; exact h
theorem zx_takesJump {post : Int32 → Prop} {o x : Int32} (h : post (zb_i (zq_tk o x))) : wpX_takesJump post o x := by
  have key : ¬ o = 16 → ¬ (o = 17 ∧ x = 0) → wX_takesJump_16 post o x := by
    intro hn hn2
    unfold wX_takesJump_16
    refine br_c (fun h2 => br_c (fun h3 => ?_) (fun h3 => ?_)) (fun h2 => ?_)
    · rw [zb_f (p := zq_tk o x) (fun h4 => h4.elim hn (fun h5 => h5.elim hn2 (fun h6 => h6.2 h3)))] at h; exact h
    · rw [zb_t (p := zq_tk o x) (Or.inr (Or.inr ⟨h2, h3⟩))] at h; exact h
    · rw [zb_f (p := zq_tk o x) (fun h4 => h4.elim hn (fun h5 => h5.elim hn2 (fun h6 => h2 h6.1)))] at h; exact h
  unfold wpX_takesJump
  refine br_c (fun h1 => ?_) (fun h1 => br_c (fun h2 => br_c (fun h3 => ?_) (fun h3 => key h1 (fun h4 => h3 h4.2))) (fun h2 => key h1 (fun h3 => h2 h3.1)))
  · rw [zb_t (p := zq_tk o x) (Or.inl h1)] at h; exact h
  · rw [zb_t (p := zq_tk o x) (Or.inr (Or.inl ⟨h2, h3⟩))] at h; exact h
theorem zx_value {post : Int32 → Prop} {o x y : Int32} (h : post (zq_val o x y)) : wpX_value post o x y := by
  unfold wpX_value
  have out : (o < 3 ∨ 11 < o) → post x := by
    intro ho
    have ne : ∀ c : Int32, 3 ≤ c → c ≤ 11 → ¬ o = c := by
      rintro c h1 h2 rfl
      rcases ho with ho | ho
      · exact absurd h1 (Int32.not_le.mpr ho)
      · exact absurd h2 (Int32.not_le.mpr ho)
    unfold zq_val at h
    rw [if_neg (ne 3 (by decide) (by decide)), if_neg (ne 4 (by decide) (by decide)), if_neg (ne 5 (by decide) (by decide)), if_neg (ne 6 (by decide) (by decide)),
      if_neg (ne 7 (by decide) (by decide)), if_neg (ne 8 (by decide) (by decide)), if_neg (ne 9 (by decide) (by decide)), if_neg (ne 10 (by decide) (by decide)), if_neg (ne 11 (by decide) (by decide))] at h
    exact h
  refine br_c (fun h1 => out (Or.inl h1)) (fun h1 => br_c (fun h2 => out (Or.inr h2)) (fun h2 => ?_))
  unfold zq_val at h
  refine br_c (fun h3 => ?_) (fun h3 => ?_)
  · rw [if_pos h3] at h; exact h
  rw [if_neg h3] at h
  refine br_c (fun h3 => ?_) (fun h3 => ?_)
  · rw [if_pos h3] at h; exact h
  rw [if_neg h3] at h
  refine br_c (fun h3 => ?_) (fun h3 => ?_)
  · rw [if_pos h3] at h; exact h
  rw [if_neg h3] at h
  refine br_c (fun h3 => ?_) (fun h3 => ?_)
  · rw [if_pos h3] at h
    refine br_c (fun h4 => ?_) (fun h4 => ⟨h4, ?_⟩)
    · rw [if_pos h4] at h; exact h
    · rw [if_neg h4] at h; exact h
  rw [if_neg h3] at h
  refine br_c (fun h3 => ?_) (fun h3 => ?_)
  · rw [if_pos h3] at h
    refine br_c (fun h4 => ?_) (fun h4 => ⟨h4, ?_⟩)
    · rw [if_pos h4] at h; exact h
    · rw [if_neg h4] at h; exact h
  rw [if_neg h3] at h
  refine br_c (fun h3 => ?_) (fun h3 => ?_)
  · rw [if_pos h3] at h
    refine br_c (fun h4 => ?_) (fun h4 => ?_)
    · rw [if_neg (Int32.not_lt.mpr h4)] at h; exact h
    · rw [if_pos (Int32.not_le.mp h4)] at h; exact h
  rw [if_neg h3] at h
  refine br_c (fun h3 => ?_) (fun h3 => ?_)
  · rw [if_pos h3] at h
    refine br_c (fun h4 => ?_) (fun h4 => ?_)
    · rw [if_pos h4] at h; exact h
    · rw [if_neg h4] at h; exact h
  rw [if_neg h3] at h
  refine br_c (fun h3 => ?_) (fun h3 => ?_)
  · rw [if_pos h3] at h
    refine br_c (fun h4 => ?_) (fun h4 => ?_)
    · rw [if_pos h4] at h; exact h
    · rw [if_neg h4] at h; exact h
  rw [if_neg h3] at h
  refine br_c (fun h3 => ?_) (fun h3 => trivial)
  rw [if_pos h3] at h; exact h
theorem zx_kindOf {post : Int32 → Prop} {t : Int32} (h : post (zt_kd t)) : wpX_kindOf post t := by
  unfold wpX_kindOf
  unfold zt_kd at h
  refine br_c (fun h1 => ?_) (fun h1 => ?_)
  · rw [if_pos h1] at h; exact h
  · rw [if_neg h1] at h; exact h
theorem zx_kindOfPart {post : Int32 → Prop} {t : Int32} {k : Nat} (hk : k < 2 ^ 31) (h : post (zt_kp t k)) : wpX_kindOfPart post t (nI k) := by
  unfold wpX_kindOfPart
  have key : (t = 2 ∨ t = 3) → ¬ t = 1 → wX_kindOfPart_17 post (nI k) := by
    intro h2 h1
    unfold wX_kindOfPart_17
    unfold zt_kp at h
    rw [if_neg h1] at h
    refine pk_le k 0 (fun h3 => ?_) (fun h3 => ?_)
    · rw [if_neg (fun h4 => by omega)] at h; exact h
    · rw [if_pos ⟨h2, h3⟩] at h; exact h
  refine br_c (fun h1 => ?_) (fun h1 => br_c (fun h2 => key (Or.inl h2) h1) (fun h2 => br_c (fun h3 => key (Or.inr h3) h1) (fun h3 => ?_)))
  · unfold zt_kp at h
    rw [if_pos h1] at h; exact h
  · unfold zt_kp at h
    rw [if_neg h1, if_neg (fun h4 => h4.1.elim h2 h3)] at h; exact h
def zx_pr (t : Int32) : Int32 := if zt_ok t then nI (zt_pt t) else -1
theorem zx_pt1 : ∀ k, k < 121 → (80 ≤ nI k → nI k ≤ 120 → zx_pr (nI k) = 0) ∧ (30 ≤ nI k → nI k ≤ 35 → zx_pr (nI k) = 0) ∧ (16 ≤ nI k → nI k ≤ 21 → zx_pr (nI k) = 0) ∧
    (nI k = 0 → zx_pr (nI k) = 0) := by decide +kernel
theorem zx_pt2 : ∀ k, k < 121 → (70 ≤ nI k → nI k ≤ 72 → zx_pr (nI k) = 1) ∧ (10 ≤ nI k → nI k ≤ 15 → zx_pr (nI k) = 1) ∧ (nI k = 4 → zx_pr (nI k) = 1) ∧
    (61 ≤ nI k → nI k ≤ 69 → zx_pr (nI k) = 2) := by decide +kernel
theorem zx_pt3 : ∀ k, k < 121 → (nI k = 1 → zx_pr (nI k) = 2) ∧ (nI k = 3 → zx_pr (nI k) = 2) ∧ (nI k = 5 → zx_pr (nI k) = 2) ∧ (nI k = 2 → zx_pr (nI k) = 3) := by decide +kernel
theorem zx_pt5 : ∀ k, k < 121 → nI k ≤ 5 → nI k = 0 ∨ nI k = 1 ∨ nI k = 2 ∨ nI k = 3 ∨ nI k = 4 ∨ nI k = 5 := by decide +kernel
theorem zx_pt6 : ∀ k, k < 121 → (¬ nI k ≤ 15 → 16 ≤ nI k) ∧ (¬ nI k ≤ 69 → 70 ≤ nI k) := by decide +kernel
theorem zx_pt4 (k : Nat) (hk : k < 121) (n1 : ¬ (80 ≤ nI k ∧ nI k ≤ 120)) (n2 : ¬ (30 ≤ nI k ∧ nI k ≤ 35)) (n3 : ¬ (16 ≤ nI k ∧ nI k ≤ 21)) (n4 : ¬ nI k = 0) (n5 : ¬ (70 ≤ nI k ∧ nI k ≤ 72))
    (n6 : ¬ (10 ≤ nI k ∧ nI k ≤ 15)) (n7 : ¬ nI k = 4) (n8 : ¬ (61 ≤ nI k ∧ nI k ≤ 69)) (n9 : ¬ nI k = 1) (n10 : ¬ nI k = 3) (n11 : ¬ nI k = 5) (n12 : ¬ nI k = 2) : zx_pr (nI k) = -1 := by
  refine if_neg fun h => ?_
  rcases h with h | h | h | h | h
  · rcases zx_pt5 k hk h.2 with h | h | h | h | h | h
    · exact n4 h
    · exact n9 h
    · exact n12 h
    · exact n10 h
    · exact n7 h
    · exact n11 h
  · by_cases q : nI k ≤ 15
    · exact n6 ⟨h.1, q⟩
    · exact n3 ⟨(zx_pt6 k hk).1 q, h.2⟩
  · exact n2 h
  · by_cases q : nI k ≤ 69
    · exact n8 ⟨h.1, q⟩
    · exact n5 ⟨(zx_pt6 k hk).2 q, h.2⟩
  · exact n1 h
theorem zx_pon {post : Int32 → Prop} {t : Int32} (ht : t < 0 ∨ 120 < t) (h : post (-1)) : wpX_partsOf post t := by
  unfold wpX_partsOf wX_partsOf_12 wX_partsOf_24 wX_partsOf_36 wX_partsOf_54 wX_partsOf_66 wX_partsOf_85
  rcases ht with ht | ht
  · have ne : ∀ c : Int32, 0 ≤ c → ¬ t = c := fun c hc e => absurd (e ▸ ht) (Int32.not_lt.mpr hc)
    have lt : ∀ c : Int32, 0 ≤ c → t < c := fun c hc => Int32.lt_of_lt_of_le ht hc
    exact br_t (lt _ (by decide)) (br_t (lt _ (by decide)) (br_t (lt _ (by decide)) (br_f (ne _ (by decide)) (br_t (lt _ (by decide)) (br_t (lt _ (by decide)) (br_f (ne _ (by decide))
      (br_t (lt _ (by decide)) (br_f (ne _ (by decide)) (br_f (ne _ (by decide)) (br_f (ne _ (by decide)) (br_f (ne _ (by decide)) h)))))))))))
  · have ne : ∀ c : Int32, c ≤ 120 → ¬ t = c := fun c hc e => absurd (e ▸ ht) (Int32.not_lt.mpr hc)
    have nl : ∀ c : Int32, c ≤ 120 → ¬ t < c := fun c hc h => absurd (Int32.lt_trans (Int32.lt_of_lt_of_le h hc) ht) Int32.lt_irrefl
    have ng : ∀ c : Int32, c ≤ 120 → ¬ t ≤ c := fun c hc h => absurd (Int32.lt_of_le_of_lt (Int32.le_trans h hc) ht) Int32.lt_irrefl
    exact br_f (nl _ (by decide)) (br_f (ng _ (by decide)) (br_f (nl _ (by decide)) (br_f (ng _ (by decide)) (br_f (nl _ (by decide)) (br_f (ng _ (by decide)) (br_f (ne _ (by decide))
      (br_f (nl _ (by decide)) (br_f (ng _ (by decide)) (br_f (nl _ (by decide)) (br_f (ng _ (by decide)) (br_f (ne _ (by decide)) (br_f (nl _ (by decide)) (br_f (ng _ (by decide))
      (br_f (ne _ (by decide)) (br_f (ne _ (by decide)) (br_f (ne _ (by decide)) (br_f (ne _ (by decide)) h)))))))))))))))))
theorem zx_prn {t : Int32} (h : t < 0 ∨ 120 < t) : zx_pr t = -1 := by
  refine if_neg fun hk => ?_
  rcases h with h | h
  · rcases hk with hk | hk | hk | hk | hk <;> exact absurd (Int32.lt_of_lt_of_le h (Int32.le_trans (by decide) hk.1)) Int32.lt_irrefl
  · rcases hk with hk | hk | hk | hk | hk <;> exact absurd (Int32.lt_of_lt_of_le h (Int32.le_trans hk.2 (by decide))) Int32.lt_irrefl
theorem zx_partsOf {post : Int32 → Prop} {t : Int32} (h : post (zx_pr t)) : wpX_partsOf post t := by
  by_cases h0 : t < 0
  · rw [zx_prn (Or.inl h0)] at h; exact zx_pon (Or.inl h0) h
  · by_cases h1 : 120 < t
    · rw [zx_prn (Or.inr h1)] at h; exact zx_pon (Or.inr h1) h
    · obtain ⟨j, hj, rfl⟩ := nI_of2 (M := 120) (n := 120) (by decide) h0 (Int32.not_lt.mp h1)
      obtain ⟨a1, a2, a3, a4⟩ := zx_pt1 j (by omega)
      obtain ⟨b1, b2, b3, b4⟩ := zx_pt2 j (by omega)
      obtain ⟨c1, c2, c3, c4⟩ := zx_pt3 j (by omega)
      have d1 := zx_pt4 j (by omega)
      generalize nI j = t at *
      generalize zx_pr t = r at *
      have k85 : ¬ (80 ≤ t ∧ t ≤ 120) → ¬ (30 ≤ t ∧ t ≤ 35) → ¬ (16 ≤ t ∧ t ≤ 21) → ¬ t = 0 → ¬ (70 ≤ t ∧ t ≤ 72) → ¬ (10 ≤ t ∧ t ≤ 15) → ¬ t = 4 → ¬ (61 ≤ t ∧ t ≤ 69) → wX_partsOf_85 post t := by
        intro n1 n2 n3 n4 n5 n6 n7 n8
        unfold wX_partsOf_85
        exact br_c (fun g => c1 g ▸ h) (fun g1 => br_c (fun g => c2 g ▸ h) (fun g2 => br_c (fun g => c3 g ▸ h) (fun g3 => br_c (fun g => c4 g ▸ h) (fun g4 => d1 n1 n2 n3 n4 n5 n6 n7 n8 g1 g2 g3 g4 ▸ h))))
      have k66 : ¬ (80 ≤ t ∧ t ≤ 120) → ¬ (30 ≤ t ∧ t ≤ 35) → ¬ (16 ≤ t ∧ t ≤ 21) → ¬ t = 0 → ¬ (70 ≤ t ∧ t ≤ 72) → ¬ (10 ≤ t ∧ t ≤ 15) → wX_partsOf_66 post t := by
        intro n1 n2 n3 n4 n5 n6
        unfold wX_partsOf_66
        exact br_c (fun g => b3 g ▸ h) (fun n7 => br_c (fun g => k85 n1 n2 n3 n4 n5 n6 n7 (fun q => absurd q.1 (Int32.not_le.mpr g)))
          (fun g => br_c (fun g2 => b4 (Int32.not_lt.mp g) g2 ▸ h) (fun g2 => k85 n1 n2 n3 n4 n5 n6 n7 (fun q => g2 q.2))))
      have k54 : ¬ (80 ≤ t ∧ t ≤ 120) → ¬ (30 ≤ t ∧ t ≤ 35) → ¬ (16 ≤ t ∧ t ≤ 21) → ¬ t = 0 → ¬ (70 ≤ t ∧ t ≤ 72) → wX_partsOf_54 post t := by
        intro n1 n2 n3 n4 n5
        unfold wX_partsOf_54
        exact br_c (fun g => k66 n1 n2 n3 n4 n5 (fun q => absurd q.1 (Int32.not_le.mpr g)))
          (fun g => br_c (fun g2 => b2 (Int32.not_lt.mp g) g2 ▸ h) (fun g2 => k66 n1 n2 n3 n4 n5 (fun q => g2 q.2)))
      have k36 : ¬ (80 ≤ t ∧ t ≤ 120) → ¬ (30 ≤ t ∧ t ≤ 35) → ¬ (16 ≤ t ∧ t ≤ 21) → wX_partsOf_36 post t := by
        intro n1 n2 n3
        unfold wX_partsOf_36
        exact br_c (fun g => a4 g ▸ h) (fun n4 => br_c (fun g => k54 n1 n2 n3 n4 (fun q => absurd q.1 (Int32.not_le.mpr g)))
          (fun g => br_c (fun g2 => b1 (Int32.not_lt.mp g) g2 ▸ h) (fun g2 => k54 n1 n2 n3 n4 (fun q => g2 q.2))))
      have k24 : ¬ (80 ≤ t ∧ t ≤ 120) → ¬ (30 ≤ t ∧ t ≤ 35) → wX_partsOf_24 post t := by
        intro n1 n2
        unfold wX_partsOf_24
        exact br_c (fun g => k36 n1 n2 (fun q => absurd q.1 (Int32.not_le.mpr g)))
          (fun g => br_c (fun g2 => a3 (Int32.not_lt.mp g) g2 ▸ h) (fun g2 => k36 n1 n2 (fun q => g2 q.2)))
      have k12 : ¬ (80 ≤ t ∧ t ≤ 120) → wX_partsOf_12 post t := by
        intro n1
        unfold wX_partsOf_12
        exact br_c (fun g => k24 n1 (fun q => absurd q.1 (Int32.not_le.mpr g)))
          (fun g => br_c (fun g2 => a2 (Int32.not_lt.mp g) g2 ▸ h) (fun g2 => k24 n1 (fun q => g2 q.2)))
      unfold wpX_partsOf
      exact br_c (fun g => k12 (fun q => absurd q.1 (Int32.not_le.mpr g)))
          (fun g => br_c (fun g2 => a1 (Int32.not_lt.mp g) g2 ▸ h) (fun g2 => k12 (fun q => g2 q.2)))
theorem zx_parts {post : Int32 → Prop} {t : Int32} (ht : zt_ok t) (h : post (nI (zt_pt t))) : wpX_partsOf post t := zx_partsOf (by rw [zx_pr, if_pos ht]; exact h)
end
section
/-! the reference's small methods -/
theorem zs_okn {t : Int32} (h : zt_ok t) : ∃ k, k < 121 ∧ t = nI k := by
  have h0 : ¬ t < 0 := by
    intro h0
    rcases h with h | h | h | h | h <;> exact absurd (Int32.lt_of_lt_of_le h0 (Int32.le_trans (by decide) h.1)) (Int32.lt_irrefl)
  have h1 : t ≤ 120 := by
    rcases h with h | h | h | h | h <;> exact Int32.le_trans h.2 (by decide)
  obtain ⟨j, hj, e⟩ := nI_of2 (M := 120) (n := 120) (by decide) h0 h1
  exact ⟨j, by omega, e⟩
def zs_pl (t : Int32) : Bool := decide (zt_ok t) && (!decide (t = 2) && (!decide (t = 3) && (!decide (t = 68) && (!decide (t = 69) && (!decide (t = 0) && !decide (t = 1))))))
theorem zs_pli {t : Int32} (ho : zt_ok t) (h2 : ¬ t = 2) (h3 : ¬ t = 3) (h68 : ¬ t = 68) (h69 : ¬ t = 69) (h0 : ¬ t = 0) (h1 : ¬ t = 1) : zs_pl t = true := by
  unfold zs_pl
  simp only [ho, h2, h3, h68, h69, h0, h1, decide_true, decide_false, Bool.not_false, Bool.and_self]
section
variable {ysz ywd yop yct ydp yst ytn ytk ysh : Int32} {yto yin ymi yer yva ypa yvr yce : Nat → Int32}
theorem zw_isExpression {post : Int32 → Prop} {t : Int32} (h : post (zb_i ((30 ≤ t ∧ t ≤ 35) ∨ (61 ≤ t ∧ t ≤ 72) ∨ (80 ≤ t ∧ t ≤ 120)))) : wpY_isExpression post (ysz, ywd, yop, yct, ydp, yst, ytn, ytk, ysh, yto, yin, ymi, yer, yva, ypa, yvr, yce) t := by
  have k2 : ¬ (30 ≤ t ∧ t ≤ 35) → ¬ (61 ≤ t ∧ t ≤ 72) → wY_isExpression_24 post t ysz ywd yop yct ydp yst ytn ytk ysh yto yin ymi yer yva ypa yvr yce := by
    intro n1 n2
    unfold wY_isExpression_24
    refine br_c (fun h1 => ?_) (fun h1 => br_c (fun h2 => ?_) (fun h2 => ?_))
    · rw [zb_f (fun h3 => h3.elim n1 (fun h4 => h4.elim n2 (fun h5 => absurd h5.1 (Int32.not_le.mpr h1))))] at h; exact h
    · rw [zb_f (fun h3 => h3.elim n1 (fun h4 => h4.elim n2 (fun h5 => absurd h5.2 (Int32.not_le.mpr h2))))] at h; exact h
    · rw [zb_t (Or.inr (Or.inr ⟨Int32.not_lt.mp h1, Int32.not_lt.mp h2⟩))] at h; exact h
  have k1 : ¬ (30 ≤ t ∧ t ≤ 35) → wY_isExpression_12 post t ysz ywd yop yct ydp yst ytn ytk ysh yto yin ymi yer yva ypa yvr yce := by
    intro n1
    unfold wY_isExpression_12
    refine br_c (fun h1 => k2 n1 (fun h2 => absurd h2.1 (Int32.not_le.mpr h1))) (fun h1 => br_c (fun h2 => ?_) (fun h2 => k2 n1 (fun h3 => h2 h3.2)))
    rw [zb_t (Or.inr (Or.inl ⟨Int32.not_lt.mp h1, h2⟩))] at h; exact h
  unfold wpY_isExpression
  refine br_c (fun h1 => k1 (fun h2 => absurd h2.1 (Int32.not_le.mpr h1))) (fun h1 => br_c (fun h2 => ?_) (fun h2 => k1 (fun h3 => h2 h3.2)))
  rw [zb_t (Or.inl ⟨Int32.not_lt.mp h1, h2⟩)] at h; exact h
theorem zw_isStatement {post : Int32 → Prop} {t : Int32} (h : post (zb_i ((0 ≤ t ∧ t ≤ 5) ∨ (10 ≤ t ∧ t ≤ 21)))) : wpY_isStatement post (ysz, ywd, yop, yct, ydp, yst, ytn, ytk, ysh, yto, yin, ymi, yer, yva, ypa, yvr, yce) t := by
  have k2 : ¬ (0 ≤ t ∧ t ≤ 5) → wY_isStatement_9 post t ysz ywd yop yct ydp yst ytn ytk ysh yto yin ymi yer yva ypa yvr yce := by
    intro n1
    unfold wY_isStatement_9
    refine br_c (fun h1 => ?_) (fun h1 => br_c (fun h2 => ?_) (fun h2 => ?_))
    · rw [zb_f (fun h3 => h3.elim n1 (fun h5 => absurd h5.1 (Int32.not_le.mpr h1)))] at h; exact h
    · rw [zb_f (fun h3 => h3.elim n1 (fun h5 => absurd h5.2 (Int32.not_le.mpr h2)))] at h; exact h
    · rw [zb_t (Or.inr ⟨Int32.not_lt.mp h1, Int32.not_lt.mp h2⟩)] at h; exact h
  unfold wpY_isStatement
  refine br_c (fun h1 => k2 (fun h2 => absurd h2.1 (Int32.not_le.mpr h1))) (fun h1 => br_c (fun h2 => ?_) (fun h2 => k2 (fun h3 => h2 h3.2)))
  rw [zb_t (Or.inl ⟨Int32.not_lt.mp h1, h2⟩)] at h; exact h
theorem zw_errand {post : SY → Prop} {ct p k : Nat} (hc : ct < 600) (h : post (ysz, ywd, yop, nI (ct + 1), ydp, yst, ytn, ytk, ysh, yto, yin, ymi, upd yer ct (nI (8 * p + k)), yva, ypa, yvr, yce)) : wpY_errand post (ysz, ywd, yop, nI ct, ydp, yst, ytn, ytk, ysh, yto, yin, ymi, yer, yva, ypa, yvr, yce) (nI p) (nI k) := by
  unfold wpY_errand
  refine ⟨vp_in_nI hc (by decide), nm_r (e' := upd yer ct (nI (8 * p + k))) ?_ (nm_r (nI_1 ct) h)⟩
  rw [nI_clamp (by omega), ← nI_add, ← pk_mul]; rfl
theorem zw_value {post : SY → Prop} {dp : Nat} {v : Int32} (hc : dp < 200) (h : post (ysz, ywd, yop, yct, nI (dp + 1), yst, ytn, ytk, ysh, yto, yin, ymi, yer, upd yva dp v, ypa, yvr, yce)) : wpY_value post (ysz, ywd, yop, yct, nI dp, yst, ytn, ytk, ysh, yto, yin, ymi, yer, yva, ypa, yvr, yce) v := by
  unfold wpY_value
  refine ⟨vp_in_nI hc (by decide), nm_r (e' := upd yva dp v) ?_ (nm_r (nI_1 dp) h)⟩
  rw [nI_clamp (by omega)]
theorem zw_take {post : Int32 → SY → Prop} {dp : Nat} (hc : dp < 200) (h : post (yva dp) (ysz, ywd, yop, yct, nI dp, yst, ytn, ytk, ysh, yto, yin, ymi, yer, yva, ypa, yvr, yce)) : wpY_takeValue post (ysz, ywd, yop, yct, nI (dp + 1), yst, ytn, ytk, ysh, yto, yin, ymi, yer, yva, ypa, yvr, yce) := by
  unfold wpY_takeValue
  refine nm_r (nI_pred dp) ⟨vp_in_nI hc (by decide), ?_⟩
  rw [nI_clamp (by omega)]; exact h
theorem zw_parts {post : Int32 → Prop} {t : Int32} (ht : zt_ok t) (h : post (nI (zt_pt t))) : wpY_parts post (ysz, ywd, yop, yct, ydp, yst, ytn, ytk, ysh, yto, yin, ymi, yer, yva, ypa, yvr, yce) t := by
  have h : post (zx_pr t) := by rw [zx_pr, if_pos ht]; exact h
  obtain ⟨j, hj, rfl⟩ := zs_okn ht
  obtain ⟨a1, a2, a3, a4⟩ := zx_pt1 j (by omega)
  obtain ⟨b1, b2, b3, b4⟩ := zx_pt2 j (by omega)
  obtain ⟨c1, c2, c3, c4⟩ := zx_pt3 j (by omega)
  have d1 := zx_pt5 j (by omega)
  have d2 := zx_pt6 j (by omega)
  generalize nI j = t at *
  generalize zx_pr t = r at *
  unfold wpY_parts
  refine zw_isExpression (zb_br (fun n => ?_) (fun p => ?_))
  · refine br_c (fun g => c4 g ▸ h) (fun n2 => br_c (fun g => c1 g ▸ h) (fun n1 => br_c (fun g => c2 g ▸ h) (fun n3 => br_c (fun g => c3 g ▸ h) (fun n5 => br_c (fun g => b3 g ▸ h)
      (fun n4 => br_c (fun g => ?_) (fun g => br_c (fun g2 => ?_) (fun g2 => b2 (Int32.not_lt.mp g) (Int32.not_lt.mp g2) ▸ h)))))))
    · refine a4 ?_ ▸ h
      rcases ht with q | q | q
      · rcases d1 q.2 with e | e | e | e | e | e
        · exact e
        · exact absurd e n1
        · exact absurd e n2
        · exact absurd e n3
        · exact absurd e n4
        · exact absurd e n5
      · exact absurd q.1 (Int32.not_le.mpr g)
      · exact absurd q n
    · rcases ht with q | q | q
      · exact absurd (Int32.le_trans (Int32.not_lt.mp g) q.2) (by decide)
      · exact a3 (d2.1 (Int32.not_le.mpr g2)) q.2 ▸ h
      · exact absurd q n
  · have k24 : ¬ (61 ≤ t ∧ t ≤ 69) → wY_parts_24 post t ysz ywd yop yct ydp yst ytn ytk ysh yto yin ymi yer yva ypa yvr yce := by
      intro n1
      unfold wY_parts_24
      refine br_c (fun g => ?_) (fun g => br_c (fun g2 => ?_) (fun g2 => b1 (Int32.not_lt.mp g) (Int32.not_lt.mp g2) ▸ h))
      · rcases p with q | q | q
        · exact a2 q.1 q.2 ▸ h
        · exfalso
          by_cases g3 : t ≤ 69
          · exact n1 ⟨q.1, g3⟩
          · exact absurd (d2.2 g3) (Int32.not_le.mpr g)
        · exact absurd (Int32.lt_of_le_of_lt q.1 g) (by decide)
      · rcases p with q | q | q
        · exact absurd (Int32.lt_of_lt_of_le g2 q.2) (by decide)
        · exact absurd q.2 (Int32.not_le.mpr g2)
        · exact a1 q.1 q.2 ▸ h
    exact br_c (fun g => k24 (fun q => absurd q.1 (Int32.not_le.mpr g))) (fun g => br_c (fun g2 => k24 (fun q => absurd q.2 (Int32.not_le.mpr g2)))
      (fun g2 => b4 (Int32.not_lt.mp g) (Int32.not_lt.mp g2) ▸ h))
theorem zw_asks {post : Int32 → Prop} {t : Int32} {k : Nat} (hk : k < 2 ^ 31) (ht : zt_ok t) (hp : k < zt_pt t) (h : post (zt_kp t k)) : wpY_asks post (ysz, ywd, yop, yct, ydp, yst, ytn, ytk, ysh, yto, yin, ymi, yer, yva, ypa, yvr, yce) t (nI k) := by
  have hp0 : ¬ zt_pt t = 0 := by omega
  unfold wpY_asks
  have kk : ¬ t = 1 → ¬ t = 2 → ¬ t = 3 → post 1 := by
    intro n1 n2 n3
    rw [zt_kp, if_neg n1, if_neg (fun q => q.1.elim n2 n3)] at h; exact h
  have k34 : (t = 2 ∨ t = 3) → wY_asks_34 post (nI k) ysz ywd yop yct ydp yst ytn ytk ysh yto yin ymi yer yva ypa yvr yce := by
    intro q
    have n1 : ¬ t = 1 := by intro e; rw [e] at q; exact absurd q (by decide)
    rw [zt_kp, if_neg n1] at h
    unfold wY_asks_34
    refine pk_eq k 0 (fun g => ?_) (fun g => ?_)
    · rw [if_neg (fun q => by omega)] at h; exact h
    · rw [if_pos ⟨q, by omega⟩] at h; exact h
  refine zw_isExpression (zb_br (fun n => ?_) (fun p => ?_))
  · refine br_c (fun g => ?_) (fun n4 => br_c (fun g => ?_) (fun n5 => br_c (fun g => ?_) (fun g => br_c (fun g2 => k34 (Or.inl g2)) (fun n2 => br_c (fun g3 => k34 (Or.inr g3)) (fun n3 => ?_)))))
    · subst g; exact kk (by decide) (by decide) (by decide)
    · subst g; exact kk (by decide) (by decide) (by decide)
    · refine kk ?_ ?_ ?_ <;> (intro e; rw [e] at g; exact absurd g (by decide))
    · obtain ⟨j, hj, rfl⟩ := zs_okn ht
      have d1 := zx_pt5 j (by omega)
      rcases ht with q | q | q
      · rcases d1 q.2 with e | e | e | e | e | e
        · rw [e] at hp0; exact absurd (by decide) hp0
        · rw [zt_kp, if_pos e] at h; exact h
        · exact absurd e n2
        · exact absurd e n3
        · exact absurd e n4
        · exact absurd e n5
      · exact absurd q.1 g
      · exact absurd q n
  · refine kk ?_ ?_ ?_ <;> (intro e; rw [e] at p; exact absurd p (by decide))
end
section
variable {ysz ywd yop yct ydp yst ytn ytk ysh : Int32} {yto yin ymi yer yva ypa yvr yce : Nat → Int32}
theorem zw_behl {post : Int32 → Prop} {tk : ty_V} {c : Nat} {e : Nat → Nat} (hT : zt_tr tk c e 0) (hok : ∀ k, k < c → zt_ok (tk k)) (hc : c ≤ 90) : ∀ d p, c - p ≤ d → p < c → ∀ L n, L + 3 * (c - p) ≤ 1000 →
    wY_behind_4 post (nI c) ywd yop yct ydp yst ytn ytk ysh tk yin ymi yer yva ypa yvr yce n (nI L) (nI (e p)) → wY_behind_4 post (nI c) ywd yop yct ydp yst ytn ytk ysh tk yin ymi yer yva ypa yvr yce (n + (e p - p)) (nI (L + 1)) (nI p) := by
  intro d
  induction d with
  | zero => intro p h1 h2; omega
  | succ d ih =>
    intro p hd hp L n hL h
    obtain ⟨e1, e2, e3, e4⟩ := hT p (Nat.zero_le _) hp
    have h3 := zt_p3 (tk p)
    -- the children
    have chl : ∀ j, j ≤ zt_pt (tk p) → ∃ q, q ≤ e p ∧ p < q ∧ q = zt_ch e p (zt_pt (tk p) - j) ∧ wY_behind_4 post (nI c) ywd yop yct ydp yst ytn ytk ysh tk yin ymi yer yva ypa yvr yce (n + (e p - q)) (nI (L + j)) (nI q) := by
      intro j
      induction j with
      | zero => intro _; exact ⟨e p, Nat.le_refl _, e1, e3, by rw [Nat.sub_self]; exact h⟩
      | succ j ihj =>
        intro hj
        obtain ⟨q, hq1, hq2, hq3, hq4⟩ := ihj (by omega)
        obtain ⟨c1, c2⟩ := e4 (zt_pt (tk p) - (j + 1)) (by omega)
        obtain ⟨f1, f2, _, _⟩ := hT _ (Nat.zero_le _) c1
        have hqe : q = e (zt_ch e p (zt_pt (tk p) - (j + 1))) := by
          rw [hq3, show zt_pt (tk p) - j = (zt_pt (tk p) - (j + 1)) + 1 by omega]; rfl
        have hgt : ∀ i, i ≤ zt_pt (tk p) - (j + 1) → p < zt_ch e p i := by
          intro i
          induction i with
          | zero => intro _; show p < p + 1; omega
          | succ i ihi =>
            intro hi
            have := ihi (by omega)
            have := (hT _ (Nat.zero_le _) (e4 i (by omega)).1).1
            show p < e (zt_ch e p i)
            omega
        have hg := hgt _ (Nat.le_refl _)
        refine ⟨_, ?_, hg, rfl, ?_⟩
        · rw [← hqe] at f1; omega
        · have := ih _ (by omega) c1 (L + j) (n + (e p - q)) (by omega) (by rw [← hqe]; exact hq4)
          rw [← hqe] at this f1
          rw [show n + (e p - zt_ch e p (zt_pt (tk p) - (j + 1))) = n + (e p - q) + (q - zt_ch e p (zt_pt (tk p) - (j + 1))) by omega]
          exact this
    obtain ⟨q, hq1, hq2, hq3, hq4⟩ := chl _ (Nat.le_refl _)
    rw [Nat.sub_self] at hq3
    have hq3 : q = p + 1 := hq3
    subst hq3
    rw [show n + (e p - p) = (n + (e p - (p + 1))) + 1 by omega]
    refine br_f (nI_nle (by omega) (by omega)) (br_f (nI_ge (by omega) (by omega)) ⟨vp_in_nI (by omega) (by decide), ?_⟩)
    rw [nI_clamp (by omega)]
    refine zw_parts (hok p hp) (nm_r (e' := nI (L + zt_pt (tk p))) ?_ (nm_r (nI_1 p) hq4))
    rw [nI_pred, nI_add]
theorem zw_behind {post : Int32 → Prop} {tk : ty_V} {c : Nat} {e : Nat → Nat} (hT : zt_tr tk c e 0) (hok : ∀ k, k < c → zt_ok (tk k)) (hc : c ≤ 90) {p : Nat} (hp : p < c) (h : post (nI (e p))) :
    wpY_behind post (nI c, ywd, yop, yct, ydp, yst, ytn, ytk, ysh, tk, yin, ymi, yer, yva, ypa, yvr, yce) (nI p) := by
  unfold wpY_behind
  exact ⟨1 + (e p - p), zw_behl hT hok hc _ p (Nat.le_refl _) hp 0 1 (by omega) (br_t (by decide) h)⟩
theorem zw_part {post : Int32 → Prop} {tk : ty_V} {c : Nat} {e : Nat → Nat} (hT : zt_tr tk c e 0) (hok : ∀ k, k < c → zt_ok (tk k)) (hc : c ≤ 90) {p k : Nat} (hp : p < c) (hk : k < zt_pt (tk p))
    (h : post (nI (zt_ch e p k))) : wpY_part post (nI c, ywd, yop, yct, ydp, yst, ytn, ytk, ysh, tk, yin, ymi, yer, yva, ypa, yvr, yce) (nI p) (nI k) := by
  have h3 := zt_p3 (tk p)
  unfold wpY_part
  refine nm_r (nI_1 p) ⟨k + 1, ?_⟩
  have lp : ∀ d j, j + d = k → wY_part_7 post (nI k) (nI c) ywd yop yct ydp yst ytn ytk ysh tk yin ymi yer yva ypa yvr yce (d + 1) (nI (zt_ch e p j)) (nI j) := by
    intro d
    induction d with
    | zero => intro j hj; obtain rfl : j = k := by omega
              exact br_t (nI_le (Nat.le_refl _) (by omega)) h
    | succ d ih =>
      intro j hj
      have e4 := ((hT p (Nat.zero_le _) hp).2.2.2 j (by omega)).1
      refine br_f (nI_ge (by omega) (by omega)) (zw_behind hT hok hc e4 (nm_r (nI_1 j) ?_))
      exact ih (j + 1) (by omega)
  exact lp k 0 (by omega)
end
end
section
section
variable {ysz ywd yop yct ydp yst ytn ytk ysh : Int32} {yto yin ymi yer yva ypa yvr yce : Nat → Int32}
variable {post : SY → Prop} {m : Nat}
theorem zy_dv {m k : Nat} (hm : m < 90) (hk : k < 8) : nI (8 * m + k) / 8 = nI m ∧ nI (8 * m + k) - nI (8 * m + k) / 8 * 8 = nI k := by
  have h1 : nI (8 * m + k) / nI 8 = nI ((8 * m + k) / 8) := pk_div (by omega) (by decide) (by decide)
  have h2 : nI (8 * m + k) - nI (8 * m + k) / nI 8 * nI 8 = nI ((8 * m + k) % 8) := pk_rem (by omega) (by decide) (by decide)
  rw [show (8 * m + k) / 8 = m by omega] at h1
  rw [show (8 * m + k) % 8 = k by omega] at h2
  exact ⟨h1, h2⟩
theorem zy_k0 (hm : m < 90) (h : wpY_begin post (ysz, ywd, yop, yct, ydp, yst, ytn, ytk, ysh, yto, yin, ymi, yer, yva, ypa, yvr, yce) (nI m)) : wpY_carryOut post (ysz, ywd, yop, yct, ydp, yst, ytn, ytk, ysh, yto, yin, ymi, yer, yva, ypa, yvr, yce) (nI (8 * m)) := by
  have e := zy_dv (k := 0) hm (by decide)
  rw [Nat.add_zero] at e
  unfold wpY_carryOut
  exact ⟨by decide, nm_r e.1 ⟨by decide, nm_r e.2 (br_t rfl h)⟩⟩
theorem zy_k2 (hm : m < 90) (h : wpY_choose post (ysz, ywd, yop, yct, ydp, yst, ytn, ytk, ysh, yto, yin, ymi, yer, yva, ypa, yvr, yce) (nI m)) : wpY_carryOut post (ysz, ywd, yop, yct, ydp, yst, ytn, ytk, ysh, yto, yin, ymi, yer, yva, ypa, yvr, yce) (nI (8 * m + 2)) := by
  have e := zy_dv (k := 2) hm (by decide)
  unfold wpY_carryOut
  exact ⟨by decide, nm_r e.1 ⟨by decide, nm_r e.2 (br_f (by decide) (br_t rfl h))⟩⟩
theorem zy_k3' {dp : Nat} (hm : m < 90) (hd : dp < 200) (h0 : yva dp = 0 → post (ysz, ywd, yop, yct, nI (dp + 1), yst, ytn, ytk, ysh, yto, yin, ymi, yer, upd yva dp 0, ypa, yvr, yce)) (h1 : ¬ yva dp = 0 → post (ysz, ywd, yop, yct, nI (dp + 1), yst, ytn, ytk, ysh, yto, yin, ymi, yer, upd yva dp 1, ypa, yvr, yce)) :
    wpY_carryOut post (ysz, ywd, yop, yct, nI (dp + 1), yst, ytn, ytk, ysh, yto, yin, ymi, yer, yva, ypa, yvr, yce) (nI (8 * m + 3)) := by
  have e := zy_dv (k := 3) hm (by decide)
  unfold wpY_carryOut
  refine ⟨by decide, nm_r e.1 ⟨by decide, nm_r e.2 (br_f (by decide) (br_f (by decide) (br_t rfl (zw_take hd ?_))))⟩⟩
  refine br_c (fun g => ?_) (fun g => ?_)
  · exact zw_value hd (h0 g)
  · exact zw_value hd (h1 g)
theorem zy_k12 {dp : Nat} (hm : m < 90) (hd : dp + 1 < 200) (ht : zt_ok (yto m)) (hp : zt_pt (yto m) = 2) (h : wpY_finishTwo post (ysz, ywd, yop, yct, nI dp, yst, ytn, ytk, ysh, yto, yin, ymi, yer, yva, ypa, yvr, yce) (yto m) (yva dp) (yva (dp + 1))) :
    wpY_carryOut post (ysz, ywd, yop, yct, nI (dp + 2), yst, ytn, ytk, ysh, yto, yin, ymi, yer, yva, ypa, yvr, yce) (nI (8 * m + 1)) := by
  have e := zy_dv (k := 1) hm (by decide)
  have hc : (nI m).toNatClampNeg = m := nI_clamp (by omega)
  unfold wpY_carryOut
  refine ⟨by decide, nm_r e.1 ⟨by decide, nm_r e.2 (br_f (by decide) (br_f (by decide) (br_f (by decide) ⟨vp_in_nI hm (by decide), ?_⟩)))⟩⟩
  rw [hc]
  refine zw_parts ht ?_
  rw [hp]
  refine br_t rfl (zw_take (dp := dp + 1) hd (zw_take (dp := dp) (by omega) ⟨vp_in_nI hm (by decide), h⟩))
theorem zy_k11 {dp : Nat} (hm : m < 90) (hd : dp < 200) (ht : zt_ok (yto m)) (hp : zt_pt (yto m) = 1) (h : wpY_finishOne post (ysz, ywd, yop, yct, nI dp, yst, ytn, ytk, ysh, yto, yin, ymi, yer, yva, ypa, yvr, yce) (yto m) (yva dp)) :
    wpY_carryOut post (ysz, ywd, yop, yct, nI (dp + 1), yst, ytn, ytk, ysh, yto, yin, ymi, yer, yva, ypa, yvr, yce) (nI (8 * m + 1)) := by
  have e := zy_dv (k := 1) hm (by decide)
  have hc : (nI m).toNatClampNeg = m := nI_clamp (by omega)
  unfold wpY_carryOut
  refine ⟨by decide, nm_r e.1 ⟨by decide, nm_r e.2 (br_f (by decide) (br_f (by decide) (br_f (by decide) ⟨vp_in_nI hm (by decide), ?_⟩)))⟩⟩
  rw [hc]
  refine zw_parts ht ?_
  rw [hp]
  refine br_f (by decide) (zw_take (dp := dp) hd ⟨vp_in_nI hm (by decide), h⟩)
theorem zy_sv {t a : Int32} {k : Nat} (ha : a.toInt = k) (hk : k < 1000) (h1 : a ≤ t) (h2 : t ≤ a + 5) (h3 : (a + 5).toInt = k + 5) : ∃ j, j < 6 ∧ t - a = nI j := by
  have g1 := Int32.le_iff_toInt_le.mp h1
  have g2 := Int32.le_iff_toInt_le.mp h2
  rw [ha] at g1
  rw [h3] at g2
  refine ⟨(t.toInt - k).toNat, by omega, ?_⟩
  apply Int32.toInt_inj.mp
  rw [Int32.toInt_sub, ha, nI_toInt (by omega), Int.bmod_eq_of_le (by omega) (by omega)]
  omega
theorem zy_b35 (hm : m < 90) (nv : ¬ (30 ≤ yto m ∧ yto m ≤ 35)) (h : wY_begin_35 post (nI m) (yto m) ysz ywd yop yct ydp yst ytn ytk ysh yto yin ymi yer yva ypa yvr yce) : wpY_begin post (ysz, ywd, yop, yct, ydp, yst, ytn, ytk, ysh, yto, yin, ymi, yer, yva, ypa, yvr, yce) (nI m) := by
  have hc : (nI m).toNatClampNeg = m := nI_clamp (by omega)
  unfold wpY_begin
  refine ⟨vp_in_nI hm (by decide), nm_r (e' := yto m) (by rw [hc]) (br_c (fun _ => h) (fun g => br_c (fun _ => h) (fun g2 => ?_)))⟩
  exact absurd ⟨Int32.not_lt.mp g, Int32.not_lt.mp g2⟩ nv
theorem zy_bvar {dp : Nat} (hm : m < 90) (hd : dp < 200) (hv : 30 ≤ yto m ∧ yto m ≤ 35) (h : post (ysz, ywd, yop, yct, nI (dp + 1), yst, ytn, ytk, ysh, yto, yin, ymi, yer, upd yva dp (yvr (yto m - 30).toNatClampNeg), ypa, yvr, yce)) :
    wpY_begin post (ysz, ywd, yop, yct, nI dp, yst, ytn, ytk, ysh, yto, yin, ymi, yer, yva, ypa, yvr, yce) (nI m) := by
  have hc : (nI m).toNatClampNeg = m := nI_clamp (by omega)
  obtain ⟨j, hj, ej⟩ := zy_sv (a := 30) (k := 30) (by decide) (by omega) hv.1 hv.2 (by decide)
  unfold wpY_begin
  refine ⟨vp_in_nI hm (by decide), nm_r (e' := yto m) (by rw [hc]) (br_f (Int32.not_lt.mpr hv.1) (br_f (Int32.not_lt.mpr hv.2) ⟨?_, zw_value hd h⟩))⟩
  rw [ej]; exact vp_in_nI hj (by decide)
theorem zy_bcon {dp : Nat} (hm : m < 90) (hd : dp < 200) (hv : 80 ≤ yto m) (h : post (ysz, ywd, yop, yct, nI (dp + 1), yst, ytn, ytk, ysh, yto, yin, ymi, yer, upd yva dp (yto m - 100), ypa, yvr, yce)) : wpY_begin post (ysz, ywd, yop, yct, nI dp, yst, ytn, ytk, ysh, yto, yin, ymi, yer, yva, ypa, yvr, yce) (nI m) := by
  refine zy_b35 hm (fun g => absurd (Int32.le_trans hv g.2) (by decide)) ?_
  unfold wY_begin_35
  exact br_f (Int32.not_lt.mpr hv) (zw_value hd h)
section
variable {tk : ty_V} {c : Nat} {e : Nat → Nat}
theorem zy_b74 {ct : Nat} (hT : zt_tr tk c e 0) (hok : ∀ k, k < c → zt_ok (tk k)) (hc90 : c ≤ 90) (hm : m < c) (hp : 0 < zt_pt (tk m)) (hc : ct + 2 ≤ 600)
    (h : post (nI c, ywd, yop, nI (ct + 2), ydp, yst, ytn, ytk, ysh, tk, yin, ymi, upd (upd yer ct (nI (8 * m + 2))) (ct + 1) (nI (8 * (m + 1))), yva, ypa, yvr, yce)) : wY_begin_74 post (nI m) (nI c) ywd yop (nI ct) ydp yst ytn ytk ysh tk yin ymi yer yva ypa yvr yce := by
  unfold wY_begin_74
  refine zw_errand (k := 2) (by omega) ?_
  refine zw_part (k := 0) hT hok hc90 hm hp ?_
  refine zw_errand (ct := ct + 1) (k := 0) (by omega) ?_
  exact h
theorem zy_bbra {ct : Nat} (hT : zt_tr tk c e 0) (hok : ∀ k, k < c → zt_ok (tk k)) (hc90 : c ≤ 90) (hm : m < c) (hc : ct + 2 ≤ 600) (ht : tk m = 2 ∨ tk m = 3 ∨ tk m = 68 ∨ tk m = 69)
    (h : post (nI c, ywd, yop, nI (ct + 2), ydp, yst, ytn, ytk, ysh, tk, yin, ymi, upd (upd yer ct (nI (8 * m + 2))) (ct + 1) (nI (8 * (m + 1))), yva, ypa, yvr, yce)) : wpY_begin post (nI c, ywd, yop, nI ct, ydp, yst, ytn, ytk, ysh, tk, yin, ymi, yer, yva, ypa, yvr, yce) (nI m) := by
  have hp : 0 < zt_pt (tk m) := by rcases ht with ht | ht | ht | ht <;> rw [ht] <;> decide
  have key := zy_b74 (post := post) (yop := yop) (ywd := ywd) (ydp := ydp) (yst := yst) (ytn := ytn) (ytk := ytk) (ysh := ysh) (yin := yin) (ymi := ymi) (yva := yva) (ypa := ypa) (yvr := yvr) (yce := yce) hT hok hc90 hm hp hc h
  refine zy_b35 (by omega) (fun g => ?_) ?_
  · rcases ht with ht | ht | ht | ht <;> rw [ht] at g <;> exact absurd g (by decide)
  unfold wY_begin_35
  rcases ht with ht | ht | ht | ht <;> rw [ht]
  · exact br_t (by decide) (br_f (by decide) (br_f (by decide) (br_t rfl key)))
  · exact br_t (by decide) (br_f (by decide) (br_f (by decide) (br_f (by decide) (br_t rfl key))))
  · exact br_t (by decide) (br_t rfl key)
  · exact br_t (by decide) (br_f (by decide) (br_t rfl key))
theorem zy_b117 (hm : m < 90) (nv : ¬ 30 ≤ yto m ∨ (61 ≤ yto m ∧ yto m ≤ 72)) (n16 : ¬ (16 ≤ yto m ∧ yto m ≤ 21)) (h2 : ¬ yto m = 2) (h3 : ¬ yto m = 3) (h68 : ¬ yto m = 68) (h69 : ¬ yto m = 69)
    (h : wY_begin_117 post (nI m) (yto m) ysz ywd yop yct ydp yst ytn ytk ysh yto yin ymi yer yva ypa yvr yce) : wpY_begin post (ysz, ywd, yop, yct, ydp, yst, ytn, ytk, ysh, yto, yin, ymi, yer, yva, ypa, yvr, yce) (nI m) := by
  refine zy_b35 hm (fun g => ?_) ?_
  · rcases nv with nv | nv
    · exact nv g.1
    · exact absurd (Int32.le_trans nv.1 g.2) (by decide)
  unfold wY_begin_35
  refine br_t ?_ (br_f h68 (br_f h69 (br_f h2 (br_f h3 (br_c (fun _ => h) (fun g => br_c (fun _ => h) (fun g2 => ?_)))))))
  · rcases nv with nv | nv
    · exact Int32.lt_of_lt_of_le (Int32.not_le.mp nv) (by decide)
    · exact Int32.lt_of_le_of_lt nv.2 (by decide)
  · exact absurd ⟨Int32.not_lt.mp g, Int32.not_lt.mp g2⟩ n16
theorem zy_brd {rd w : Nat} (hm : m < 90) (hv : 16 ≤ yto m ∧ yto m ≤ 21) (hw : w ≤ 10) (hr : rd ≤ w)
    (h1 : rd < w → post (ysz, nI w, yop, yct, ydp, yst, ytn, nI (rd + 1), ysh, yto, yin, ymi, yer, yva, ypa, upd yvr (yto m - 16).toNatClampNeg (yin rd), yce)) (h2 : w ≤ rd → post (ysz, nI w, yop, yct, ydp, 3, ytn, nI rd, ysh, yto, yin, ymi, yer, yva, ypa, yvr, yce)) :
    wpY_begin post (ysz, nI w, yop, yct, ydp, yst, ytn, nI rd, ysh, yto, yin, ymi, yer, yva, ypa, yvr, yce) (nI m) := by
  have lt30 : yto m < 30 := Int32.lt_of_le_of_lt hv.2 (by decide)
  have ne : ∀ c : Int32, (c < 16 ∨ 21 < c) → ¬ yto m = c := by
    intro c hc e
    rw [e] at hv
    rcases hc with hc | hc
    · exact absurd hv.1 (Int32.not_le.mpr hc)
    · exact absurd hv.2 (Int32.not_le.mpr hc)
  obtain ⟨j, hj, ej⟩ := zy_sv (a := 16) (k := 16) (by decide) (by omega) hv.1 hv.2 (by decide)
  refine zy_b35 hm (fun g => absurd g.1 (Int32.not_le.mpr lt30)) ?_
  unfold wY_begin_35
  refine br_t (Int32.lt_trans lt30 (by decide)) (br_f (ne _ (by decide)) (br_f (ne _ (by decide)) (br_f (ne _ (by decide)) (br_f (ne _ (by decide)) (br_f (Int32.not_lt.mpr hv.1)
    (br_f (Int32.not_lt.mpr hv.2) ?_))))))
  unfold wpY_readInto
  refine pk_lt rd w (fun g => ⟨vp_in_nI (by omega) (by decide), ?_, nm_r (e' := upd yvr (yto m - 16).toNatClampNeg (yin rd)) ?_ (nm_r (nI_1 rd) (h1 g))⟩) (fun g => h2 g)
  · rw [ej]; exact vp_in_nI hj (by decide)
  · rw [nI_clamp (by omega)]
theorem zy_bskp (hm : m < 90) (ht : yto m = 0) (h : post (ysz, ywd, yop, yct, ydp, yst, ytn, ytk, ysh, yto, yin, ymi, yer, yva, ypa, yvr, yce)) : wpY_begin post (ysz, ywd, yop, yct, ydp, yst, ytn, ytk, ysh, yto, yin, ymi, yer, yva, ypa, yvr, yce) (nI m) := by
  refine zy_b117 hm (Or.inl (by rw [ht]; decide)) (by rw [ht]; decide) (by rw [ht]; decide) (by rw [ht]; decide) (by rw [ht]; decide) (by rw [ht]; decide) ?_
  unfold wY_begin_117
  exact br_t (by rw [ht]; decide) h
theorem zy_b140 {ct : Nat} (hT : zt_tr tk c e 0) (hok : ∀ k, k < c → zt_ok (tk k)) (hc90 : c ≤ 90) (hm : m < c) (hp : zt_pt (tk m) = 1 ∨ zt_pt (tk m) = 2) (hc : ct + zt_pt (tk m) ≤ 600)
    (h1 : zt_pt (tk m) = 1 → post (nI c, ywd, yop, nI (ct + 1), ydp, yst, ytn, ytk, ysh, tk, yin, ymi, upd yer ct (nI (8 * (m + 1))), yva, ypa, yvr, yce))
    (h2 : zt_pt (tk m) = 2 → post (nI c, ywd, yop, nI (ct + 2), ydp, yst, ytn, ytk, ysh, tk, yin, ymi, upd (upd yer ct (nI (8 * e (m + 1)))) (ct + 1) (nI (8 * (m + 1))), yva, ypa, yvr, yce)) :
    wY_begin_132 post (nI m) (tk m) (nI c) ywd yop (nI ct) ydp yst ytn ytk ysh tk yin ymi yer yva ypa yvr yce := by
  unfold wY_begin_132
  refine zw_parts (hok m hm) ?_
  rcases hp with hp | hp
  · rw [hp]
    refine nm_r (e' := nI 0) rfl ⟨2, ?_⟩
    refine br_f (by decide) (zw_part (k := 0) hT hok hc90 hm (by omega) (zw_errand (k := 0) (by omega) (nm_r (e' := -1) rfl (br_t (by decide) ?_))))
    exact h1 hp
  · rw [hp]
    refine nm_r (e' := nI 1) rfl ⟨3, ?_⟩
    refine br_f (by decide) (zw_part (k := 1) hT hok hc90 hm (by omega) (zw_errand (k := 0) (by omega) (nm_r (e' := nI 0) rfl ?_)))
    refine br_f (by decide) (zw_part (k := 0) hT hok hc90 hm (by omega) (zw_errand (ct := ct + 1) (k := 0) (by omega) (nm_r (e' := -1) rfl (br_t (by decide) ?_))))
    exact h2 hp
theorem zy_ch29 {ct k : Nat} (hT : zt_tr tk c e 0) (hok : ∀ k, k < c → zt_ok (tk k)) (hc90 : c ≤ 90) (hm : m < c) (hp : k < zt_pt (tk m)) (hc : ct < 600)
    (h : post (nI c, ywd, yop, nI (ct + 1), ydp, yst, ytn, ytk, ysh, tk, yin, ymi, upd yer ct (nI (8 * zt_ch e m k)), yva, ypa, yvr, yce)) : wY_choose_29 post (nI k) (nI m) (nI c) ywd yop (nI ct) ydp yst ytn ytk ysh tk yin ymi yer yva ypa yvr yce := by
  unfold wY_choose_29
  exact zw_part hT hok hc90 hm hp (zw_errand (k := 0) hc h)
theorem zy_ch134 {ct : Nat} (hT : zt_tr tk c e 0) (hok : ∀ k, k < c → zt_ok (tk k)) (hc90 : c ≤ 90) (hm : m < c) (hp : zt_pt (tk m) = 2) (hc : ct + 2 ≤ 600)
    (h : post (nI c, ywd, yop, nI (ct + 2), ydp, yst, ytn, ytk, ysh, tk, yin, ymi, upd (upd yer ct (nI (8 * m + 3))) (ct + 1) (nI (8 * e (m + 1))), yva, ypa, yvr, yce)) : wY_choose_134 post (nI m) (nI c) ywd yop (nI ct) ydp yst ytn ytk ysh tk yin ymi yer yva ypa yvr yce := by
  unfold wY_choose_134
  exact zw_errand (k := 3) (by omega) (zw_part (k := 1) hT hok hc90 hm (by omega) (zw_errand (ct := ct + 1) (k := 0) (by omega) h))
theorem zy_ch65 {ct tn : Nat} {v : Int32} (hT : zt_tr tk c e 0) (hok : ∀ k, k < c → zt_ok (tk k)) (hc90 : c ≤ 90) (hm : m < c) (hp : zt_pt (tk m) = 2) (hc : ct + 2 ≤ 600)
    (h0 : v = 0 → post (nI c, ywd, yop, nI ct, ydp, yst, nI tn, ytk, ysh, tk, yin, ymi, yer, yva, ypa, yvr, yce))
    (h : ¬ v = 0 → post (nI c, ywd, yop, nI (ct + 2), ydp, yst, nI (tn + 1), ytk, ysh, tk, yin, ymi, upd (upd yer ct (nI (8 * m))) (ct + 1) (nI (8 * e (m + 1))), yva, ypa, yvr, yce)) : wY_choose_65 post (nI m) v (nI c) ywd yop (nI ct) ydp yst (nI tn) ytk ysh tk yin ymi yer yva ypa yvr yce := by
  unfold wY_choose_65
  exact br_c (fun g => h0 g) (fun g => nm_r (nI_1 tn) (zw_errand (k := 0) (by omega) (zw_part (k := 1) hT hok hc90 hm (by omega) (zw_errand (ct := ct + 1) (k := 0) (by omega) (h g)))))
theorem zy_chif {ct dp : Nat} (hT : zt_tr tk c e 0) (hok : ∀ k, k < c → zt_ok (tk k)) (hc90 : c ≤ 90) (hm : m < c) (ht : tk m = 2) (hc : ct < 600) (hd : dp < 200)
    (h1 : ¬ yva dp = 0 → post (nI c, ywd, yop, nI (ct + 1), nI dp, yst, ytn, ytk, ysh, tk, yin, ymi, upd yer ct (nI (8 * e (m + 1))), yva, ypa, yvr, yce))
    (h2 : yva dp = 0 → post (nI c, ywd, yop, nI (ct + 1), nI dp, yst, ytn, ytk, ysh, tk, yin, ymi, upd yer ct (nI (8 * e (e (m + 1)))), yva, ypa, yvr, yce)) :
    wpY_choose post (nI c, ywd, yop, nI ct, nI (dp + 1), yst, ytn, ytk, ysh, tk, yin, ymi, yer, yva, ypa, yvr, yce) (nI m) := by
  have hp : zt_pt (tk m) = 3 := by rw [ht]; decide
  unfold wpY_choose
  refine ⟨vp_in_nI (by omega) (by decide), nm_r (e' := 2) (by rw [nI_clamp (by omega), ht]) (zw_take hd (br_t rfl (br_c (fun g => ?_) (fun g => ?_))))⟩
  · exact zy_ch29 (k := 2) hT hok hc90 hm (by omega) hc (h2 g)
  · exact zy_ch29 (k := 1) hT hok hc90 hm (by omega) hc (h1 g)
theorem zy_chwh {ct dp tn : Nat} (hT : zt_tr tk c e 0) (hok : ∀ k, k < c → zt_ok (tk k)) (hc90 : c ≤ 90) (hm : m < c) (ht : tk m = 3) (hc : ct + 2 ≤ 600) (hd : dp < 200) (hn : tn ≤ 99)
    (h0 : yva dp = 0 → post (nI c, ywd, yop, nI ct, nI dp, yst, nI tn, ytk, ysh, tk, yin, ymi, yer, yva, ypa, yvr, yce))
    (h1 : ¬ yva dp = 0 → tn = 99 → post (nI c, ywd, yop, nI ct, nI dp, 5, nI tn, ytk, ysh, tk, yin, ymi, yer, yva, ypa, yvr, yce))
    (h2 : ¬ yva dp = 0 → tn < 99 → post (nI c, ywd, yop, nI (ct + 2), nI dp, yst, nI (tn + 1), ytk, ysh, tk, yin, ymi, upd (upd yer ct (nI (8 * m))) (ct + 1) (nI (8 * e (m + 1))), yva, ypa, yvr, yce)) :
    wpY_choose post (nI c, ywd, yop, nI ct, nI (dp + 1), yst, nI tn, ytk, ysh, tk, yin, ymi, yer, yva, ypa, yvr, yce) (nI m) := by
  have hp : zt_pt (tk m) = 2 := by rw [ht]; decide
  unfold wpY_choose
  refine ⟨vp_in_nI (by omega) (by decide), nm_r (e' := 3) (by rw [nI_clamp (by omega), ht]) (zw_take hd (br_f (by decide) (br_t rfl (br_c (fun g => ?_) (fun g => pk_eq tn 99 (fun g2 => h1 g g2) (fun g2 => ?_))))))⟩
  · exact zy_ch65 hT hok hc90 hm hp hc (fun _ => h0 g) (fun q => absurd g q)
  · exact zy_ch65 hT hok hc90 hm hp hc (fun q => absurd q g) (fun _ => h2 g (by omega))
theorem zy_chsh {ct dp : Nat} (hT : zt_tr tk c e 0) (hok : ∀ k, k < c → zt_ok (tk k)) (hc90 : c ≤ 90) (hm : m < c) (ht : tk m = 68 ∨ tk m = 69) (hc : ct + 2 ≤ 600) (hd : dp < 200)
    (h0 : zq_tk (zc_jo (tk m)) (yva dp) → post (nI c, ywd, yop, nI ct, nI (dp + 1), yst, ytn, ytk, ysh, tk, yin, ymi, yer, upd yva dp (zc_v1 (tk m)), ypa, yvr, yce))
    (h1 : ¬ zq_tk (zc_jo (tk m)) (yva dp) → post (nI c, ywd, yop, nI (ct + 2), nI dp, yst, ytn, ytk, ysh, tk, yin, ymi, upd (upd yer ct (nI (8 * m + 3))) (ct + 1) (nI (8 * e (m + 1))), yva, ypa, yvr, yce)) :
    wpY_choose post (nI c, ywd, yop, nI ct, nI (dp + 1), yst, ytn, ytk, ysh, tk, yin, ymi, yer, yva, ypa, yvr, yce) (nI m) := by
  have hp : zt_pt (tk m) = 2 := by rcases ht with ht | ht <;> rw [ht] <;> decide
  unfold wpY_choose
  rcases ht with ht | ht
  · rw [ht] at h0 h1
    refine ⟨vp_in_nI (by omega) (by decide), nm_r (e' := 68) (by rw [nI_clamp (by omega), ht]) (zw_take hd (br_f (by decide) (br_f (by decide) (br_t rfl (br_c (fun g => ?_) (fun g => ?_))))))⟩
    · exact br_t rfl (zw_value hd (h0 (Or.inr (Or.inl ⟨rfl, g⟩))))
    · refine zy_ch134 hT hok hc90 hm hp hc (h1 ?_)
      rintro (q | q | q)
      · exact absurd q (by decide)
      · exact g q.2
      · exact absurd q.1 (by decide)
  · rw [ht] at h0 h1
    refine ⟨vp_in_nI (by omega) (by decide), nm_r (e' := 69) (by rw [nI_clamp (by omega), ht]) (zw_take hd (br_f (by decide) (br_f (by decide) (br_f (by decide) (br_c (fun g => ?_) (fun g => ?_))))))⟩
    · refine zy_ch134 hT hok hc90 hm hp hc (h1 ?_)
      rintro (q | q | q)
      · exact absurd q (by decide)
      · exact absurd q.1 (by decide)
      · exact q.2 g
    · exact br_f (by decide) (zw_value hd (h0 (Or.inr (Or.inr ⟨rfl, g⟩))))
end
end
end
section
def zs_l2 (t : Int32) : Bool := decide (t = 5) || (decide (t = 61) || (decide (t = 62) || (decide (t = 63) || (decide (t = 64) || (decide (t = 65) || (decide (t = 66) || decide (t = 67)))))))
theorem zs_pt2k : ∀ k, k < 121 → zs_pl (nI k) = true → zt_pt (nI k) = 2 → zs_l2 (nI k) = true := by decide +kernel
theorem zs_pt2l {t : Int32} (ho : zt_ok t) (hp : zt_pt t = 2) (h1 : ¬ t = 1) (h3 : ¬ t = 3) (h68 : ¬ t = 68) (h69 : ¬ t = 69) :
    t = 5 ∨ t = 61 ∨ t = 62 ∨ t = 63 ∨ t = 64 ∨ t = 65 ∨ t = 66 ∨ t = 67 := by
  obtain ⟨k, hk, rfl⟩ := zs_okn ho
  have h2 : ¬ nI k = 2 := by intro e; rw [e] at hp; exact absurd hp (by decide)
  have h0 : ¬ nI k = 0 := by intro e; rw [e] at hp; exact absurd hp (by decide)
  have := zs_pt2k k hk (zs_pli ho h2 h3 h68 h69 h0 h1) hp
  simpa [zs_l2] using this
def zs_l1 (t : Int32) : Bool := decide (t = 4) || ((decide (10 ≤ t) && decide (t ≤ 15)) || (decide (t = 70) || (decide (t = 71) || decide (t = 72))))
theorem zs_pt1k : ∀ k, k < 121 → zt_ok (nI k) → zt_pt (nI k) = 1 → zs_l1 (nI k) = true := by decide +kernel
theorem zs_pt1l (k : Nat) (hk : k < 121) (ho : zt_ok (nI k)) (hp : zt_pt (nI k) = 1) : nI k = 4 ∨ (10 ≤ nI k ∧ nI k ≤ 15) ∨ nI k = 70 ∨ nI k = 71 ∨ nI k = 72 := by
  have := zs_pt1k k hk ho hp
  simpa [zs_l1] using this
theorem zs_assg : ∀ k, k < 121 → 10 ≤ nI k → nI k ≤ 15 → zc_op (nI k) = 2 ∧ zt_kd (nI k) = 0 ∧ ¬ nI k = 4 := by decide +kernel
theorem zs_78 (x : Int32) : 7 < x ↔ 8 ≤ x := by
  rw [Int32.lt_iff_toInt_lt, Int32.le_iff_toInt_le, show (7 : Int32).toInt = 7 from by decide, show (8 : Int32).toInt = 8 from by decide]
  omega
theorem zs_and7 {x : Int32} (h : ¬ (x < 0 ∨ 8 ≤ x)) : (x &&& 7).toNatClampNeg = x.toNatClampNeg ∧ vp_in x 8 := by
  have h0 : ¬ x < 0 := fun q => h (Or.inl q)
  have h1 : x ≤ 7 := Int32.not_lt.mp (fun q => h (Or.inr ((zs_78 x).mp q)))
  obtain ⟨j, hj, rfl⟩ := nI_of2 (M := 7) (n := 7) (by decide) h0 h1
  have e : nI j &&& 7 = nI (j % 2 ^ 3) := pk_andN (by omega) 3 (by decide)
  rw [e, Nat.mod_eq_of_lt (show j < 2 ^ 3 by omega)]
  exact ⟨rfl, vp_in_nI (by omega) (by decide)⟩
section
variable {ysz ywd yop yct ydp yst ytn ytk ysh : Int32} {yto yin ymi yer yva ypa yvr yce : Nat → Int32}
variable {post : SY → Prop} {w dp : Nat} {D : ty_D} {I : ty_V} {t x y : Int32}
theorem zw_isCell {P : Int32 → Prop} (h : P (zb_i (¬ (x < 0 ∨ 8 ≤ x)))) : wpY_isCell P (ysz, ywd, yop, yct, ydp, yst, ytn, ytk, ysh, yto, yin, ymi, yer, yva, ypa, yvr, yce) x := by
  unfold wpY_isCell
  refine br_c (fun g => ?_) (fun g => br_c (fun g2 => ?_) (fun g2 => ?_))
  · rw [zb_f (fun q => q (Or.inl g))] at h; exact h
  · rw [zb_f (fun q => q (Or.inr ((zs_78 x).mp g2)))] at h; exact h
  · rw [zb_t (p := ¬ (x < 0 ∨ 8 ≤ x)) (fun q => q.elim g (fun q => g2 ((zs_78 x).mpr q)))] at h; exact h
theorem zw_trap {p : Prop} [Decidable p] (h0 : ¬ p → post (ysz, ywd, yop, yct, ydp, 2, ytn, ytk, ysh, yto, yin, ymi, yer, yva, ypa, yvr, yce)) (h1 : p → post (ysz, ywd, yop, yct, ydp, yst, ytn, ytk, ysh, yto, yin, ymi, yer, yva, ypa, yvr, yce)) : wpY_trapUnless post (ysz, ywd, yop, yct, ydp, yst, ytn, ytk, ysh, yto, yin, ymi, yer, yva, ypa, yvr, yce) (zb_i p) := by
  unfold wpY_trapUnless
  exact zb_br h0 h1
theorem zy_fin2 (hd : dp < 200) (ht : t = 5 ∨ t = 61 ∨ t = 62 ∨ t = 63 ∨ t = 64 ∨ t = 65 ∨ t = 66 ∨ t = 67)
    (hE : ¬ zq_end w (zc_op t) x y D = 0 → post (ysz, ywd, yop, yct, nI dp, zq_end w (zc_op t) x y D, nI D.2.1, nI D.2.2.1, nI D.2.2.2.1, yto, yin, ymi, yer, yva, D.2.2.2.2, yvr, D.1))
    (hX : zq_end w (zc_op t) x y D = 0 → zt_kd t = 1 → post (ysz, ywd, yop, yct, nI (dp + 1), 0, nI D.2.1, nI D.2.2.1, nI D.2.2.2.1, yto, yin, ymi, yer, upd yva dp (zq_res I (zc_op t) x y D), D.2.2.2.2, yvr, D.1))
    (hS : zq_end w (zc_op t) x y D = 0 → zt_kd t = 0 → post (ysz, ywd, yop, yct, nI dp, 0, nI (zq_eff (zc_op t) x y D).2.1, nI (zq_eff (zc_op t) x y D).2.2.1, nI (zq_eff (zc_op t) x y D).2.2.2.1, yto, yin, ymi, yer, yva, (zq_eff (zc_op t) x y D).2.2.2.2, yvr, (zq_eff (zc_op t) x y D).1)) :
    wpY_finishTwo post (ysz, ywd, yop, yct, nI dp, 0, nI D.2.1, nI D.2.2.1, nI D.2.2.2.1, yto, yin, ymi, yer, yva, D.2.2.2.2, yvr, D.1) t x y := by
  have c5 : zc_op 5 = 13 := by decide
  have c61 : zc_op 61 = 3 := by decide
  have c62 : zc_op 62 = 4 := by decide
  have c63 : zc_op 63 = 5 := by decide
  have c64 : zc_op 64 = 6 := by decide
  have c65 : zc_op 65 = 7 := by decide
  have c66 : zc_op 66 = 8 := by decide
  have c67 : zc_op 67 = 9 := by decide
  unfold wpY_finishTwo
  rcases ht with rfl | rfl | rfl | rfl | rfl | rfl | rfl | rfl
  · rw [c5] at hE hS
    have e13 : zq_end w 13 x y D = if (x < 0 ∨ 8 ≤ x) then 2 else 0 := by simp [zq_end]
    refine br_t rfl (zw_isCell (zw_trap (fun g => zw_isCell (zb_br (fun _ => ?_) (fun q => absurd q g))) (fun g => zw_isCell (zb_br (fun q => absurd g q) (fun _ => ?_)))))
    · have g := Classical.not_not.mp g
      rw [e13, if_pos g] at hE
      exact hE (by decide)
    · rw [e13, if_neg g] at hS
      have h := hS rfl (by decide)
      obtain ⟨a1, a2⟩ := zs_and7 g
      have ee : zq_eff 13 x y D = (upd D.1 x.toNatClampNeg y, D.2) := by simp [zq_eff, a1]
      rw [ee] at h
      exact ⟨a2, nm_e h⟩
  · rw [c61] at hX
    have e1 : zq_end w 3 x y D = 0 := by simp [zq_end]
    have e2 : zq_res I 3 x y D = x + y := by simp [zq_res, zq_val]
    rw [e1, e2] at hX
    exact br_f (by decide) (br_f (by decide) (br_f (by decide) (br_t rfl (zw_value hd (hX rfl (by decide))))))
  · rw [c62] at hX
    have e1 : zq_end w 4 x y D = 0 := by simp [zq_end]
    have e2 : zq_res I 4 x y D = x - y := by simp [zq_res, zq_val]
    rw [e1, e2] at hX
    exact br_f (by decide) (br_f (by decide) (br_f (by decide) (br_f (by decide) (br_t rfl (zw_value hd (hX rfl (by decide)))))))
  · rw [c63] at hX
    have e1 : zq_end w 5 x y D = 0 := by simp [zq_end]
    have e2 : zq_res I 5 x y D = x * y := by simp [zq_res, zq_val]
    rw [e1, e2] at hX
    exact br_f (by decide) (br_f (by decide) (br_f (by decide) (br_f (by decide) (br_f (by decide) (br_t rfl (zw_value hd (hX rfl (by decide))))))))
  · rw [c64] at hX hE
    have e1 : zq_end w 6 x y D = if y = 0 then 2 else 0 := by simp [zq_end]
    have k54 : ∀ z, z = zb_i (¬ y = 0) → wY_finishTwo_54 post 64 x y z ysz ywd yop yct (nI dp) 0 (nI D.2.1) (nI D.2.2.1) (nI D.2.2.2.1) yto yin ymi yer yva D.2.2.2.2 yvr D.1 := by
      intro z hz
      subst hz
      unfold wY_finishTwo_54
      refine zw_trap (fun g => br_c (fun g2 => ?_) (fun g2 => absurd g2 g)) (fun g => br_f g (br_t rfl ⟨g, zw_value hd ?_⟩))
      · rw [e1, if_pos g2] at hE; exact hE (by decide)
      · have e2 : zq_res I 6 x y D = x / y := by simp [zq_res, zq_val, g]
        rw [e1, if_neg g, e2] at hX; exact hX rfl (by decide)
    refine br_f (by decide) (br_t rfl (br_c (fun g => k54 0 ?_) (fun g => k54 1 ?_)))
    · rw [zb_f (fun q => q g)]
    · rw [zb_t g]
  · rw [c65] at hX hE
    have e1 : zq_end w 7 x y D = if y = 0 then 2 else 0 := by simp [zq_end]
    have k54 : ∀ z, z = zb_i (¬ y = 0) → wY_finishTwo_54 post 65 x y z ysz ywd yop yct (nI dp) 0 (nI D.2.1) (nI D.2.2.1) (nI D.2.2.2.1) yto yin ymi yer yva D.2.2.2.2 yvr D.1 := by
      intro z hz
      subst hz
      unfold wY_finishTwo_54
      refine zw_trap (fun g => br_c (fun g2 => ?_) (fun g2 => absurd g2 g)) (fun g => br_f g (br_f (by decide) ⟨g, zw_value hd ?_⟩))
      · rw [e1, if_pos g2] at hE; exact hE (by decide)
      · have e2 : zq_res I 7 x y D = x - x / y * y := by simp [zq_res, zq_val, g]
        rw [e1, if_neg g, e2] at hX; exact hX rfl (by decide)
    refine br_f (by decide) (br_f (by decide) (br_t rfl (br_c (fun g => k54 0 ?_) (fun g => k54 1 ?_))))
    · rw [zb_f (fun q => q g)]
    · rw [zb_t g]
  · rw [c66] at hX
    have e1 : zq_end w 8 x y D = 0 := by simp [zq_end]
    have e2 : zq_res I 8 x y D = if x < y then 1 else 0 := by simp [zq_res, zq_val]
    rw [e1, e2] at hX
    have hX := hX rfl (by decide)
    refine br_f (by decide) (br_f (by decide) (br_f (by decide) (br_f (by decide) (br_f (by decide) (br_f (by decide) (br_t rfl (br_c (fun g => ?_) (fun g => ?_))))))))
    · rw [if_neg (Int32.not_lt.mpr g)] at hX; exact zw_value hd hX
    · rw [if_pos (Int32.not_le.mp g)] at hX; exact zw_value hd hX
  · rw [c67] at hX
    have e1 : zq_end w 9 x y D = 0 := by simp [zq_end]
    have e2 : zq_res I 9 x y D = if x = y then 1 else 0 := by simp [zq_res, zq_val]
    rw [e1, e2] at hX
    have hX := hX rfl (by decide)
    refine br_f (by decide) (br_f (by decide) (br_f (by decide) (br_f (by decide) (br_f (by decide) (br_f (by decide) (br_f (by decide) (br_c (fun g => ?_) (fun g => ?_))))))))
    · rw [if_pos g] at hX; exact zw_value hd hX
    · rw [if_neg g] at hX; exact zw_value hd hX
theorem zy_fin1 (hd : dp < 200) (ht : zt_ok t) (hp : zt_pt t = 1) (hsh : D.2.2.2.1 ≤ 20)
    (hE : ¬ zq_end w (zc_op t) x 0 D = 0 → post (ysz, ywd, yop, yct, nI dp, zq_end w (zc_op t) x 0 D, nI D.2.1, nI D.2.2.1, nI D.2.2.2.1, yto, yin, ymi, yer, yva, D.2.2.2.2, yvr, D.1))
    (hX : zq_end w (zc_op t) x 0 D = 0 → zt_kd t = 1 → post (ysz, ywd, yop, yct, nI (dp + 1), 0, nI D.2.1, nI D.2.2.1, nI D.2.2.2.1, yto, yin, ymi, yer, upd yva dp (zq_res I (zc_op t) x 0 D), D.2.2.2.2, yvr, D.1))
    (hS : zq_end w (zc_op t) x 0 D = 0 → zt_kd t = 0 → post (ysz, ywd, yop, yct, nI dp, 0, nI (zq_eff (zc_op t) x 0 D).2.1, nI (zq_eff (zc_op t) x 0 D).2.2.1, nI (zq_eff (zc_op t) x 0 D).2.2.2.1, yto, yin, ymi, yer, yva, (zq_eff (zc_op t) x 0 D).2.2.2.2, if 10 ≤ t then upd yvr (t - 10).toNatClampNeg x else yvr, (zq_eff (zc_op t) x 0 D).1)) :
    wpY_finishOne post (ysz, ywd, yop, yct, nI dp, 0, nI D.2.1, nI D.2.2.1, nI D.2.2.2.1, yto, yin, ymi, yer, yva, D.2.2.2.2, yvr, D.1) t x := by
  have c4 : zc_op 4 = 14 := by decide
  have c70 : zc_op 70 = 10 := by decide
  have c71 : zc_op 71 = 11 := by decide
  have c72 : zc_op 72 = 12 := by decide
  obtain ⟨k, hk, ek⟩ := zs_okn ht
  have hl := zs_pt1l k hk (ek ▸ ht) (ek ▸ hp)
  have hasg := zs_assg k hk
  rw [← ek] at hl hasg
  unfold wpY_finishOne
  rcases hl with rfl | hl | rfl | rfl | rfl
  · rw [c4] at hE hS
    refine br_t rfl (pk_lt D.2.2.2.1 20 (fun g => ⟨vp_in_nI g (by decide), ?_⟩) (fun g => ?_))
    · have e1 : zq_end w 14 x 0 D = 0 := by simp [zq_end]; omega
      have e2 : zq_eff 14 x 0 D = (D.1, D.2.1, D.2.2.1, D.2.2.2.1 + 1, upd D.2.2.2.2 D.2.2.2.1 x) := by simp [zq_eff]
      rw [e1, e2, if_neg (by decide)] at hS
      refine nm_r (e' := upd D.2.2.2.2 D.2.2.2.1 x) (by rw [nI_clamp (by omega)]) (nm_r (nI_1 _) (hS rfl (by decide)))
    · have e1 : zq_end w 14 x 0 D = 4 := by simp [zq_end]; omega
      rw [e1] at hE; exact hE (by decide)
  · obtain ⟨a1, a2, a3⟩ := hasg hl.1 hl.2
    obtain ⟨j, hj, ej⟩ := zy_sv (a := 10) (k := 10) (by decide) (by omega) hl.1 hl.2 (by decide)
    rw [a1, if_pos hl.1] at hS
    have e1 : zq_end w 2 x 0 D = 0 := by simp [zq_end]
    have e2 : zq_eff 2 x 0 D = D := by simp [zq_eff]
    rw [e1, e2] at hS
    refine br_f a3 (br_f (Int32.not_lt.mpr hl.1) (br_f (Int32.not_lt.mpr hl.2) ⟨?_, nm_e (hS rfl a2)⟩))
    rw [ej]; exact vp_in_nI hj (by decide)
  · rw [c70] at hX
    have e1 : zq_end w 10 x 0 D = 0 := by simp [zq_end]
    have e2 : zq_res I 10 x 0 D = if x = 0 then 1 else 0 := by simp [zq_res, zq_val]
    rw [e1, e2] at hX
    have hX := hX rfl (by decide)
    refine br_f (by decide) (br_f (by decide) (br_t (by decide) (br_f (by decide) (br_t rfl (br_c (fun g => ?_) (fun g => ?_))))))
    · rw [if_pos g] at hX; exact zw_value hd hX
    · rw [if_neg g] at hX; exact zw_value hd hX
  · rw [c71] at hX
    have e1 : zq_end w 11 x 0 D = 0 := by simp [zq_end]
    have e2 : zq_res I 11 x 0 D = -x := by simp [zq_res, zq_val]
    rw [e1, e2] at hX
    have hX := hX rfl (by decide)
    exact br_f (by decide) (br_f (by decide) (br_t (by decide) (br_f (by decide) (br_f (by decide) (zw_value hd hX)))))
  · rw [c72] at hX hE
    have e1 : zq_end w 12 x 0 D = if (x < 0 ∨ 8 ≤ x) then 2 else 0 := by simp [zq_end]
    refine br_f (by decide) (br_f (by decide) (br_t (by decide) (br_t rfl
      (zw_isCell (zw_trap (fun g => zw_isCell (zb_br (fun _ => ?_) (fun q => absurd q g))) (fun g => zw_isCell (zb_br (fun q => absurd g q) (fun _ => ?_))))))))
    · have g := Classical.not_not.mp g
      rw [e1, if_pos g] at hE; exact hE (by decide)
    · obtain ⟨a1, a2⟩ := zs_and7 g
      have e2 : zq_res I 12 x 0 D = D.1 x.toNatClampNeg := by simp [zq_res, a1]
      rw [e1, if_neg g, e2] at hX
      exact ⟨a2, zw_value hd (hX rfl (by decide))⟩
end
end
section
/-! the reference's errand loop, rule by rule -/
def zy_R (post : Int32 → SY → Prop) (c w : Nat) (yop : Int32) (tk I ymi : ty_V) (er : ty_V) (ct : Nat) (va : ty_V) (dp : Nat) (st : Int32) (D : ty_D) (vr : ty_V) : Prop :=
  ∃ f, wY_run_50 post f (nI c) (nI w) yop (nI ct) (nI dp) st (nI D.2.1) (nI D.2.2.1) (nI D.2.2.2.1) tk I ymi er va D.2.2.2.2 vr D.1
def zy_H (tk : ty_V) (c : Nat) (e : Nat → Nat) (w : Nat) : Prop := zt_tr tk c e 0 ∧ (∀ k, k < c → zt_ok (tk k)) ∧ c ≤ 90 ∧ w ≤ 10
def zs_ok (g : Nat) (D : ty_D) : Prop := D.2.1 ≤ 99 ∧ D.2.2.1 ≤ g ∧ D.2.2.2.1 ≤ 20
section
variable {post : Int32 → SY → Prop} {c w : Nat} {yop : Int32} {tk I ymi : ty_V} {e : Nat → Nat} {er va vr : ty_V} {D : ty_D} {m ct dp : Nat}
theorem zy_go {f k : Nat} (hc : ct < 600) (he : er ct = nI k) (h : wpY_carryOut (fun u => match u with | (ysz, ywd, yop, yct, ydp, yst, ytn, ytk, ysh, yto, yin, ymi, yer, yva, ypa, yvr, yce) => wY_run_50 post f ysz ywd yop yct ydp yst ytn ytk ysh yto yin ymi yer yva ypa yvr yce) (nI c, nI w, yop, nI ct, nI dp, 0, nI D.2.1, nI D.2.2.1, nI D.2.2.2.1, tk, I, ymi, er, va, D.2.2.2.2, vr, D.1) (nI k)) :
    zy_R post c w yop tk I ymi er (ct + 1) va dp 0 D vr := by
  refine ⟨f + 1, br_f (nI_nle (by omega) (by omega)) (br_t rfl (nm_r (nI_pred ct) ⟨vp_in_nI hc (by decide), nm_r (e' := nI k) ?_ h⟩))⟩
  rw [nI_clamp (by omega)]; exact he
theorem zy_var (H : zy_H tk c e w) (ho : zs_ok w D) (hm : m < c) (hc : ct < 600) (hd : dp < 200) (he : er ct = nI (8 * m)) (ht : 30 ≤ tk m ∧ tk m ≤ 35)
    (h : zy_R post c w yop tk I ymi er ct (upd va dp (vr (tk m - 30).toNatClampNeg)) (dp + 1) 0 D vr) : zy_R post c w yop tk I ymi er (ct + 1) va dp 0 D vr := by
  obtain ⟨f, h⟩ := h
  exact zy_go (f := f) hc he (zy_k0 (Nat.lt_of_lt_of_le hm H.2.2.1) (zy_bvar (Nat.lt_of_lt_of_le hm H.2.2.1) hd ht h))
theorem zy_con (H : zy_H tk c e w) (ho : zs_ok w D) (hm : m < c) (hc : ct < 600) (hd : dp < 200) (he : er ct = nI (8 * m)) (ht : 80 ≤ tk m)
    (h : zy_R post c w yop tk I ymi er ct (upd va dp (tk m - 100)) (dp + 1) 0 D vr) : zy_R post c w yop tk I ymi er (ct + 1) va dp 0 D vr := by
  obtain ⟨f, h⟩ := h
  exact zy_go (f := f) hc he (zy_k0 (Nat.lt_of_lt_of_le hm H.2.2.1) (zy_bcon (Nat.lt_of_lt_of_le hm H.2.2.1) hd ht h))
theorem zy_bra (H : zy_H tk c e w) (ho : zs_ok w D) (hm : m < c) (hc : ct + 2 ≤ 600) (he : er ct = nI (8 * m)) (ht : tk m = 2 ∨ tk m = 3 ∨ tk m = 68 ∨ tk m = 69)
    (h : zy_R post c w yop tk I ymi (upd (upd er ct (nI (8 * m + 2))) (ct + 1) (nI (8 * (m + 1)))) (ct + 2) va dp 0 D vr) : zy_R post c w yop tk I ymi er (ct + 1) va dp 0 D vr := by
  obtain ⟨f, h⟩ := h
  exact zy_go (f := f) (by omega) he (zy_k0 (Nat.lt_of_lt_of_le hm H.2.2.1) (zy_bbra H.1 H.2.1 H.2.2.1 hm hc ht h))
theorem zy_rd (H : zy_H tk c e w) (ho : zs_ok w D) (hm : m < c) (hc : ct < 600) (he : er ct = nI (8 * m)) (ht : 16 ≤ tk m ∧ tk m ≤ 21)
    (h1 : D.2.2.1 < w → zy_R post c w yop tk I ymi er ct va dp 0 (D.1, D.2.1, D.2.2.1 + 1, D.2.2.2) (upd vr (tk m - 16).toNatClampNeg (I D.2.2.1)))
    (h2 : w ≤ D.2.2.1 → zy_R post c w yop tk I ymi er ct va dp 3 D vr) : zy_R post c w yop tk I ymi er (ct + 1) va dp 0 D vr := by
  by_cases g : D.2.2.1 < w
  · obtain ⟨f, h⟩ := h1 g
    exact zy_go (f := f) hc he (zy_k0 (Nat.lt_of_lt_of_le hm H.2.2.1) (zy_brd (Nat.lt_of_lt_of_le hm H.2.2.1) ht H.2.2.2 ho.2.1 (fun _ => h) (fun q => by omega)))
  · obtain ⟨f, h⟩ := h2 (by omega)
    exact zy_go (f := f) hc he (zy_k0 (Nat.lt_of_lt_of_le hm H.2.2.1) (zy_brd (Nat.lt_of_lt_of_le hm H.2.2.1) ht H.2.2.2 ho.2.1 (fun q => absurd q g) (fun _ => h)))
theorem zy_skp (H : zy_H tk c e w) (ho : zs_ok w D) (hm : m < c) (hc : ct < 600) (he : er ct = nI (8 * m)) (ht : tk m = 0)
    (h : zy_R post c w yop tk I ymi er ct va dp 0 D vr) : zy_R post c w yop tk I ymi er (ct + 1) va dp 0 D vr := by
  obtain ⟨f, h⟩ := h
  exact zy_go (f := f) hc he (zy_k0 (Nat.lt_of_lt_of_le hm H.2.2.1) (zy_bskp (Nat.lt_of_lt_of_le hm H.2.2.1) ht h))
theorem zy_seq (H : zy_H tk c e w) (ho : zs_ok w D) (hm : m < c) (hc : ct + 2 ≤ 600) (he : er ct = nI (8 * m)) (ht : tk m = 1)
    (h : zy_R post c w yop tk I ymi (upd (upd er ct (nI (8 * e (m + 1)))) (ct + 1) (nI (8 * (m + 1)))) (ct + 2) va dp 0 D vr) : zy_R post c w yop tk I ymi er (ct + 1) va dp 0 D vr := by
  obtain ⟨f, h⟩ := h
  have hp : zt_pt (tk m) = 2 := by rw [ht]; decide
  refine zy_go (f := f) (by omega) he (zy_k0 (Nat.lt_of_lt_of_le hm H.2.2.1) ?_)
  refine zy_b117 (Nat.lt_of_lt_of_le hm H.2.2.1) (Or.inl (by rw [ht]; decide)) (by rw [ht]; decide) (by rw [ht]; decide) (by rw [ht]; decide) (by rw [ht]; decide) (by rw [ht]; decide) ?_
  unfold wY_begin_117
  exact br_f (by rw [ht]; decide) (br_t (by rw [ht]; decide) (zy_b140 H.1 H.2.1 H.2.2.1 hm (Or.inr hp) (by omega) (fun q => by omega) (fun _ => h)))
theorem zy_pl1 {t : Int32} (hl : t = 4 ∨ (10 ≤ t ∧ t ≤ 15) ∨ t = 70 ∨ t = 71 ∨ t = 72) : (¬ 30 ≤ t ∨ (61 ≤ t ∧ t ≤ 72)) ∧ ¬ (16 ≤ t ∧ t ≤ 21) ∧ ¬ t = 2 ∧ ¬ t = 3 ∧ ¬ t = 68 ∧ ¬ t = 69 ∧ ¬ t ≤ 1 := by
  rcases hl with rfl | hl | rfl | rfl | rfl
  · decide
  · have ne : ∀ c : Int32, (c < 10 ∨ 15 < c) → ¬ t = c := by
      intro c hc e
      rw [e] at hl
      rcases hc with hc | hc
      · exact absurd hl.1 (Int32.not_le.mpr hc)
      · exact absurd hl.2 (Int32.not_le.mpr hc)
    exact ⟨Or.inl (fun g => absurd (Int32.le_trans g hl.2) (by decide)), fun g => absurd (Int32.le_trans g.1 hl.2) (by decide), ne _ (by decide), ne _ (by decide), ne _ (by decide), ne _ (by decide),
      fun g => absurd (Int32.le_trans hl.1 g) (by decide)⟩
  · decide
  · decide
  · decide
theorem zy_pl2 {t : Int32} (hl : t = 5 ∨ t = 61 ∨ t = 62 ∨ t = 63 ∨ t = 64 ∨ t = 65 ∨ t = 66 ∨ t = 67) : (¬ 30 ≤ t ∨ (61 ≤ t ∧ t ≤ 72)) ∧ ¬ (16 ≤ t ∧ t ≤ 21) ∧ ¬ t = 2 ∧ ¬ t = 3 ∧ ¬ t = 68 ∧ ¬ t = 69 ∧ ¬ t ≤ 1 := by
  rcases hl with rfl | rfl | rfl | rfl | rfl | rfl | rfl | rfl <;> decide
theorem zy_p1 (H : zy_H tk c e w) (ho : zs_ok w D) (hm : m < c) (hc : ct + 2 ≤ 600) (he : er ct = nI (8 * m)) (ht : zt_pt (tk m) = 1)
    (h : zy_R post c w yop tk I ymi (upd (upd er ct (nI (8 * m + 1))) (ct + 1) (nI (8 * (m + 1)))) (ct + 2) va dp 0 D vr) : zy_R post c w yop tk I ymi er (ct + 1) va dp 0 D vr := by
  obtain ⟨f, h⟩ := h
  have hok := H.2.1 m hm
  obtain ⟨k, hk, ek⟩ := zs_okn hok
  have hl := zs_pt1l k hk (ek ▸ hok) (ek ▸ ht)
  rw [← ek] at hl
  have q := zy_pl1 hl
  refine zy_go (f := f) (by omega) he (zy_k0 (Nat.lt_of_lt_of_le hm H.2.2.1) ?_)
  refine zy_b117 (Nat.lt_of_lt_of_le hm H.2.2.1) q.1 q.2.1 q.2.2.1 q.2.2.2.1 q.2.2.2.2.1 q.2.2.2.2.2.1 ?_
  unfold wY_begin_117
  refine br_f (fun g => q.2.2.2.2.2.2 (Int32.le_trans g (by decide))) (br_f q.2.2.2.2.2.2 (zw_errand (k := 1) (by omega) ?_))
  exact zy_b140 (ct := ct + 1) H.1 H.2.1 H.2.2.1 hm (Or.inl ht) (by omega) (fun _ => h) (fun q => by omega)
theorem zy_p2 (H : zy_H tk c e w) (ho : zs_ok w D) (hm : m < c) (hc : ct + 3 ≤ 600) (he : er ct = nI (8 * m)) (ht : zt_pt (tk m) = 2) (h1 : ¬ tk m = 1) (h3 : ¬ tk m = 3)
    (h68 : ¬ tk m = 68) (h69 : ¬ tk m = 69)
    (h : zy_R post c w yop tk I ymi (upd (upd (upd er ct (nI (8 * m + 1))) (ct + 1) (nI (8 * e (m + 1)))) (ct + 2) (nI (8 * (m + 1)))) (ct + 3) va dp 0 D vr) :
    zy_R post c w yop tk I ymi er (ct + 1) va dp 0 D vr := by
  obtain ⟨f, h⟩ := h
  have q := zy_pl2 (zs_pt2l (H.2.1 m hm) ht h1 h3 h68 h69)
  refine zy_go (f := f) (by omega) he (zy_k0 (Nat.lt_of_lt_of_le hm H.2.2.1) ?_)
  refine zy_b117 (Nat.lt_of_lt_of_le hm H.2.2.1) q.1 q.2.1 q.2.2.1 q.2.2.2.1 q.2.2.2.2.1 q.2.2.2.2.2.1 ?_
  unfold wY_begin_117
  refine br_f (fun g => q.2.2.2.2.2.2 (Int32.le_trans g (by decide))) (br_f q.2.2.2.2.2.2 (zw_errand (k := 1) (by omega) ?_))
  exact zy_b140 (ct := ct + 1) H.1 H.2.1 H.2.2.1 hm (Or.inr ht) (by omega) (fun q => by omega) (fun _ => h)
theorem zy_if (H : zy_H tk c e w) (ho : zs_ok w D) (hm : m < c) (hc : ct < 600) (hd : dp < 200) (he : er ct = nI (8 * m + 2)) (ht : tk m = 2)
    (h1 : ¬ va dp = 0 → zy_R post c w yop tk I ymi (upd er ct (nI (8 * e (m + 1)))) (ct + 1) va dp 0 D vr)
    (h2 : va dp = 0 → zy_R post c w yop tk I ymi (upd er ct (nI (8 * e (e (m + 1))))) (ct + 1) va dp 0 D vr) : zy_R post c w yop tk I ymi er (ct + 1) va (dp + 1) 0 D vr := by
  by_cases g : va dp = 0
  · obtain ⟨f, h⟩ := h2 g
    exact zy_go (f := f) hc he (zy_k2 (Nat.lt_of_lt_of_le hm H.2.2.1) (zy_chif H.1 H.2.1 H.2.2.1 hm ht hc hd (fun q => absurd g q) (fun _ => h)))
  · obtain ⟨f, h⟩ := h1 g
    exact zy_go (f := f) hc he (zy_k2 (Nat.lt_of_lt_of_le hm H.2.2.1) (zy_chif H.1 H.2.1 H.2.2.1 hm ht hc hd (fun _ => h) (fun q => absurd q g)))
theorem zy_wh (H : zy_H tk c e w) (ho : zs_ok w D) (hm : m < c) (hc : ct + 2 ≤ 600) (hd : dp < 200) (he : er ct = nI (8 * m + 2)) (ht : tk m = 3)
    (h0 : va dp = 0 → zy_R post c w yop tk I ymi er ct va dp 0 D vr)
    (h1 : ¬ va dp = 0 → D.2.1 = 99 → zy_R post c w yop tk I ymi er ct va dp 5 D vr)
    (h2 : ¬ va dp = 0 → D.2.1 < 99 → zy_R post c w yop tk I ymi (upd (upd er ct (nI (8 * m))) (ct + 1) (nI (8 * e (m + 1)))) (ct + 2) va dp 0 (D.1, D.2.1 + 1, D.2.2) vr) :
    zy_R post c w yop tk I ymi er (ct + 1) va (dp + 1) 0 D vr := by
  by_cases g : va dp = 0
  · obtain ⟨f, h⟩ := h0 g
    exact zy_go (f := f) (by omega) he (zy_k2 (Nat.lt_of_lt_of_le hm H.2.2.1) (zy_chwh H.1 H.2.1 H.2.2.1 hm ht hc hd ho.1 (fun _ => h) (fun q => absurd g q) (fun q => absurd g q)))
  · by_cases g2 : D.2.1 = 99
    · obtain ⟨f, h⟩ := h1 g g2
      exact zy_go (f := f) (by omega) he (zy_k2 (Nat.lt_of_lt_of_le hm H.2.2.1) (zy_chwh H.1 H.2.1 H.2.2.1 hm ht hc hd ho.1 (fun q => absurd q g) (fun _ _ => h) (fun _ q => by omega)))
    · have g3 : D.2.1 < 99 := by have := ho.1; omega
      obtain ⟨f, h⟩ := h2 g g3
      exact zy_go (f := f) (by omega) he (zy_k2 (Nat.lt_of_lt_of_le hm H.2.2.1) (zy_chwh H.1 H.2.1 H.2.2.1 hm ht hc hd ho.1 (fun q => absurd q g) (fun _ q => absurd q g2) (fun _ _ => h)))
theorem zy_sh (H : zy_H tk c e w) (ho : zs_ok w D) (hm : m < c) (hc : ct + 2 ≤ 600) (hd : dp < 200) (he : er ct = nI (8 * m + 2)) (ht : tk m = 68 ∨ tk m = 69)
    (h0 : zq_tk (zc_jo (tk m)) (va dp) → zy_R post c w yop tk I ymi er ct (upd va dp (zc_v1 (tk m))) (dp + 1) 0 D vr)
    (h1 : ¬ zq_tk (zc_jo (tk m)) (va dp) → zy_R post c w yop tk I ymi (upd (upd er ct (nI (8 * m + 3))) (ct + 1) (nI (8 * e (m + 1)))) (ct + 2) va dp 0 D vr) :
    zy_R post c w yop tk I ymi er (ct + 1) va (dp + 1) 0 D vr := by
  by_cases g : zq_tk (zc_jo (tk m)) (va dp)
  · obtain ⟨f, h⟩ := h0 g
    exact zy_go (f := f) (by omega) he (zy_k2 (Nat.lt_of_lt_of_le hm H.2.2.1) (zy_chsh H.1 H.2.1 H.2.2.1 hm ht hc hd (fun _ => h) (fun q => absurd g q)))
  · obtain ⟨f, h⟩ := h1 g
    exact zy_go (f := f) (by omega) he (zy_k2 (Nat.lt_of_lt_of_le hm H.2.2.1) (zy_chsh H.1 H.2.1 H.2.2.1 hm ht hc hd (fun q => absurd q g) (fun _ => h)))
theorem zy_k3 (H : zy_H tk c e w) (ho : zs_ok w D) (hm : m < c) (hc : ct < 600) (hd : dp < 200) (he : er ct = nI (8 * m + 3)) (ht : tk m = 68 ∨ tk m = 69)
    (h0 : zq_tk (zc_jo (tk m)) (va dp) → zy_R post c w yop tk I ymi er ct (upd va dp (zc_v1 (tk m))) (dp + 1) 0 D vr)
    (h1 : ¬ zq_tk (zc_jo (tk m)) (va dp) → zy_R post c w yop tk I ymi er ct (upd va dp (zc_v2 (tk m))) (dp + 1) 0 D vr) :
    zy_R post c w yop tk I ymi er (ct + 1) va (dp + 1) 0 D vr := by
  have e68 : tk m = 68 → (zq_tk (zc_jo (tk m)) (va dp) ↔ va dp = 0) ∧ zc_v1 (tk m) = 0 ∧ zc_v2 (tk m) = 1 := by
    intro h
    rw [h]
    refine ⟨⟨fun q => ?_, fun q => Or.inr (Or.inl ⟨rfl, q⟩)⟩, rfl, rfl⟩
    rcases q with q | q | q
    · exact absurd q (by decide)
    · exact q.2
    · exact absurd q.1 (by decide)
  have e69 : tk m = 69 → (zq_tk (zc_jo (tk m)) (va dp) ↔ ¬ va dp = 0) ∧ zc_v1 (tk m) = 1 ∧ zc_v2 (tk m) = 0 := by
    intro h
    rw [h]
    refine ⟨⟨fun q => ?_, fun q => Or.inr (Or.inr ⟨rfl, q⟩)⟩, rfl, rfl⟩
    rcases q with q | q | q
    · exact absurd q (by decide)
    · exact absurd q.1 (by decide)
    · exact q.2
  by_cases g : va dp = 0
  · rcases ht with ht | ht
    · obtain ⟨a1, a2, a3⟩ := e68 ht
      rw [a2] at h0
      obtain ⟨f, h⟩ := h0 (a1.mpr g)
      exact zy_go (f := f) (by omega) he (zy_k3' (Nat.lt_of_lt_of_le hm H.2.2.1) hd (fun _ => h) (fun q => absurd g q))
    · obtain ⟨a1, a2, a3⟩ := e69 ht
      rw [a3] at h1
      obtain ⟨f, h⟩ := h1 (fun q => a1.mp q g)
      exact zy_go (f := f) (by omega) he (zy_k3' (Nat.lt_of_lt_of_le hm H.2.2.1) hd (fun _ => h) (fun q => absurd g q))
  · rcases ht with ht | ht
    · obtain ⟨a1, a2, a3⟩ := e68 ht
      rw [a3] at h1
      obtain ⟨f, h⟩ := h1 (fun q => g (a1.mp q))
      exact zy_go (f := f) (by omega) he (zy_k3' (Nat.lt_of_lt_of_le hm H.2.2.1) hd (fun q => absurd q g) (fun _ => h))
    · obtain ⟨a1, a2, a3⟩ := e69 ht
      rw [a2] at h0
      obtain ⟨f, h⟩ := h0 (a1.mpr g)
      exact zy_go (f := f) (by omega) he (zy_k3' (Nat.lt_of_lt_of_le hm H.2.2.1) hd (fun q => absurd q g) (fun _ => h))
theorem zy_f2 (H : zy_H tk c e w) (ho : zs_ok w D) (hm : m < c) (hc : ct < 600) (hd : dp + 1 < 200) (he : er ct = nI (8 * m + 1)) (ht : zt_pt (tk m) = 2) (h1 : ¬ tk m = 1) (h3 : ¬ tk m = 3)
    (h68 : ¬ tk m = 68) (h69 : ¬ tk m = 69)
    (hE : ¬ zq_end w (zc_op (tk m)) (va dp) (va (dp + 1)) D = 0 → zy_R post c w yop tk I ymi er ct va dp (zq_end w (zc_op (tk m)) (va dp) (va (dp + 1)) D) D vr)
    (hX : zq_end w (zc_op (tk m)) (va dp) (va (dp + 1)) D = 0 → zt_kd (tk m) = 1 →
      zy_R post c w yop tk I ymi er ct (upd va dp (zq_res I (zc_op (tk m)) (va dp) (va (dp + 1)) D)) (dp + 1) 0 D vr)
    (hS : zq_end w (zc_op (tk m)) (va dp) (va (dp + 1)) D = 0 → zt_kd (tk m) = 0 → zy_R post c w yop tk I ymi er ct va dp 0 (zq_eff (zc_op (tk m)) (va dp) (va (dp + 1)) D) vr) :
    zy_R post c w yop tk I ymi er (ct + 1) va (dp + 2) 0 D vr := by
  have hl := zs_pt2l (H.2.1 m hm) ht h1 h3 h68 h69
  by_cases g : zq_end w (zc_op (tk m)) (va dp) (va (dp + 1)) D = 0
  · by_cases g2 : zt_kd (tk m) = 1
    · obtain ⟨f, h⟩ := hX g g2
      exact zy_go (f := f) hc he (zy_k12 (Nat.lt_of_lt_of_le hm H.2.2.1) hd (H.2.1 m hm) ht (zy_fin2 (w := w) (I := I) (by omega) hl (fun q => absurd g q) (fun _ _ => h) (fun _ q => absurd (g2.symm.trans q) (by decide))))
    · have g3 : zt_kd (tk m) = 0 := by
        unfold zt_kd at g2 ⊢
        by_cases q : 30 ≤ tk m
        · rw [if_pos q] at g2; exact absurd rfl g2
        · rw [if_neg q]
      obtain ⟨f, h⟩ := hS g g3
      exact zy_go (f := f) hc he (zy_k12 (Nat.lt_of_lt_of_le hm H.2.2.1) hd (H.2.1 m hm) ht (zy_fin2 (w := w) (I := I) (by omega) hl (fun q => absurd g q) (fun _ q => absurd q g2) (fun _ _ => h)))
  · obtain ⟨f, h⟩ := hE g
    exact zy_go (f := f) hc he (zy_k12 (Nat.lt_of_lt_of_le hm H.2.2.1) hd (H.2.1 m hm) ht (zy_fin2 (w := w) (I := I) (by omega) hl (fun _ => h) (fun q => absurd q g) (fun q => absurd q g)))
theorem zy_f1 (H : zy_H tk c e w) (ho : zs_ok w D) (hm : m < c) (hc : ct < 600) (hd : dp < 200) (he : er ct = nI (8 * m + 1)) (ht : zt_pt (tk m) = 1)
    (hE : ¬ zq_end w (zc_op (tk m)) (va dp) 0 D = 0 → zy_R post c w yop tk I ymi er ct va dp (zq_end w (zc_op (tk m)) (va dp) 0 D) D vr)
    (hX : zq_end w (zc_op (tk m)) (va dp) 0 D = 0 → zt_kd (tk m) = 1 →
      zy_R post c w yop tk I ymi er ct (upd va dp (zq_res I (zc_op (tk m)) (va dp) 0 D)) (dp + 1) 0 D vr)
    (hS : zq_end w (zc_op (tk m)) (va dp) 0 D = 0 → zt_kd (tk m) = 0 →
      zy_R post c w yop tk I ymi er ct va dp 0 (zq_eff (zc_op (tk m)) (va dp) 0 D) (if 10 ≤ tk m then upd vr (tk m - 10).toNatClampNeg (va dp) else vr)) :
    zy_R post c w yop tk I ymi er (ct + 1) va (dp + 1) 0 D vr := by
  by_cases g : zq_end w (zc_op (tk m)) (va dp) 0 D = 0
  · by_cases g2 : zt_kd (tk m) = 1
    · obtain ⟨f, h⟩ := hX g g2
      exact zy_go (f := f) hc he (zy_k11 (Nat.lt_of_lt_of_le hm H.2.2.1) hd (H.2.1 m hm) ht (zy_fin1 (w := w) (I := I) hd (H.2.1 m hm) ht ho.2.2 (fun q => absurd g q) (fun _ _ => h) (fun _ q => absurd (g2.symm.trans q) (by decide))))
    · have g3 : zt_kd (tk m) = 0 := by
        unfold zt_kd at g2 ⊢
        by_cases q : 30 ≤ tk m
        · rw [if_pos q] at g2; exact absurd rfl g2
        · rw [if_neg q]
      obtain ⟨f, h⟩ := hS g g3
      exact zy_go (f := f) hc he (zy_k11 (Nat.lt_of_lt_of_le hm H.2.2.1) hd (H.2.1 m hm) ht (zy_fin1 (w := w) (I := I) hd (H.2.1 m hm) ht ho.2.2 (fun q => absurd g q) (fun _ q => absurd q g2) (fun _ _ => h)))
  · obtain ⟨f, h⟩ := hE g
    exact zy_go (f := f) hc he (zy_k11 (Nat.lt_of_lt_of_le hm H.2.2.1) hd (H.2.1 m hm) ht (zy_fin1 (w := w) (I := I) hd (H.2.1 m hm) ht ho.2.2 (fun _ => h) (fun q => absurd q g) (fun q => absurd q g)))
end
end
section
/-! the lowered code against the errands: one outcome for both -/
def zs_X (g : Nat) (I : ty_V) (n : Nat) (op tg fi se : ty_V) (R : ty_R) (b p : Nat) (V : ty_V) (D : ty_D) : Prop :=
  ∃ k, zq_ex g I n op tg fi se (fun _ _ _ => True) R k b p V D
section
variable {g : Nat} {I : ty_V} {n : Nat} {op tg fi se : ty_V} {R : ty_R} {bb p q : Nat} {V : ty_V} {D : ty_D} {o t f s : Int32}
theorem zs_stp (hp : p < n) (hi : zc_ins op tg fi se p o t f s) (h4 : ¬ zq_jp o) (h5 : zq_end g o (zq_x o f V) (zq_y o s V) D = 0)
    (h : zs_X g I n op tg fi se R bb (p + 1) (zq_w o t (zq_res I o (zq_x o f V) (zq_y o s V) D) V) (zq_eff o (zq_x o f V) (zq_y o s V) D)) : zs_X g I n op tg fi se R bb p V D := by
  obtain ⟨rfl, rfl, rfl, rfl⟩ := hi
  obtain ⟨k, h⟩ := h
  exact ⟨k + 1, zq_exi hp trivial (zq_sbN (fun h => h4 (zq_tkj h)) h5 h)⟩
theorem zs_end (hp : p < n) (hi : zc_ins op tg fi se p o t f s) (h4 : ¬ zq_jp o) (h5 : ¬ zq_end g o (zq_x o f V) (zq_y o s V) D = 0)
    (h : zq_fin R V D (zq_end g o (zq_x o f V) (zq_y o s V) D)) : zs_X g I n op tg fi se R bb p V D := by
  obtain ⟨rfl, rfl, rfl, rfl⟩ := hi
  exact ⟨1, zq_exi hp trivial (zq_sbT (fun h => h4 (zq_tkj h)) h5 h)⟩
theorem zs_lab {f' s' : Int32} {t' : Int32} (hp : p < n) (hi : zc_ins op tg fi se p 20 t' f' s') (h : zs_X g I n op tg fi se R bb (p + 1) V D) : zs_X g I n op tg fi se R bb p V D := by
  obtain ⟨k, h⟩ := h
  exact ⟨k + 1, zq_exi hp trivial ((zq_nop (Or.inr hi.1)).mpr h)⟩
theorem zs_jf {f' s' : Int32} (hp : p < n) (hi : zc_ins op tg fi se p o t f s) (h4 : zq_tk o (zq_x o f V)) (hq : q < n) (hl : zc_ins op tg fi se q 20 t f' s') (hpq : p < q)
    (h : zs_X g I n op tg fi se R bb q V D) : zs_X g I n op tg fi se R bb p V D := by
  obtain ⟨rfl, rfl, rfl, rfl⟩ := hi
  obtain ⟨k, h⟩ := h
  exact ⟨k + 1, zq_exi hp trivial (zq_sbJ h4 ⟨q, hq, hl.1, hl.2.1, Or.inl ⟨hpq, h⟩⟩)⟩
theorem zs_jb {f' s' : Int32} (hp : p < n) (hi : zc_ins op tg fi se p o t f s) (h4 : zq_tk o (zq_x o f V)) (hl : zc_ins op tg fi se q 20 t f' s') (hpq : q ≤ p)
    (h : zs_X g I n op tg fi se R bb q V D) : zs_X g I n op tg fi se R (bb + 1) p V D := by
  obtain ⟨rfl, rfl, rfl, rfl⟩ := hi
  obtain ⟨k, h⟩ := h
  exact ⟨k + 1, zq_exi hp trivial (zq_sbJ h4 ⟨q, by omega, hl.1, hl.2.1, Or.inr ⟨hpq, bb, rfl, h⟩⟩)⟩
theorem zs_jn (hp : p < n) (hi : zc_ins op tg fi se p o t f s) (ho : o = 17 ∨ o = 18) (h4 : ¬ zq_tk o (zq_x o f V))
    (h : zs_X g I n op tg fi se R bb (p + 1) V D) : zs_X g I n op tg fi se R bb p V D := by
  obtain ⟨rfl, rfl, rfl, rfl⟩ := hi
  obtain ⟨k, h⟩ := h
  refine ⟨k + 1, zq_exi hp trivial (zq_sbN h4 ?_ ?_)⟩
  · rcases ho with ho | ho <;> rw [ho] <;> simp [zq_end]
  · have e1 : ∀ r, zq_w (op p) (tg p) r V = V := by intro r; rcases ho with ho | ho <;> rw [ho] <;> simp [zq_w, zq_wr]
    have e2 : ∀ x y, zq_eff (op p) x y D = D := by intro x y; rcases ho with ho | ho <;> rw [ho] <;> simp [zq_eff]
    rw [e1, e2]; exact h
theorem zs_mn {b2 : Nat} (h : zs_X g I n op tg fi se R bb p V D) (hb : bb ≤ b2) : zs_X g I n op tg fi se R b2 p V D := by
  obtain ⟨k, h⟩ := h
  exact ⟨k, zq_mn h (Nat.le_refl _) hb⟩
end
theorem zs_ta1 : ∀ k, k < 121 → zs_pl (nI k) = true → ¬ zq_jp (zc_op (nI k)) := by decide +kernel
theorem zs_ta2 : ∀ k, k < 121 → zs_pl (nI k) = true → zt_pt (nI k) = 0 → (80 ≤ nI k ∨ (30 ≤ nI k ∧ nI k ≤ 35) ∨ (16 ≤ nI k ∧ nI k ≤ 21)) := by decide +kernel
theorem zs_ta3 : ∀ k, k < 121 → zs_pl (nI k) = true → ¬ zt_pt (nI k) = 0 → zq_r1 (zc_op (nI k)) := by decide +kernel
theorem zs_ta4 : ∀ k, k < 121 → zs_pl (nI k) = true → ¬ zt_pt (nI k) = 0 → ¬ 80 ≤ nI k ∧ (61 ≤ nI k ∨ (¬ 61 ≤ nI k ∧ ¬ 30 ≤ nI k ∧ ¬ 16 ≤ nI k)) := by decide +kernel
theorem zs_tb1 : ∀ k, k < 121 → zs_pl (nI k) = true → zt_pt (nI k) ≤ 2 := by decide +kernel
theorem zs_tb2 : ∀ k, k < 121 → zs_pl (nI k) = true → zt_pt (nI k) = 1 → ¬ zq_r2 (zc_op (nI k)) := by decide +kernel
theorem zs_tb3 : ∀ k, k < 121 → zs_pl (nI k) = true → zt_pt (nI k) = 2 → zq_r2 (zc_op (nI k)) := by decide +kernel
theorem zs_tb4 : ∀ k, k < 121 → zs_pl (nI k) = true → 30 ≤ nI k → zq_wr (zc_op (nI k)) := by decide +kernel
theorem zs_tb5 : ∀ k, k < 121 → zs_pl (nI k) = true → 30 ≤ nI k → ¬ zc_op (nI k) = 13 ∧ ¬ zc_op (nI k) = 14 ∧ ¬ zc_op (nI k) = 15 ∧ ¬ zc_op (nI k) = 19 := by decide +kernel
theorem zs_tc1 : ∀ k, k < 121 → zs_pl (nI k) = true → ¬ 30 ≤ nI k → zt_pt (nI k) = 2 → zc_op (nI k) = 13 ∧ ¬ 10 ≤ nI k := by decide +kernel
theorem zs_tc2 : ∀ k, k < 121 → zs_pl (nI k) = true → ¬ 30 ≤ nI k → zt_pt (nI k) = 1 → ¬ 10 ≤ nI k → zc_op (nI k) = 14 := by decide +kernel
theorem zs_tc3 : ∀ k, k < 121 → zs_pl (nI k) = true → ¬ 30 ≤ nI k → zt_pt (nI k) = 1 → 10 ≤ nI k → zc_op (nI k) = 2 := by decide +kernel
theorem zs_tc4 : ∀ k, k < 121 → zs_pl (nI k) = true → zt_pt (nI k) = 1 → 16 ≤ nI k → 30 ≤ nI k := by decide +kernel
theorem zs_tc5 : ∀ k, k < 121 → zs_pl (nI k) = true → ¬ 30 ≤ nI k → zt_pt (nI k) = 1 → 10 ≤ nI k → (nI k - 10).toNatClampNeg < 6 := by decide +kernel
theorem zs_ta (k : Nat) (hk : k < 121) (ho : zt_ok (nI k)) (h2 : ¬ nI k = 2) (h3 : ¬ nI k = 3) (h68 : ¬ nI k = 68) (h69 : ¬ nI k = 69) (h0 : ¬ nI k = 0) (h1 : ¬ nI k = 1) :
    ¬ zq_jp (zc_op (nI k)) ∧ (zt_pt (nI k) = 0 → (80 ≤ nI k ∨ (30 ≤ nI k ∧ nI k ≤ 35) ∨ (16 ≤ nI k ∧ nI k ≤ 21))) ∧
    (¬ zt_pt (nI k) = 0 → zq_r1 (zc_op (nI k)) ∧ ¬ 80 ≤ nI k ∧ (61 ≤ nI k ∨ (¬ 61 ≤ nI k ∧ ¬ 30 ≤ nI k ∧ ¬ 16 ≤ nI k))) := by
  have hp := zs_pli ho h2 h3 h68 h69 h0 h1
  exact ⟨zs_ta1 k hk hp, zs_ta2 k hk hp, fun h => ⟨zs_ta3 k hk hp h, zs_ta4 k hk hp h⟩⟩
theorem zs_tb (k : Nat) (hk : k < 121) (ho : zt_ok (nI k)) (h2 : ¬ nI k = 2) (h3 : ¬ nI k = 3) (h68 : ¬ nI k = 68) (h69 : ¬ nI k = 69) (h0 : ¬ nI k = 0) (h1 : ¬ nI k = 1) :
    (zt_pt (nI k) ≤ 2) ∧ (zt_pt (nI k) = 1 → ¬ zq_r2 (zc_op (nI k))) ∧ (zt_pt (nI k) = 2 → zq_r2 (zc_op (nI k))) ∧
    (30 ≤ nI k → zq_wr (zc_op (nI k)) ∧ ¬ zc_op (nI k) = 13 ∧ ¬ zc_op (nI k) = 14 ∧ ¬ zc_op (nI k) = 15 ∧ ¬ zc_op (nI k) = 19) := by
  have hp := zs_pli ho h2 h3 h68 h69 h0 h1
  exact ⟨zs_tb1 k hk hp, zs_tb2 k hk hp, zs_tb3 k hk hp, fun h => ⟨zs_tb4 k hk hp h, zs_tb5 k hk hp h⟩⟩
theorem zs_tc (k : Nat) (hk : k < 121) (ho : zt_ok (nI k)) (h2 : ¬ nI k = 2) (h3 : ¬ nI k = 3) (h68 : ¬ nI k = 68) (h69 : ¬ nI k = 69) (h0 : ¬ nI k = 0) (h1 : ¬ nI k = 1) (h30 : ¬ 30 ≤ nI k) :
    (zt_pt (nI k) = 2 → zc_op (nI k) = 13 ∧ ¬ 10 ≤ nI k) ∧ (zt_pt (nI k) = 1 → ¬ 10 ≤ nI k → zc_op (nI k) = 14) ∧
    (zt_pt (nI k) = 1 → 10 ≤ nI k → zc_op (nI k) = 2 ∧ ¬ 16 ≤ nI k ∧ (nI k - 10).toNatClampNeg < 6) := by
  have hp := zs_pli ho h2 h3 h68 h69 h0 h1
  exact ⟨zs_tc1 k hk hp h30, zs_tc2 k hk hp h30, fun p q => ⟨zs_tc3 k hk hp h30 p q, fun r => h30 (zs_tc4 k hk hp p r), zs_tc5 k hk hp h30 p q⟩⟩
theorem zs_td : ∀ k, k < 121 → zt_ok (nI k) → (30 ≤ nI k → nI k ≤ 35 → (nI k - 30).toNatClampNeg < 6) ∧ (16 ≤ nI k → nI k ≤ 21 → (nI k - 16).toNatClampNeg < 6) := by decide +kernel
def zs_pl2 (t : Int32) : Bool := decide (zt_ok t) && (!decide (t = 2) && (!decide (t = 3) && (!decide (t = 0) && !decide (t = 1))))
theorem zs_te1 : ∀ k, k < 121 → zs_pl2 (nI k) = true → ¬ zt_pt (nI k) = 0 → zt_kp (nI k) 0 = 1 ∧ zt_kp (nI k) 1 = 1 := by decide +kernel
theorem zs_te (k : Nat) (hk : k < 121) (ho : zt_ok (nI k)) (h2 : ¬ nI k = 2) (h3 : ¬ nI k = 3) (h1 : ¬ nI k = 1) (h0 : ¬ nI k = 0) (h : ¬ zt_pt (nI k) = 0) :
    zt_kp (nI k) 0 = 1 ∧ zt_kp (nI k) 1 = 1 := by
  refine zs_te1 k hk ?_ h
  unfold zs_pl2
  simp only [ho, h2, h3, h0, h1, decide_true, decide_false, Bool.not_false, Bool.and_self]
def zs_out (g : Nat) (I : ty_V) (n : Nat) (op tg fi se : ty_V) (c : Nat) (tk : ty_V) (e : Nat → Nat) (m a b : Nat) (V : ty_V) (D : ty_D) (vr : ty_V) : Prop :=
  (∃ V' D' vr' r, (zs_ok g D' ∧ D.2.1 ≤ D'.2.1 ∧ (∀ v, v < 6 → V' v = vr' v) ∧ (∀ k, 6 ≤ k → (k < 6 + m ∨ 6 + e m ≤ k) → V' k = V k) ∧
      (zt_kd (tk m) = 1 → V' (6 + m) = r ∧ D' = D ∧ vr' = vr)) ∧
    (∀ R bb, zs_X g I n op tg fi se R bb b V' D' → zs_X g I n op tg fi se R (bb + (D'.2.1 - D.2.1)) a V D) ∧
    (∀ (post : Int32 → SY → Prop) (yop : Int32) (ymi : ty_V) er ct va dp, ct + 2 * (e m - m) + 2 ≤ 600 → dp + (e m - m) ≤ 200 → er ct = nI (8 * m) →
      (∀ er' va' : ty_V, (∀ j, j < ct → er' j = er j) → (∀ j, j < dp → va' j = va j) → (zt_kd (tk m) = 1 → va' dp = r) →
        zy_R post c g yop tk I ymi er' ct va' (if zt_kd (tk m) = 1 then dp + 1 else dp) 0 D' vr') → zy_R post c g yop tk I ymi er (ct + 1) va dp 0 D vr)) ∨
  (∃ st V' D' vr', (¬ st = 0 ∧ zs_ok g D' ∧ D.2.1 ≤ D'.2.1 ∧ (∀ v, v < 6 → V' v = vr' v)) ∧
    (∀ R, zq_fin R V' D' st → zs_X g I n op tg fi se R (D'.2.1 - D.2.1) a V D) ∧
    (∀ (post : Int32 → SY → Prop) (yop : Int32) (ymi : ty_V) er ct va dp, ct + 2 * (e m - m) + 2 ≤ 600 → dp + (e m - m) ≤ 200 → er ct = nI (8 * m) →
      (∀ er' ct' va' dp', zy_R post c g yop tk I ymi er' ct' va' dp' st D' vr') → zy_R post c g yop tk I ymi er (ct + 1) va dp 0 D vr))
def zs_IH (g : Nat) (I : ty_V) (n : Nat) (op tg fi se : ty_V) (c : Nat) (tk : ty_V) (e : Nat → Nat) (M : Nat) : Prop :=
  ∀ f m a b V D vr, (100 - D.2.1) * 100 + (e m - m) < M → m < c → b ≤ n → zc_lay tk e op tg fi se f m a b → (∀ v, v < 6 → V v = vr v) → zs_ok g D →
    zs_out g I n op tg fi se c tk e m a b V D vr
section
variable {g : Nat} {I : ty_V} {n : Nat} {op tg fi se : ty_V} {c : Nat} {tk : ty_V} {e : Nat → Nat} {M f m a b : Nat} {V : ty_V} {D : ty_D} {vr : ty_V}
theorem zs_kd1 {t : Int32} (h : 30 ≤ t) : zt_kd t = 1 := if_pos h
theorem zs_kd0 {t : Int32} (h : ¬ 30 ≤ t) : zt_kd t = 0 := if_neg h
theorem zs_k1n {t : Int32} (h : zt_kd t = 1) : 30 ≤ t := by
  by_cases h1 : 30 ≤ t
  · exact h1
  · rw [zs_kd0 h1] at h; exact absurd h (by decide)
theorem zs_c_skip (H : zy_H tk c e g) (hm : m < c) (hb : b ≤ n) (hl : b = a) (ht : tk m = 0) (hV : ∀ v, v < 6 → V v = vr v) (hD : zs_ok g D) :
    zs_out g I n op tg fi se c tk e m a b V D vr := by
  have hk : ¬ zt_kd (tk m) = 1 := by rw [ht]; decide
  subst hl
  refine Or.inl ⟨V, D, vr, 0, ⟨hD, Nat.le_refl _, hV, fun _ _ _ => rfl, fun h => absurd h hk⟩, fun R bb h => zs_mn h (by omega), ?_⟩
  intro post yop ymi er ct va dp hc hd he hf
  have h1 := hf er va (fun _ _ => rfl) (fun _ _ => rfl) (fun h => absurd h hk)
  rw [if_neg hk] at h1
  exact zy_skp H hD hm (by omega) he ht h1
/-- tokens with no parts -/
theorem zs_c_p0 (H : zy_H tk c e g) (hm : m < c) (hb : a + 1 ≤ n) (hp : zt_pt (tk m) = 0) (h0 : ¬ tk m = 0) (h1 : ¬ tk m = 1) (h2 : ¬ tk m = 2) (h3 : ¬ tk m = 3)
    (h68 : ¬ tk m = 68) (h69 : ¬ tk m = 69) (hl : zc_ins op tg fi se a (zc_op (tk m)) (zc_tg (tk m) m) (zc_fi (tk m) (m + 1)) (zc_se (tk m) (e (m + 1))))
    (hV : ∀ v, v < 6 → V v = vr v) (hD : zs_ok g D) :
    zs_out g I n op tg fi se c tk e m a (a + 1) V D vr := by
  have hok := H.2.1 m hm
  obtain ⟨k, hk, ek⟩ := zs_okn hok
  obtain ⟨em1, em2, em3, em4⟩ := H.1 m (Nat.zero_le _) hm
  have hc90 : c ≤ 90 := H.2.2.1
  have ha := zs_ta k hk (ek ▸ hok) (ek ▸ h2) (ek ▸ h3) (ek ▸ h68) (ek ▸ h69) (ek ▸ h0) (ek ▸ h1)
  have htd := zs_td k hk (ek ▸ hok)
  rw [← ek] at ha htd
  have hcl : (nI (6 + m)).toNatClampNeg = 6 + m := nI_clamp (by omega)
  rcases ha.2.1 hp with ht | ht | ht
  · -- a constant
    have h30 : 30 ≤ tk m := Int32.le_trans (by decide) ht
    have e1 : zc_op (tk m) = 1 := if_pos ht
    have e2 : zc_tg (tk m) m = nI (6 + m) := if_pos h30
    have e3 : zc_fi (tk m) (m + 1) = tk m - 100 := if_pos ht
    rw [e1, e2, e3] at hl
    refine Or.inl ⟨upd V (6 + m) (tk m - 100), D, vr, tk m - 100, ⟨hD, Nat.le_refl _, ?_, ?_, fun _ => ⟨zq_us, rfl, rfl⟩⟩, ?_, ?_⟩
    · intro v hv; rw [zq_un (by omega)]; exact hV v hv
    · intro v hv hv2; rw [zq_un (by omega)]
    · intro R bb h
      refine zs_mn (bb := bb) (zs_stp (by omega) hl (by decide) (by simp [zq_end]) ?_) (by omega)
      have ew : ∀ r, zq_w 1 (nI (6 + m)) r V = upd V (6 + m) r := by intro r; rw [zq_w, if_pos (by decide), hcl]
      rw [ew]
      have er : zq_res I 1 (zq_x 1 (tk m - 100) V) (zq_y 1 (zc_se (tk m) (e (m + 1))) V) D = tk m - 100 := by simp [zq_res, zq_val, zq_x, zq_r1]
      have ee : ∀ x y, zq_eff 1 x y D = D := by intro x y; simp [zq_eff]
      rw [er, ee]; exact h
    · intro post yop ymi er ct va dp hc hd he hf
      refine zy_con H hD hm (by omega) (by omega) he ht ?_
      have := hf er (upd va dp (tk m - 100)) (fun _ _ => rfl) (fun j hj => zq_un (by omega)) (fun _ => zq_us)
      rw [if_pos (zs_kd1 h30)] at this; exact this
  · -- a variable
    have h30 : 30 ≤ tk m := ht.1
    have n80 : ¬ 80 ≤ tk m := fun h => absurd (Int32.le_trans h ht.2) (by decide)
    have n61 : ¬ 61 ≤ tk m := fun h => absurd (Int32.le_trans h ht.2) (by decide)
    have nn : ∀ c : Int32, 35 < c → ¬ tk m = c := fun c hc h => absurd (h ▸ ht.2) (Int32.not_le.mpr hc)
    have e1 : zc_op (tk m) = 2 := by simp only [zc_op]; rw [if_neg n80, if_neg (nn 70 (by decide)), if_neg (nn 71 (by decide)), if_neg (nn 72 (by decide)), if_neg n61, if_pos h30]
    have e2 : zc_tg (tk m) m = nI (6 + m) := if_pos h30
    have e3 : zc_fi (tk m) (m + 1) = tk m - 30 := by simp only [zc_fi]; rw [if_neg n80, if_neg n61, if_pos h30]
    have h6 := htd.1 ht.1 ht.2
    rw [e1, e2, e3] at hl
    refine Or.inl ⟨upd V (6 + m) (V (tk m - 30).toNatClampNeg), D, vr, V (tk m - 30).toNatClampNeg, ⟨hD, Nat.le_refl _, ?_, ?_, fun _ => ⟨zq_us, rfl, rfl⟩⟩, ?_, ?_⟩
    · intro v hv; rw [zq_un (by omega)]; exact hV v hv
    · intro v hv hv2; rw [zq_un (by omega)]
    · intro R bb h
      refine zs_mn (bb := bb) (zs_stp (by omega) hl (by decide) (by simp [zq_end]) ?_) (by omega)
      have ew : ∀ r, zq_w 2 (nI (6 + m)) r V = upd V (6 + m) r := by intro r; rw [zq_w, if_pos (by decide), hcl]
      have er : ∀ y, zq_res I 2 (zq_x 2 (tk m - 30) V) y D = V (tk m - 30).toNatClampNeg := by
        intro y
        have : zq_x 2 (tk m - 30) V = V (tk m - 30).toNatClampNeg := if_pos (by decide)
        rw [this]; simp [zq_res, zq_val]
      have ee : ∀ x y, zq_eff 2 x y D = D := by intro x y; simp [zq_eff]
      rw [ew, er, ee]; exact h
    · intro post yop ymi er ct va dp hc hd he hf
      refine zy_var H hD hm (by omega) (by omega) he ht ?_
      rw [← hV _ h6]
      have := hf er (upd va dp (V (tk m - 30).toNatClampNeg)) (fun _ _ => rfl) (fun j hj => zq_un (by omega)) (fun _ => zq_us)
      rw [if_pos (zs_kd1 h30)] at this; exact this
  · -- reading
    have n30 : ¬ 30 ≤ tk m := fun h => absurd (Int32.le_trans h ht.2) (by decide)
    have n80 : ¬ 80 ≤ tk m := fun h => absurd (Int32.le_trans h ht.2) (by decide)
    have n61 : ¬ 61 ≤ tk m := fun h => absurd (Int32.le_trans h ht.2) (by decide)
    have nn : ∀ c : Int32, 21 < c → ¬ tk m = c := fun c hc h => absurd (h ▸ ht.2) (Int32.not_le.mpr hc)
    have e1 : zc_op (tk m) = 15 := by simp only [zc_op]; rw [if_neg n80, if_neg (nn 70 (by decide)), if_neg (nn 71 (by decide)), if_neg (nn 72 (by decide)), if_neg n61, if_neg n30, if_pos ht.1]
    have e2 : zc_tg (tk m) m = tk m - 16 := by simp only [zc_tg]; rw [if_neg n30, if_pos ht.1]
    have hk0 : ¬ zt_kd (tk m) = 1 := by rw [zs_kd0 n30]; decide
    have h6 := htd.2 ht.1 ht.2
    rw [e1, e2] at hl
    by_cases hr : D.2.2.1 < g
    · refine Or.inl ⟨upd V (tk m - 16).toNatClampNeg (I D.2.2.1), (D.1, D.2.1, D.2.2.1 + 1, D.2.2.2), upd vr (tk m - 16).toNatClampNeg (I D.2.2.1), 0,
        ⟨⟨hD.1, by show D.2.2.1 + 1 ≤ g; omega, hD.2.2⟩, Nat.le_refl _, ?_, ?_, fun h => absurd h hk0⟩, ?_, ?_⟩
      · intro v hv
        by_cases ev : v = (tk m - 16).toNatClampNeg
        · rw [ev, zq_us, zq_us]
        · rw [zq_un ev, zq_un ev]; exact hV v hv
      · intro v hv hv2; rw [zq_un (by omega)]
      · intro R bb h
        have hend : ∀ x y, zq_end g 15 x y D = 0 := by intro x y; simp [zq_end]; omega
        refine zs_mn (bb := bb) (zs_stp (by omega) hl (by decide) (hend _ _) ?_) (by omega)
        have ew : ∀ r, zq_w 15 (tk m - 16) r V = upd V (tk m - 16).toNatClampNeg r := by intro r; rw [zq_w, if_pos (by decide)]
        have er : ∀ x y, zq_res I 15 x y D = I D.2.2.1 := by intro x y; simp [zq_res]
        have ee : ∀ x y, zq_eff 15 x y D = (D.1, D.2.1, D.2.2.1 + 1, D.2.2.2) := by intro x y; simp [zq_eff]
        rw [ew, er, ee]; exact h
      · intro post yop ymi er ct va dp hc hd he hf
        refine zy_rd H hD hm (by omega) he ht (fun _ => ?_) (fun h => by omega)
        have := hf er va (fun _ _ => rfl) (fun j hj => rfl) (fun h => absurd h hk0)
        rw [if_neg hk0] at this; exact this
    · refine Or.inr ⟨3, V, D, vr, ⟨by decide, hD, Nat.le_refl _, hV⟩, ?_, ?_⟩
      · intro R h
        have hend : ∀ x y, zq_end g 15 x y D = 3 := by intro x y; simp [zq_end]; omega
        refine zs_end (by omega) hl (by decide) (by rw [hend]; decide) ?_
        rw [hend]; exact h
      · intro post yop ymi er ct va dp hc hd he hf
        exact zy_rd H hD hm (by omega) he ht (fun h => absurd h hr) (fun _ => hf _ _ _ _)
end
end
section
section
variable {g : Nat} {I : ty_V} {n : Nat} {op tg fi se : ty_V} {c : Nat} {tk : ty_V} {e : Nat → Nat} {M f m a b : Nat} {V : ty_V} {D : ty_D} {vr : ty_V}
theorem zs_n4 {o x y : Int32} {D : ty_D} (h : ¬ o = 13 ∧ ¬ o = 14 ∧ ¬ o = 15 ∧ ¬ o = 19) : zq_eff o x y D = D := by
  simp [zq_eff, h.1, h.2.1, h.2.2.1, h.2.2.2]
theorem zs_fic {t : Int32} {k : Nat} (h : ¬ 80 ≤ t ∧ (61 ≤ t ∨ (¬ 61 ≤ t ∧ ¬ 30 ≤ t ∧ ¬ 16 ≤ t))) : zc_fi t k = nI (6 + k) := by
  unfold zc_fi
  rw [if_neg h.1]
  rcases h.2 with h2 | ⟨h2, h3, h4⟩
  · rw [if_pos h2]
  · rw [if_neg h2, if_neg h3, if_neg h4]
/-- tokens with one part -/
theorem zs_c_p1 {d : Nat} (H : zy_H tk c e g) (hm : m < c) (ih : zs_IH g I n op tg fi se c tk e ((100 - D.2.1) * 100 + (e m - m))) (hb : d + 1 ≤ n) (hp : zt_pt (tk m) = 1)
    (h0 : ¬ tk m = 0) (h1 : ¬ tk m = 1) (h2 : ¬ tk m = 2) (h3 : ¬ tk m = 3)
    (h68 : ¬ tk m = 68) (h69 : ¬ tk m = 69) (hl1 : zc_lay tk e op tg fi se f (m + 1) a d)
    (hl : zc_ins op tg fi se d (zc_op (tk m)) (zc_tg (tk m) m) (zc_fi (tk m) (m + 1)) (zc_se (tk m) (e (m + 1))))
    (hV : ∀ v, v < 6 → V v = vr v) (hD : zs_ok g D) :
    zs_out g I n op tg fi se c tk e m a (d + 1) V D vr := by
  have hok := H.2.1 m hm
  obtain ⟨k, hk, ek⟩ := zs_okn hok
  obtain ⟨em1, em2, em3, em4⟩ := H.1 m (Nat.zero_le _) hm
  have hc90 : c ≤ 90 := H.2.2.1
  have ha := zs_ta k hk (ek ▸ hok) (ek ▸ h2) (ek ▸ h3) (ek ▸ h68) (ek ▸ h69) (ek ▸ h0) (ek ▸ h1)
  have htb := zs_tb k hk (ek ▸ hok) (ek ▸ h2) (ek ▸ h3) (ek ▸ h68) (ek ▸ h69) (ek ▸ h0) (ek ▸ h1)
  have htc := zs_tc k hk (ek ▸ hok) (ek ▸ h2) (ek ▸ h3) (ek ▸ h68) (ek ▸ h69) (ek ▸ h0) (ek ▸ h1)
  have hte := zs_te k hk (ek ▸ hok) (ek ▸ h2) (ek ▸ h3) (ek ▸ h1) (ek ▸ h0)
  rw [← ek] at ha htb htc hte
  have np : ¬ zt_pt (tk m) = 0 := by omega
  obtain ⟨q1, q2⟩ := em4 0 (by omega)
  rw [(hte np).1] at q2
  have q1 : m + 1 < c := q1
  have q2 : zt_kd (tk (m + 1)) = 1 := q2
  have q3 : e m = e (m + 1) := by rw [em3, hp]; rfl
  obtain ⟨em5, em6, _, _⟩ := H.1 (m + 1) (Nat.zero_le _) q1
  have hcl : (nI (6 + m)).toNatClampNeg = 6 + m := nI_clamp (by omega)
  have hcl1 : (nI (6 + (m + 1))).toNatClampNeg = 6 + (m + 1) := nI_clamp (by omega)
  have hx : ∀ W : ty_V, zq_x (zc_op (tk m)) (zc_fi (tk m) (m + 1)) W = W (6 + (m + 1)) := by
    intro W
    rw [zs_fic (ha.2.2 np).2, zq_x, if_pos (ha.2.2 np).1, hcl1]
  have hy : ∀ s (W : ty_V), zq_y (zc_op (tk m)) s W = 0 := fun s W => if_neg (htb.2.1 hp)
  rcases ih f (m + 1) a d V D vr (by omega) q1 (by omega) hl1 hV hD with ⟨V1, D1, vr1, x, ⟨g1, g2, g3, g4, g5⟩, gX, gY⟩ | ⟨st, V1, D1, vr1, ⟨g1, g2, g3, g4⟩, gX, gY⟩
  · obtain ⟨g6, rfl, rfl⟩ := g5 q2
    have hxv : zq_x (zc_op (tk m)) (zc_fi (tk m) (m + 1)) V1 = x := (hx V1).trans g6
    by_cases hend : zq_end g (zc_op (tk m)) x 0 D1 = 0
    · refine Or.inl ⟨zq_w (zc_op (tk m)) (zc_tg (tk m) m) (zq_res I (zc_op (tk m)) x 0 D1) V1, zq_eff (zc_op (tk m)) x 0 D1,
        (if 30 ≤ tk m then vr1 else if 10 ≤ tk m then upd vr1 (tk m - 10).toNatClampNeg x else vr1), zq_res I (zc_op (tk m)) x 0 D1, ⟨?_, ?_, ?_, ?_, ?_⟩, ?_, ?_⟩
      · by_cases h30 : 30 ≤ tk m
        · rw [zs_n4 (htb.2.2.2 h30).2]; exact g1
        · by_cases h10 : 10 ≤ tk m
          · rw [((htc h30).2.2 hp h10).1]; exact g1
          · rw [(htc h30).2.1 hp h10] at hend ⊢
            have h20 : D1.2.2.2.1 < 20 := by
              apply Classical.byContradiction
              intro h
              simp [zq_end] at hend; omega
            refine ⟨g1.1, g1.2.1, ?_⟩
            show D1.2.2.2.1 + 1 ≤ 20
            omega
      · by_cases h30 : 30 ≤ tk m
        · rw [zs_n4 (htb.2.2.2 h30).2]; exact Nat.le_refl _
        · by_cases h10 : 10 ≤ tk m
          · rw [((htc h30).2.2 hp h10).1]; exact Nat.le_refl _
          · rw [(htc h30).2.1 hp h10]; exact Nat.le_refl _
      · intro v hv
        by_cases h30 : 30 ≤ tk m
        · rw [if_pos h30, zq_w, if_pos (htb.2.2.2 h30).1, zc_tg, if_pos h30, hcl, zq_un (by omega)]; exact g3 v hv
        · rw [if_neg h30]
          by_cases h10 : 10 ≤ tk m
          · obtain ⟨a1, a2, a3⟩ := (htc h30).2.2 hp h10
            rw [if_pos h10, zq_w, a1, if_pos (by decide), zc_tg, if_neg h30, if_neg a2, if_pos h10]
            have er : zq_res I 2 x 0 D1 = x := by simp [zq_res, zq_val]
            rw [er]
            by_cases ev : v = (tk m - 10).toNatClampNeg
            · rw [ev, zq_us, zq_us]
            · rw [zq_un ev, zq_un ev]; exact g3 v hv
          · rw [if_neg h10, zq_w, (htc h30).2.1 hp h10, if_neg (by decide)]; exact g3 v hv
      · intro v hv hv2
        rw [← g4 v hv (by omega)]
        by_cases h30 : 30 ≤ tk m
        · rw [zq_w, if_pos (htb.2.2.2 h30).1, zc_tg, if_pos h30, hcl, zq_un (by omega)]
        · by_cases h10 : 10 ≤ tk m
          · obtain ⟨a1, a2, a3⟩ := (htc h30).2.2 hp h10
            rw [zq_w, a1, if_pos (by decide), zc_tg, if_neg h30, if_neg a2, if_pos h10, zq_un (by omega)]
          · rw [zq_w, (htc h30).2.1 hp h10, if_neg (by decide)]
      · intro hkd
        have h30 := zs_k1n hkd
        rw [if_pos h30, zs_n4 (htb.2.2.2 h30).2, zq_w, if_pos (htb.2.2.2 h30).1, zc_tg, if_pos h30, hcl, zq_us]
        exact ⟨rfl, rfl, rfl⟩
      · intro R bb h
        have h7 : zs_X g I n op tg fi se R bb d V1 D1 := by
          refine zs_stp (by omega) hl ha.1 ?_ ?_
          · rw [hxv, hy]; exact hend
          · rw [hxv, hy]; exact h
        have ht : (zq_eff (zc_op (tk m)) x 0 D1).2.1 = D1.2.1 := by
          by_cases h30 : 30 ≤ tk m
          · rw [zs_n4 (htb.2.2.2 h30).2]
          · by_cases h10 : 10 ≤ tk m
            · rw [((htc h30).2.2 hp h10).1]; rfl
            · rw [(htc h30).2.1 hp h10]; rfl
        rw [ht]
        exact gX R bb h7
      · intro post yop ymi er ct va dp hc hd he hf
        refine zy_p1 H g1 hm (by omega) he hp ?_
        refine gY _ _ _ _ (ct + 1) va dp (by omega) (by omega) zq_us ?_
        intro er1 va1 r1 r2 r3
        rw [if_pos q2]
        have r3 := r3 q2
        refine zy_f1 H g1 hm (by omega) (by omega) (by rw [r1 ct (by omega), zq_un (by omega), zq_us]) hp ?_ ?_ ?_
        · intro h; rw [r3] at h; exact absurd hend h
        · intro _ hkd
          have h30 := zs_k1n hkd
          have := hf er1 (upd va1 dp (zq_res I (zc_op (tk m)) x 0 D1)) (fun j hj => by rw [r1 j (by omega), zq_un (by omega), zq_un (by omega)])
            (fun j hj => by rw [zq_un (by omega)]; exact r2 j hj) (fun _ => zq_us)
          rw [if_pos hkd, if_pos h30, zs_n4 (htb.2.2.2 h30).2] at this
          rw [r3]; exact this
        · intro _ hkd
          have h30 : ¬ 30 ≤ tk m := fun h => by rw [zs_kd1 h] at hkd; exact absurd hkd (by decide)
          have hkn : ¬ zt_kd (tk m) = 1 := by rw [hkd]; decide
          have := hf er1 va1 (fun j hj => by rw [r1 j (by omega), zq_un (by omega), zq_un (by omega)]) (fun j hj => r2 j hj) (fun h => absurd h hkn)
          rw [if_neg hkn, if_neg h30] at this
          rw [r3]; exact this
    · refine Or.inr ⟨zq_end g (zc_op (tk m)) x 0 D1, V1, D1, vr1, ⟨hend, g1, Nat.le_refl _, g3⟩, ?_, ?_⟩
      · intro R h
        have h7 : zs_X g I n op tg fi se R 0 d V1 D1 := by
          refine zs_end (by omega) hl ha.1 ?_ ?_
          · rw [hxv, hy]; exact hend
          · rw [hxv, hy]; exact h
        have := gX R 0 h7
        exact zs_mn this (by omega)
      · intro post yop ymi er ct va dp hc hd he hf
        refine zy_p1 H g1 hm (by omega) he hp ?_
        refine gY _ _ _ _ (ct + 1) va dp (by omega) (by omega) zq_us ?_
        intro er1 va1 r1 r2 r3
        rw [if_pos q2]
        have r3 := r3 q2
        refine zy_f1 H g1 hm (by omega) (by omega) (by rw [r1 ct (by omega), zq_un (by omega), zq_us]) hp ?_ ?_ ?_
        · intro _; rw [r3]; exact hf _ _ _ _
        · intro h; rw [r3] at h; exact absurd h hend
        · intro h; rw [r3] at h; exact absurd h hend
  · refine Or.inr ⟨st, V1, D1, vr1, ⟨g1, g2, g3, g4⟩, gX, ?_⟩
    intro post yop ymi er ct va dp hc hd he hf
    refine zy_p1 H hD hm (by omega) he hp ?_
    exact gY _ _ _ _ (ct + 1) va dp (by omega) (by omega) zq_us hf
/-- tokens with two parts, worked out one after the other -/
theorem zs_c_p2 {d d2 : Nat} (H : zy_H tk c e g) (hm : m < c) (ih : zs_IH g I n op tg fi se c tk e ((100 - D.2.1) * 100 + (e m - m))) (hb : d2 + 1 ≤ n) (hp : zt_pt (tk m) = 2)
    (h0 : ¬ tk m = 0) (h1 : ¬ tk m = 1) (h2 : ¬ tk m = 2) (h3 : ¬ tk m = 3)
    (h68 : ¬ tk m = 68) (h69 : ¬ tk m = 69) (hl1 : zc_lay tk e op tg fi se f (m + 1) a d) (hl2 : zc_lay tk e op tg fi se f (e (m + 1)) d d2)
    (hl : zc_ins op tg fi se d2 (zc_op (tk m)) (zc_tg (tk m) m) (zc_fi (tk m) (m + 1)) (zc_se (tk m) (e (m + 1))))
    (hV : ∀ v, v < 6 → V v = vr v) (hD : zs_ok g D) :
    zs_out g I n op tg fi se c tk e m a (d2 + 1) V D vr := by
  have hok := H.2.1 m hm
  obtain ⟨k, hk, ek⟩ := zs_okn hok
  obtain ⟨em1, em2, em3, em4⟩ := H.1 m (Nat.zero_le _) hm
  have hc90 : c ≤ 90 := H.2.2.1
  have ha := zs_ta k hk (ek ▸ hok) (ek ▸ h2) (ek ▸ h3) (ek ▸ h68) (ek ▸ h69) (ek ▸ h0) (ek ▸ h1)
  have htb := zs_tb k hk (ek ▸ hok) (ek ▸ h2) (ek ▸ h3) (ek ▸ h68) (ek ▸ h69) (ek ▸ h0) (ek ▸ h1)
  have htc := zs_tc k hk (ek ▸ hok) (ek ▸ h2) (ek ▸ h3) (ek ▸ h68) (ek ▸ h69) (ek ▸ h0) (ek ▸ h1)
  have hte := zs_te k hk (ek ▸ hok) (ek ▸ h2) (ek ▸ h3) (ek ▸ h1) (ek ▸ h0)
  rw [← ek] at ha htb htc hte
  have np : ¬ zt_pt (tk m) = 0 := by omega
  obtain ⟨q1, q2⟩ := em4 0 (by omega)
  obtain ⟨q4, q5⟩ := em4 1 (by omega)
  rw [(hte np).1] at q2
  rw [(hte np).2] at q5
  have q1 : m + 1 < c := q1
  have q2 : zt_kd (tk (m + 1)) = 1 := q2
  have q4 : e (m + 1) < c := q4
  have q5 : zt_kd (tk (e (m + 1))) = 1 := q5
  have q3 : e m = e (e (m + 1)) := by rw [em3, hp]; rfl
  obtain ⟨em5, em6, _, _⟩ := H.1 (m + 1) (Nat.zero_le _) q1
  obtain ⟨em7, em8, _, _⟩ := H.1 (e (m + 1)) (Nat.zero_le _) q4
  have hle := zc_le _ _ _ _ hl2
  have hcl : (nI (6 + m)).toNatClampNeg = 6 + m := nI_clamp (by omega)
  have hcl1 : (nI (6 + (m + 1))).toNatClampNeg = 6 + (m + 1) := nI_clamp (by omega)
  have hcl2 : (nI (6 + e (m + 1))).toNatClampNeg = 6 + e (m + 1) := nI_clamp (by omega)
  have hx : ∀ W : ty_V, zq_x (zc_op (tk m)) (zc_fi (tk m) (m + 1)) W = W (6 + (m + 1)) := by
    intro W
    rw [zs_fic (ha.2.2 np).2, zq_x, if_pos (ha.2.2 np).1, hcl1]
  have hy : ∀ (W : ty_V), zq_y (zc_op (tk m)) (zc_se (tk m) (e (m + 1))) W = W (6 + e (m + 1)) := by
    intro W
    rw [zq_y, if_pos (htb.2.2.1 hp), zc_se, if_pos hp, hcl2]
  rcases ih f (m + 1) a d V D vr (by omega) q1 (by omega) hl1 hV hD with ⟨V1, D1, vr1, x, ⟨g1, g2, g3, g4, g5⟩, gX, gY⟩ | ⟨st, V1, D1, vr1, ⟨g1, g2, g3, g4⟩, gX, gY⟩
  · obtain ⟨g6, rfl, rfl⟩ := g5 q2
    rcases ih f (e (m + 1)) d d2 V1 D1 vr1 (by omega) q4 (by omega) hl2 g3 g1 with ⟨V2, D2, vr2, y, ⟨k1, k2, k3, k4, k5⟩, kX, kY⟩ | ⟨st, V2, D2, vr2, ⟨k1, k2, k3, k4⟩, kX, kY⟩
    · obtain ⟨k6, rfl, rfl⟩ := k5 q5
      have hxv : zq_x (zc_op (tk m)) (zc_fi (tk m) (m + 1)) V2 = x := by rw [hx, k4 _ (by omega) (by omega)]; exact g6
      have hyv : zq_y (zc_op (tk m)) (zc_se (tk m) (e (m + 1))) V2 = y := (hy V2).trans k6
      by_cases hend : zq_end g (zc_op (tk m)) x y D2 = 0
      · refine Or.inl ⟨zq_w (zc_op (tk m)) (zc_tg (tk m) m) (zq_res I (zc_op (tk m)) x y D2) V2, zq_eff (zc_op (tk m)) x y D2, vr2, zq_res I (zc_op (tk m)) x y D2, ⟨?_, ?_, ?_, ?_, ?_⟩, ?_, ?_⟩
        · by_cases h30 : 30 ≤ tk m
          · rw [zs_n4 (htb.2.2.2 h30).2]; exact g1
          · rw [((htc h30).1 hp).1]; exact g1
        · by_cases h30 : 30 ≤ tk m
          · rw [zs_n4 (htb.2.2.2 h30).2]; exact Nat.le_refl _
          · rw [((htc h30).1 hp).1]; exact Nat.le_refl _
        · intro v hv
          by_cases h30 : 30 ≤ tk m
          · rw [zq_w, if_pos (htb.2.2.2 h30).1, zc_tg, if_pos h30, hcl, zq_un (by omega)]; exact k3 v hv
          · rw [zq_w, ((htc h30).1 hp).1, if_neg (by decide)]; exact k3 v hv
        · intro v hv hv2
          rw [← g4 v hv (by omega), ← k4 v hv (by omega)]
          by_cases h30 : 30 ≤ tk m
          · rw [zq_w, if_pos (htb.2.2.2 h30).1, zc_tg, if_pos h30, hcl, zq_un (by omega)]
          · rw [zq_w, ((htc h30).1 hp).1, if_neg (by decide)]
        · intro hkd
          have h30 := zs_k1n hkd
          rw [zs_n4 (htb.2.2.2 h30).2, zq_w, if_pos (htb.2.2.2 h30).1, zc_tg, if_pos h30, hcl, zq_us]
          exact ⟨rfl, rfl, rfl⟩
        · intro R bb h
          have h7 : zs_X g I n op tg fi se R bb d2 V2 D2 := by
            refine zs_stp (by omega) hl ha.1 ?_ ?_
            · rw [hxv, hyv]; exact hend
            · rw [hxv, hyv]; exact h
          have ht : (zq_eff (zc_op (tk m)) x y D2).2.1 = D2.2.1 := by
            by_cases h30 : 30 ≤ tk m
            · rw [zs_n4 (htb.2.2.2 h30).2]
            · rw [((htc h30).1 hp).1]; rfl
          rw [ht]
          have h8 := gX R _ (kX R bb h7)
          exact zs_mn h8 (by omega)
        · intro post yop ymi er ct va dp hc hd he hf
          refine zy_p2 H g1 hm (by omega) he hp h1 h3 h68 h69 ?_
          refine gY _ _ _ _ (ct + 2) va dp (by omega) (by omega) zq_us ?_
          intro er1 va1 r1 r2 r3
          rw [if_pos q2]
          have r3 := r3 q2
          refine kY _ _ _ _ (ct + 1) va1 (dp + 1) (by omega) (by omega) (by rw [r1 (ct + 1) (by omega), zq_un (by omega), zq_us]) ?_
          intro er2 va2 s1 s2 s3
          rw [if_pos q5]
          have s3 := s3 q5
          have s4 : va2 dp = x := by rw [s2 dp (by omega)]; exact r3
          have s5 : ∀ j, j < ct → er2 j = er j := fun j hj => by rw [s1 j (by omega), r1 j (by omega), zq_un (by omega), zq_un (by omega), zq_un (by omega)]
          refine zy_f2 H g1 hm (by omega) (by omega) (by rw [s1 ct (by omega), r1 ct (by omega), zq_un (by omega), zq_un (by omega), zq_us]) hp h1 h3 h68 h69 ?_ ?_ ?_
          · intro h; rw [s3, s4] at h; exact absurd hend h
          · intro _ hkd
            have h30 := zs_k1n hkd
            have := hf er2 (upd va2 dp (zq_res I (zc_op (tk m)) x y D2)) s5 (fun j hj => by rw [zq_un (by omega), s2 j (by omega)]; exact r2 j hj) (fun _ => zq_us)
            rw [if_pos hkd, zs_n4 (htb.2.2.2 h30).2] at this
            rw [s3, s4]; exact this
          · intro _ hkd
            have hkn : ¬ zt_kd (tk m) = 1 := by rw [hkd]; decide
            have := hf er2 va2 s5 (fun j hj => by rw [s2 j (by omega)]; exact r2 j hj) (fun h => absurd h hkn)
            rw [if_neg hkn] at this
            rw [s3, s4]; exact this
      · refine Or.inr ⟨zq_end g (zc_op (tk m)) x y D2, V2, D2, vr2, ⟨hend, g1, Nat.le_refl _, k3⟩, ?_, ?_⟩
        · intro R h
          have h7 : zs_X g I n op tg fi se R 0 d2 V2 D2 := by
            refine zs_end (by omega) hl ha.1 ?_ ?_
            · rw [hxv, hyv]; exact hend
            · rw [hxv, hyv]; exact h
          exact zs_mn (gX R _ (kX R 0 h7)) (by omega)
        · intro post yop ymi er ct va dp hc hd he hf
          refine zy_p2 H g1 hm (by omega) he hp h1 h3 h68 h69 ?_
          refine gY _ _ _ _ (ct + 2) va dp (by omega) (by omega) zq_us ?_
          intro er1 va1 r1 r2 r3
          rw [if_pos q2]
          have r3 := r3 q2
          refine kY _ _ _ _ (ct + 1) va1 (dp + 1) (by omega) (by omega) (by rw [r1 (ct + 1) (by omega), zq_un (by omega), zq_us]) ?_
          intro er2 va2 s1 s2 s3
          rw [if_pos q5]
          have s3 := s3 q5
          have s4 : va2 dp = x := by rw [s2 dp (by omega)]; exact r3
          refine zy_f2 H g1 hm (by omega) (by omega) (by rw [s1 ct (by omega), r1 ct (by omega), zq_un (by omega), zq_un (by omega), zq_us]) hp h1 h3 h68 h69 ?_ ?_ ?_
          · intro _; rw [s3, s4]; exact hf _ _ _ _
          · intro h; rw [s3, s4] at h; exact absurd h hend
          · intro h; rw [s3, s4] at h; exact absurd h hend
    · refine Or.inr ⟨st, V2, D2, vr2, ⟨k1, k2, k3, k4⟩, fun R h => zs_mn (gX R _ (kX R h)) (by omega), ?_⟩
      intro post yop ymi er ct va dp hc hd he hf
      refine zy_p2 H g1 hm (by omega) he hp h1 h3 h68 h69 ?_
      refine gY _ _ _ _ (ct + 2) va dp (by omega) (by omega) zq_us ?_
      intro er1 va1 r1 r2 r3
      rw [if_pos q2]
      exact kY _ _ _ _ (ct + 1) va1 (dp + 1) (by omega) (by omega) (by rw [r1 (ct + 1) (by omega), zq_un (by omega), zq_us]) hf
  · refine Or.inr ⟨st, V1, D1, vr1, ⟨g1, g2, g3, g4⟩, gX, ?_⟩
    intro post yop ymi er ct va dp hc hd he hf
    refine zy_p2 H hD hm (by omega) he hp h1 h3 h68 h69 ?_
    exact gY _ _ _ _ (ct + 2) va dp (by omega) (by omega) zq_us hf
end
end
section
section
variable {g : Nat} {I : ty_V} {n : Nat} {op tg fi se : ty_V} {c : Nat} {tk : ty_V} {e : Nat → Nat} {M f m a b : Nat} {V : ty_V} {D : ty_D} {vr : ty_V}
theorem zs_c_seq {d : Nat} (H : zy_H tk c e g) (hm : m < c) (ih : zs_IH g I n op tg fi se c tk e ((100 - D.2.1) * 100 + (e m - m))) (hb : b ≤ n) (ht : tk m = 1)
    (hl1 : zc_lay tk e op tg fi se f (m + 1) a d) (hl2 : zc_lay tk e op tg fi se f (e (m + 1)) d b)
    (hV : ∀ v, v < 6 → V v = vr v) (hD : zs_ok g D) :
    zs_out g I n op tg fi se c tk e m a b V D vr := by
  have hc90 : c ≤ 90 := H.2.2.1
  obtain ⟨em1, em2, em3, em4⟩ := H.1 m (Nat.zero_le _) hm
  have hp : zt_pt (tk m) = 2 := by rw [ht]; decide
  obtain ⟨q1, q2⟩ := em4 0 (by omega)
  obtain ⟨q4, q5⟩ := em4 1 (by omega)
  have q2 : ¬ zt_kd (tk (m + 1)) = 1 := by rw [show m + 1 = zt_ch e m 0 from rfl, q2, ht]; decide
  have q5 : ¬ zt_kd (tk (e (m + 1))) = 1 := by rw [show e (m + 1) = zt_ch e m 1 from rfl, q5, ht]; decide
  have q1 : m + 1 < c := q1
  have q4 : e (m + 1) < c := q4
  have q3 : e m = e (e (m + 1)) := by rw [em3, hp]; rfl
  have hk : ¬ zt_kd (tk m) = 1 := by rw [ht]; decide
  obtain ⟨em5, em6, _, _⟩ := H.1 (m + 1) (Nat.zero_le _) q1
  obtain ⟨em7, em8, _, _⟩ := H.1 (e (m + 1)) (Nat.zero_le _) q4
  have hle := zc_le _ _ _ _ hl2
  have hle1 := zc_le _ _ _ _ hl1
  rcases ih f (m + 1) a d V D vr (by omega) q1 (by omega) hl1 hV hD with ⟨V1, D1, vr1, x, ⟨g1, g2, g3, g4, _⟩, gX, gY⟩ | ⟨st, V1, D1, vr1, ⟨g1, g2, g3, g4⟩, gX, gY⟩
  · rcases ih f (e (m + 1)) d b V1 D1 vr1 (by omega) q4 (by omega) hl2 g3 g1 with ⟨V2, D2, vr2, y, ⟨k1, k2, k3, k4, _⟩, kX, kY⟩ | ⟨st, V2, D2, vr2, ⟨k1, k2, k3, k4⟩, kX, kY⟩
    · refine Or.inl ⟨V2, D2, vr2, y, ⟨k1, Nat.le_trans g2 k2, k3, fun v hv hv2 => ?_, fun h => absurd h hk⟩, fun R bb h => ?_, ?_⟩
      · rw [k4 v hv (by omega), g4 v hv (by omega)]
      · exact zs_mn (gX R _ (kX R bb h)) (by omega)
      · intro post yop ymi er ct va dp hc hd he hf
        refine zy_seq H hD hm (by omega) he ht ?_
        refine gY _ _ _ _ (ct + 1) va dp (by omega) (by omega) zq_us ?_
        intro er1 va1 r1 r2 _
        rw [if_neg q2]
        refine kY _ _ _ _ ct va1 dp (by omega) (by omega) (by rw [r1 ct (by omega), zq_un (by omega), zq_us]) ?_
        intro er2 va2 s1 s2 _
        rw [if_neg q5]
        have := hf er2 va2 (fun j hj => by rw [s1 j hj, r1 j (by omega), zq_un (by omega), zq_un (by omega)]) (fun j hj => (s2 j hj).trans (r2 j hj)) (fun h => absurd h hk)
        rw [if_neg hk] at this; exact this
    · refine Or.inr ⟨st, V2, D2, vr2, ⟨k1, k2, Nat.le_trans g2 k3, k4⟩, fun R h => zs_mn (gX R _ (kX R h)) (by omega), ?_⟩
      intro post yop ymi er ct va dp hc hd he hf
      refine zy_seq H hD hm (by omega) he ht ?_
      refine gY _ _ _ _ (ct + 1) va dp (by omega) (by omega) zq_us ?_
      intro er1 va1 r1 r2 _
      rw [if_neg q2]
      exact kY _ _ _ _ ct va1 dp (by omega) (by omega) (by rw [r1 ct (by omega), zq_un (by omega), zq_us]) hf
  · refine Or.inr ⟨st, V1, D1, vr1, ⟨g1, g2, g3, g4⟩, gX, ?_⟩
    intro post yop ymi er ct va dp hc hd he hf
    refine zy_seq H hD hm (by omega) he ht ?_
    exact gY _ _ _ _ (ct + 1) va dp (by omega) (by omega) zq_us hf
theorem zs_c_if {d d2 k : Nat} (H : zy_H tk c e g) (hm : m < c) (ih : zs_IH g I n op tg fi se c tk e ((100 - D.2.1) * 100 + (e m - m))) (hb : k + 1 ≤ n) (ht : tk m = 2)
    (hl1 : zc_lay tk e op tg fi se f (m + 1) a d) (i1 : zc_ins op tg fi se d 17 (nI (2 * m)) (nI (6 + (m + 1))) 0)
    (hl2 : zc_lay tk e op tg fi se f (e (m + 1)) (d + 1) d2) (i2 : zc_ins op tg fi se d2 16 (nI (2 * m + 1)) 0 0) (i3 : zc_ins op tg fi se (d2 + 1) 20 (nI (2 * m)) 0 0)
    (hl3 : zc_lay tk e op tg fi se f (e (e (m + 1))) (d2 + 2) k) (i4 : zc_ins op tg fi se k 20 (nI (2 * m + 1)) 0 0)
    (hV : ∀ v, v < 6 → V v = vr v) (hD : zs_ok g D) :
    zs_out g I n op tg fi se c tk e m a (k + 1) V D vr := by
  have hc90 : c ≤ 90 := H.2.2.1
  obtain ⟨em1, em2, em3, em4⟩ := H.1 m (Nat.zero_le _) hm
  have hp : zt_pt (tk m) = 3 := by rw [ht]; decide
  obtain ⟨q1, q2⟩ := em4 0 (by omega)
  obtain ⟨q4, q5⟩ := em4 1 (by omega)
  obtain ⟨q6, q7⟩ := em4 2 (by omega)
  have q2 : zt_kd (tk (m + 1)) = 1 := by rw [show m + 1 = zt_ch e m 0 from rfl, q2, ht]; decide
  have q5 : ¬ zt_kd (tk (e (m + 1))) = 1 := by rw [show e (m + 1) = zt_ch e m 1 from rfl, q5, ht]; decide
  have q7 : ¬ zt_kd (tk (e (e (m + 1)))) = 1 := by rw [show e (e (m + 1)) = zt_ch e m 2 from rfl, q7, ht]; decide
  have q1 : m + 1 < c := q1
  have q4 : e (m + 1) < c := q4
  have q6 : e (e (m + 1)) < c := q6
  have q3 : e m = e (e (e (m + 1))) := by rw [em3, hp]; rfl
  have hk : ¬ zt_kd (tk m) = 1 := by rw [ht]; decide
  obtain ⟨em5, em6, _, _⟩ := H.1 (m + 1) (Nat.zero_le _) q1
  obtain ⟨em7, em8, _, _⟩ := H.1 (e (m + 1)) (Nat.zero_le _) q4
  obtain ⟨em9, em10, _, _⟩ := H.1 (e (e (m + 1))) (Nat.zero_le _) q6
  have hle1 := zc_le _ _ _ _ hl1
  have hle2 := zc_le _ _ _ _ hl2
  have hle3 := zc_le _ _ _ _ hl3
  have hcl1 : (nI (6 + (m + 1))).toNatClampNeg = 6 + (m + 1) := nI_clamp (by omega)
  have hx : ∀ W : ty_V, zq_x 17 (nI (6 + (m + 1))) W = W (6 + (m + 1)) := by intro W; rw [zq_x, if_pos (by decide), hcl1]
  rcases ih f (m + 1) a d V D vr (by omega) q1 (by omega) hl1 hV hD with ⟨V1, D1, vr1, x, ⟨g1, g2, g3, g4, g5⟩, gX, gY⟩ | ⟨st, V1, D1, vr1, ⟨g1, g2, g3, g4⟩, gX, gY⟩
  · obtain ⟨g6, rfl, rfl⟩ := g5 q2
    by_cases hx0 : x = 0
    · have htk : zq_tk 17 (zq_x 17 (nI (6 + (m + 1))) V1) := by rw [hx, g6]; exact Or.inr (Or.inl ⟨rfl, hx0⟩)
      have hX1 : ∀ R bb, zs_X g I n op tg fi se R bb (d2 + 2) V1 D1 → zs_X g I n op tg fi se R bb a V1 D1 → True := fun _ _ _ _ => trivial
      have hX2 : ∀ R bb, zs_X g I n op tg fi se R bb (d2 + 2) V1 D1 → zs_X g I n op tg fi se R bb a V D1 := by
        intro R bb h
        have h1 := zs_jf (by omega) i1 htk (q := d2 + 1) (by omega) i3 (by omega) (zs_lab (by omega) i3 h)
        exact zs_mn (gX R bb h1) (by omega)
      have hY2 : ∀ (post : Int32 → SY → Prop) (yop : Int32) (ymi : ty_V) er ct va dp, ct + 2 * (e m - m) + 2 ≤ 600 → dp + (e m - m) ≤ 200 → er ct = nI (8 * m) →
          (∀ er1 va1 : ty_V, (∀ j, j < ct → er1 j = er j) → (∀ j, j < dp → va1 j = va j) →
            zy_R post c g yop tk I ymi (upd er1 ct (nI (8 * e (e (m + 1))))) (ct + 1) va1 dp 0 D1 vr1) → zy_R post c g yop tk I ymi er (ct + 1) va dp 0 D1 vr1 := by
        intro post yop ymi er ct va dp hc hd he hf
        refine zy_bra H g1 hm (by omega) he (Or.inl ht) ?_
        refine gY _ _ _ _ (ct + 1) va dp (by omega) (by omega) zq_us ?_
        intro er1 va1 r1 r2 r3
        rw [if_pos q2]
        refine zy_if H g1 hm (by omega) (by omega) (by rw [r1 ct (by omega), zq_un (by omega), zq_us]) ht (fun h => ?_) (fun _ => ?_)
        · rw [r3 q2] at h; exact absurd hx0 h
        · exact hf er1 va1 (fun j hj => by rw [r1 j (by omega), zq_un (by omega), zq_un (by omega)]) r2
      rcases ih f (e (e (m + 1))) (d2 + 2) k V1 D1 vr1 (by omega) q6 (by omega) hl3 g3 g1 with ⟨V2, D2, vr2, y, ⟨k1, k2, k3, k4, _⟩, kX, kY⟩ | ⟨st, V2, D2, vr2, ⟨k1, k2, k3, k4⟩, kX, kY⟩
      · refine Or.inl ⟨V2, D2, vr2, y, ⟨k1, k2, k3, fun v hv hv2 => ?_, fun h => absurd h hk⟩, fun R bb h => ?_, ?_⟩
        · rw [k4 v hv (by omega), g4 v hv (by omega)]
        · exact hX2 R _ (kX R bb (zs_lab (by omega) i4 h))
        · intro post yop ymi er ct va dp hc hd he hf
          refine hY2 post yop ymi er ct va dp hc hd he ?_
          intro er1 va1 r1 r2
          refine kY _ _ _ _ ct va1 dp (by omega) (by omega) zq_us ?_
          intro er2 va2 s1 s2 _
          rw [if_neg q7]
          have := hf er2 va2 (fun j hj => by rw [s1 j hj, zq_un (by omega), r1 j hj]) (fun j hj => (s2 j hj).trans (r2 j hj)) (fun h => absurd h hk)
          rw [if_neg hk] at this; exact this
      · refine Or.inr ⟨st, V2, D2, vr2, ⟨k1, k2, k3, k4⟩, fun R h => hX2 R _ (kX R h), ?_⟩
        intro post yop ymi er ct va dp hc hd he hf
        refine hY2 post yop ymi er ct va dp hc hd he ?_
        intro er1 va1 r1 r2
        exact kY _ _ _ _ ct va1 dp (by omega) (by omega) zq_us hf
    · have htk : ¬ zq_tk 17 (zq_x 17 (nI (6 + (m + 1))) V1) := by
        rw [hx, g6]
        rintro (h | ⟨_, h⟩ | ⟨h, _⟩)
        · exact absurd h (by decide)
        · exact hx0 h
        · exact absurd h (by decide)
      have hX2 : ∀ R bb, zs_X g I n op tg fi se R bb (d + 1) V1 D1 → zs_X g I n op tg fi se R bb a V D1 := by
        intro R bb h
        exact zs_mn (gX R bb (zs_jn (by omega) i1 (Or.inl rfl) htk h)) (by omega)
      have hY2 : ∀ (post : Int32 → SY → Prop) (yop : Int32) (ymi : ty_V) er ct va dp, ct + 2 * (e m - m) + 2 ≤ 600 → dp + (e m - m) ≤ 200 → er ct = nI (8 * m) →
          (∀ er1 va1 : ty_V, (∀ j, j < ct → er1 j = er j) → (∀ j, j < dp → va1 j = va j) →
            zy_R post c g yop tk I ymi (upd er1 ct (nI (8 * e (m + 1)))) (ct + 1) va1 dp 0 D1 vr1) → zy_R post c g yop tk I ymi er (ct + 1) va dp 0 D1 vr1 := by
        intro post yop ymi er ct va dp hc hd he hf
        refine zy_bra H g1 hm (by omega) he (Or.inl ht) ?_
        refine gY _ _ _ _ (ct + 1) va dp (by omega) (by omega) zq_us ?_
        intro er1 va1 r1 r2 r3
        rw [if_pos q2]
        refine zy_if H g1 hm (by omega) (by omega) (by rw [r1 ct (by omega), zq_un (by omega), zq_us]) ht (fun _ => ?_) (fun h => ?_)
        · exact hf er1 va1 (fun j hj => by rw [r1 j (by omega), zq_un (by omega), zq_un (by omega)]) r2
        · rw [r3 q2] at h; exact absurd h hx0
      rcases ih f (e (m + 1)) (d + 1) d2 V1 D1 vr1 (by omega) q4 (by omega) hl2 g3 g1 with ⟨V2, D2, vr2, y, ⟨k1, k2, k3, k4, _⟩, kX, kY⟩ | ⟨st, V2, D2, vr2, ⟨k1, k2, k3, k4⟩, kX, kY⟩
      · refine Or.inl ⟨V2, D2, vr2, y, ⟨k1, k2, k3, fun v hv hv2 => ?_, fun h => absurd h hk⟩, fun R bb h => ?_, ?_⟩
        · rw [k4 v hv (by omega), g4 v hv (by omega)]
        · refine hX2 R _ (kX R bb ?_)
          exact zs_jf (by omega) i2 (Or.inl rfl) (q := k) (by omega) i4 (by omega) (zs_lab (by omega) i4 h)
        · intro post yop ymi er ct va dp hc hd he hf
          refine hY2 post yop ymi er ct va dp hc hd he ?_
          intro er1 va1 r1 r2
          refine kY _ _ _ _ ct va1 dp (by omega) (by omega) zq_us ?_
          intro er2 va2 s1 s2 _
          rw [if_neg q5]
          have := hf er2 va2 (fun j hj => by rw [s1 j hj, zq_un (by omega), r1 j hj]) (fun j hj => (s2 j hj).trans (r2 j hj)) (fun h => absurd h hk)
          rw [if_neg hk] at this; exact this
      · refine Or.inr ⟨st, V2, D2, vr2, ⟨k1, k2, k3, k4⟩, fun R h => hX2 R _ (kX R h), ?_⟩
        intro post yop ymi er ct va dp hc hd he hf
        refine hY2 post yop ymi er ct va dp hc hd he ?_
        intro er1 va1 r1 r2
        exact kY _ _ _ _ ct va1 dp (by omega) (by omega) zq_us hf
  · refine Or.inr ⟨st, V1, D1, vr1, ⟨g1, g2, g3, g4⟩, gX, ?_⟩
    intro post yop ymi er ct va dp hc hd he hf
    refine zy_bra H hD hm (by omega) he (Or.inl ht) ?_
    exact gY _ _ _ _ (ct + 1) va dp (by omega) (by omega) zq_us hf
theorem zs_c_wh {d d2 : Nat} (H : zy_H tk c e g) (hm : m < c) (ih : zs_IH g I n op tg fi se c tk e ((100 - D.2.1) * 100 + (e m - m))) (hb : d2 + 2 ≤ n) (ht : tk m = 3)
    (hlm : zc_lay tk e op tg fi se (f + 1) m a (d2 + 2)) (i0 : zc_ins op tg fi se a 20 (nI (2 * m)) 0 0)
    (hl1 : zc_lay tk e op tg fi se f (m + 1) (a + 1) d) (i1 : zc_ins op tg fi se d 17 (nI (2 * m + 1)) (nI (6 + (m + 1))) 0) (i2 : zc_ins op tg fi se (d + 1) 19 0 0 0)
    (hl2 : zc_lay tk e op tg fi se f (e (m + 1)) (d + 2) d2) (i3 : zc_ins op tg fi se d2 16 (nI (2 * m)) 0 0) (i4 : zc_ins op tg fi se (d2 + 1) 20 (nI (2 * m + 1)) 0 0)
    (hV : ∀ v, v < 6 → V v = vr v) (hD : zs_ok g D) :
    zs_out g I n op tg fi se c tk e m a (d2 + 2) V D vr := by
  have hc90 : c ≤ 90 := H.2.2.1
  obtain ⟨em1, em2, em3, em4⟩ := H.1 m (Nat.zero_le _) hm
  have hp : zt_pt (tk m) = 2 := by rw [ht]; decide
  obtain ⟨q1, q2⟩ := em4 0 (by omega)
  obtain ⟨q4, q5⟩ := em4 1 (by omega)
  have q2 : zt_kd (tk (m + 1)) = 1 := by rw [show m + 1 = zt_ch e m 0 from rfl, q2, ht]; decide
  have q5 : ¬ zt_kd (tk (e (m + 1))) = 1 := by rw [show e (m + 1) = zt_ch e m 1 from rfl, q5, ht]; decide
  have q1 : m + 1 < c := q1
  have q4 : e (m + 1) < c := q4
  have q3 : e m = e (e (m + 1)) := by rw [em3, hp]; rfl
  have hk : ¬ zt_kd (tk m) = 1 := by rw [ht]; decide
  obtain ⟨em5, em6, _, _⟩ := H.1 (m + 1) (Nat.zero_le _) q1
  obtain ⟨em7, em8, _, _⟩ := H.1 (e (m + 1)) (Nat.zero_le _) q4
  have hle1 := zc_le _ _ _ _ hl1
  have hle2 := zc_le _ _ _ _ hl2
  have hcl1 : (nI (6 + (m + 1))).toNatClampNeg = 6 + (m + 1) := nI_clamp (by omega)
  have hx : ∀ W : ty_V, zq_x 17 (nI (6 + (m + 1))) W = W (6 + (m + 1)) := by intro W; rw [zq_x, if_pos (by decide), hcl1]
  rcases ih f (m + 1) (a + 1) d V D vr (by omega) q1 (by omega) hl1 hV hD with ⟨V1, D1, vr1, x, ⟨g1, g2, g3, g4, g5⟩, gX, gY⟩ | ⟨st, V1, D1, vr1, ⟨g1, g2, g3, g4⟩, gX, gY⟩
  · obtain ⟨g6, rfl, rfl⟩ := g5 q2
    have gX2 : ∀ R bb, zs_X g I n op tg fi se R bb d V1 D1 → zs_X g I n op tg fi se R bb a V D1 :=
      fun R bb h => zs_lab (by omega) i0 (zs_mn (gX R bb h) (by omega))
    have gY2 : ∀ (post : Int32 → SY → Prop) (yop : Int32) (ymi : ty_V) er ct va dp, ct + 2 * (e m - m) + 2 ≤ 600 → dp + (e m - m) ≤ 200 → er ct = nI (8 * m) →
          (∀ er1 va1 : ty_V, (∀ j, j < ct → er1 j = er j) → er1 ct = nI (8 * m + 2) → (∀ j, j < dp → va1 j = va j) → va1 dp = x →
            zy_R post c g yop tk I ymi er1 (ct + 1) va1 (dp + 1) 0 D1 vr1) → zy_R post c g yop tk I ymi er (ct + 1) va dp 0 D1 vr1 := by
      intro post yop ymi er ct va dp hc hd he hf
      refine zy_bra H g1 hm (by omega) he (Or.inr (Or.inl ht)) ?_
      refine gY _ _ _ _ (ct + 1) va dp (by omega) (by omega) zq_us ?_
      intro er1 va1 r1 r2 r3
      rw [if_pos q2]
      exact hf er1 va1 (fun j hj => by rw [r1 j (by omega), zq_un (by omega), zq_un (by omega)]) (by rw [r1 ct (by omega), zq_un (by omega), zq_us]) r2 (r3 q2)
    by_cases hx0 : x = 0
    · have htk : zq_tk 17 (zq_x 17 (nI (6 + (m + 1))) V1) := by rw [hx, g6]; exact Or.inr (Or.inl ⟨rfl, hx0⟩)
      refine Or.inl ⟨V1, D1, vr1, 0, ⟨g1, Nat.le_refl _, g3, fun v hv hv2 => g4 v hv (by omega), fun h => absurd h hk⟩, fun R bb h => ?_, ?_⟩
      · have h1 := zs_jf (by omega) i1 htk (q := d2 + 1) (by omega) i4 (by omega) (zs_lab (by omega) i4 h)
        exact zs_mn (gX2 R bb h1) (by omega)
      · intro post yop ymi er ct va dp hc hd he hf
        refine gY2 post yop ymi er ct va dp hc hd he ?_
        intro er1 va1 r1 r2 r3 r4
        refine zy_wh H g1 hm (by omega) (by omega) r2 ht (fun _ => ?_) (fun h => ?_) (fun h => ?_)
        · have := hf er1 va1 r1 r3 (fun h => absurd h hk)
          rw [if_neg hk] at this; exact this
        · rw [r4] at h; exact absurd hx0 h
        · rw [r4] at h; exact absurd hx0 h
    · have htk : ¬ zq_tk 17 (zq_x 17 (nI (6 + (m + 1))) V1) := by
        rw [hx, g6]
        rintro (h | ⟨_, h⟩ | ⟨h, _⟩)
        · exact absurd h (by decide)
        · exact hx0 h
        · exact absurd h (by decide)
      by_cases h99 : D1.2.1 = 99
      · refine Or.inr ⟨5, V1, D1, vr1, ⟨by decide, g1, Nat.le_refl _, g3⟩, fun R h => ?_, ?_⟩
        · have hend : ∀ x y, zq_end g 19 x y D1 = 5 := by intro x y; simp [zq_end]; omega
          have h1 : zs_X g I n op tg fi se R 0 (d + 1) V1 D1 := zs_end (by omega) i2 (by decide) (by rw [hend]; decide) (by rw [hend]; exact h)
          exact zs_mn (gX2 R 0 (zs_jn (by omega) i1 (Or.inl rfl) htk h1)) (by omega)
        · intro post yop ymi er ct va dp hc hd he hf
          refine gY2 post yop ymi er ct va dp hc hd he ?_
          intro er1 va1 r1 r2 r3 r4
          refine zy_wh H g1 hm (by omega) (by omega) r2 ht (fun h => ?_) (fun _ _ => hf _ _ _ _) (fun _ h => by omega)
          rw [r4] at h; exact absurd h hx0
      · have hlt : D1.2.1 < 99 := by have := g1.1; omega
        have hX3 : ∀ R bb, zs_X g I n op tg fi se R bb (d + 2) V1 (D1.1, D1.2.1 + 1, D1.2.2) → zs_X g I n op tg fi se R bb a V D1 := by
          intro R bb h
          have hend : ∀ x y, zq_end g 19 x y D1 = 0 := by intro x y; simp [zq_end]; omega
          have h1 : zs_X g I n op tg fi se R bb (d + 1) V1 D1 := by
            refine zs_stp (by omega) i2 (by decide) (hend _ _) ?_
            have ew : ∀ r, zq_w 19 0 r V1 = V1 := by intro r; simp [zq_w, zq_wr]
            have ee : ∀ x y, zq_eff 19 x y D1 = (D1.1, D1.2.1 + 1, D1.2.2) := by intro x y; simp [zq_eff]
            rw [ew, ee]; exact h
          exact gX2 R bb (zs_jn (by omega) i1 (Or.inl rfl) htk h1)
        have hY3 : ∀ (post : Int32 → SY → Prop) (yop : Int32) (ymi : ty_V) er ct va dp, ct + 2 * (e m - m) + 2 ≤ 600 → dp + (e m - m) ≤ 200 → er ct = nI (8 * m) →
          (∀ er1 va1 : ty_V, (∀ j, j < ct → er1 j = er j) → (∀ j, j < dp → va1 j = va j) →
            zy_R post c g yop tk I ymi (upd (upd er1 ct (nI (8 * m))) (ct + 1) (nI (8 * e (m + 1)))) (ct + 2) va1 dp 0 (D1.1, D1.2.1 + 1, D1.2.2) vr1) → zy_R post c g yop tk I ymi er (ct + 1) va dp 0 D1 vr1 := by
          intro post yop ymi er ct va dp hc hd he hf
          refine gY2 post yop ymi er ct va dp hc hd he ?_
          intro er1 va1 r1 r2 r3 r4
          refine zy_wh H g1 hm (by omega) (by omega) r2 ht (fun h => ?_) (fun _ h => absurd h h99) (fun _ _ => hf er1 va1 r1 r3)
          rw [r4] at h; exact absurd h hx0
        have hD2 : zs_ok g (D1.1, D1.2.1 + 1, D1.2.2) := ⟨by show D1.2.1 + 1 ≤ 99; omega, g1.2.1, g1.2.2⟩
        rcases ih f (e (m + 1)) (d + 2) d2 V1 (D1.1, D1.2.1 + 1, D1.2.2) vr1 (by show (100 - (D1.2.1 + 1)) * 100 + _ < _; omega) q4 (by omega) hl2 g3 hD2 with
          ⟨V2, D2, vr2, y, ⟨k1, k2, k3, k4, _⟩, kX, kY⟩ | ⟨st, V2, D2, vr2, ⟨k1, k2, k3, k4⟩, kX, kY⟩
        · have k2 : D1.2.1 + 1 ≤ D2.2.1 := k2
          have kX : ∀ R bb, zs_X g I n op tg fi se R bb d2 V2 D2 → zs_X g I n op tg fi se R (bb + (D2.2.1 - (D1.2.1 + 1))) (d + 2) V1 (D1.1, D1.2.1 + 1, D1.2.2) := kX
          have hX4 : ∀ R bb, zs_X g I n op tg fi se R bb a V2 D2 → zs_X g I n op tg fi se R (bb + 1 + (D2.2.1 - (D1.2.1 + 1))) a V D1 :=
            fun R bb h => hX3 R _ (kX R _ (zs_jb (by omega) i3 (Or.inl rfl) i0 (by omega) h))
          have hY4 : ∀ (post : Int32 → SY → Prop) (yop : Int32) (ymi : ty_V) er ct va dp, ct + 2 * (e m - m) + 2 ≤ 600 → dp + (e m - m) ≤ 200 → er ct = nI (8 * m) →
            (∀ er1 va1 : ty_V, (∀ j, j < ct → er1 j = er j) → er1 ct = nI (8 * m) → (∀ j, j < dp → va1 j = va j) →
              zy_R post c g yop tk I ymi er1 (ct + 1) va1 dp 0 D2 vr2) → zy_R post c g yop tk I ymi er (ct + 1) va dp 0 D1 vr1 := by
            intro post yop ymi er ct va dp hc hd he hf
            refine hY3 post yop ymi er ct va dp hc hd he ?_
            intro er1 va1 r1 r2
            refine kY _ _ _ _ (ct + 1) va1 dp (by omega) (by omega) zq_us ?_
            intro er2 va2 s1 s2 _
            rw [if_neg q5]
            exact hf er2 va2 (fun j hj => by rw [s1 j (by omega), zq_un (by omega), zq_un (by omega), r1 j hj]) (by rw [s1 ct (by omega), zq_un (by omega), zq_us])
              (fun j hj => (s2 j hj).trans (r2 j hj))
          rcases ih (f + 1) m a (d2 + 2) V2 D2 vr2 (by omega) hm hb hlm k3 k1 with
            ⟨V3, D3, vr3, z, ⟨l1, l2, l3, l4, _⟩, lX, lY⟩ | ⟨st, V3, D3, vr3, ⟨l1, l2, l3, l4⟩, lX, lY⟩
          · refine Or.inl ⟨V3, D3, vr3, z, ⟨l1, by omega, l3, fun v hv hv2 => ?_, fun h => absurd h hk⟩, fun R bb h => ?_, ?_⟩
            · rw [l4 v hv (by omega), k4 v hv (by omega), g4 v hv (by omega)]
            · exact zs_mn (hX4 R _ (lX R bb h)) (by omega)
            · intro post yop ymi er ct va dp hc hd he hf
              refine hY4 post yop ymi er ct va dp hc hd he ?_
              intro er1 va1 r1 r2 r3
              refine lY _ _ _ er1 ct va1 dp hc hd r2 ?_
              intro er2 va2 s1 s2 s3
              exact hf er2 va2 (fun j hj => (s1 j hj).trans (r1 j hj)) (fun j hj => (s2 j hj).trans (r3 j hj)) s3
          · refine Or.inr ⟨st, V3, D3, vr3, ⟨l1, l2, by omega, l4⟩, fun R h => zs_mn (hX4 R _ (lX R h)) (by omega), ?_⟩
            intro post yop ymi er ct va dp hc hd he hf
            refine hY4 post yop ymi er ct va dp hc hd he ?_
            intro er1 va1 r1 r2 r3
            exact lY _ _ _ er1 ct va1 dp hc hd r2 hf
        · have k3 : D1.2.1 + 1 ≤ D2.2.1 := k3
          have kX : ∀ R, zq_fin R V2 D2 st → zs_X g I n op tg fi se R (D2.2.1 - (D1.2.1 + 1)) (d + 2) V1 (D1.1, D1.2.1 + 1, D1.2.2) := kX
          refine Or.inr ⟨st, V2, D2, vr2, ⟨k1, k2, by omega, k4⟩, fun R h => zs_mn (hX3 R _ (kX R h)) (by omega), ?_⟩
          intro post yop ymi er ct va dp hc hd he hf
          refine hY3 post yop ymi er ct va dp hc hd he ?_
          intro er1 va1 r1 r2
          exact kY _ _ _ _ (ct + 1) va1 dp (by omega) (by omega) zq_us hf
  · refine Or.inr ⟨st, V1, D1, vr1, ⟨g1, g2, g3, g4⟩, fun R h => zs_lab (by omega) i0 (gX R h), ?_⟩
    intro post yop ymi er ct va dp hc hd he hf
    refine zy_bra H hD hm (by omega) he (Or.inr (Or.inl ht)) ?_
    exact gY _ _ _ _ (ct + 1) va dp (by omega) (by omega) zq_us hf
end
end
section
section
variable {g : Nat} {I : ty_V} {n : Nat} {op tg fi se : ty_V} {c : Nat} {tk : ty_V} {e : Nat → Nat} {M f m a b : Nat} {V : ty_V} {D : ty_D} {vr : ty_V}
theorem zs_c_sh {d d2 : Nat} (H : zy_H tk c e g) (hm : m < c) (ih : zs_IH g I n op tg fi se c tk e ((100 - D.2.1) * 100 + (e m - m))) (hb : d2 + 3 ≤ n) (ht : tk m = 68 ∨ tk m = 69)
    (hl1 : zc_lay tk e op tg fi se f (m + 1) a d) (i1 : zc_ins op tg fi se d 1 (nI (6 + m)) (zc_v1 (tk m)) 0)
    (i2 : zc_ins op tg fi se (d + 1) (zc_jo (tk m)) (nI (2 * m)) (nI (6 + (m + 1))) 0)
    (hl2 : zc_lay tk e op tg fi se f (e (m + 1)) (d + 2) d2) (i3 : zc_ins op tg fi se d2 (zc_jo (tk m)) (nI (2 * m)) (nI (6 + e (m + 1))) 0)
    (i4 : zc_ins op tg fi se (d2 + 1) 1 (nI (6 + m)) (zc_v2 (tk m)) 0) (i5 : zc_ins op tg fi se (d2 + 2) 20 (nI (2 * m)) 0 0)
    (hV : ∀ v, v < 6 → V v = vr v) (hD : zs_ok g D) :
    zs_out g I n op tg fi se c tk e m a (d2 + 3) V D vr := by
  have hc90 : c ≤ 90 := H.2.2.1
  obtain ⟨em1, em2, em3, em4⟩ := H.1 m (Nat.zero_le _) hm
  have hp : zt_pt (tk m) = 2 := by rcases ht with ht | ht <;> rw [ht] <;> decide
  obtain ⟨q1, q2⟩ := em4 0 (by omega)
  obtain ⟨q4, q5⟩ := em4 1 (by omega)
  have q2 : zt_kd (tk (m + 1)) = 1 := by rw [show m + 1 = zt_ch e m 0 from rfl, q2]; rcases ht with ht | ht <;> rw [ht] <;> decide
  have q5 : zt_kd (tk (e (m + 1))) = 1 := by rw [show e (m + 1) = zt_ch e m 1 from rfl, q5]; rcases ht with ht | ht <;> rw [ht] <;> decide
  have q1 : m + 1 < c := q1
  have q4 : e (m + 1) < c := q4
  have q3 : e m = e (e (m + 1)) := by rw [em3, hp]; rfl
  have hk : zt_kd (tk m) = 1 := by rcases ht with ht | ht <;> rw [ht] <;> decide
  obtain ⟨em5, em6, _, _⟩ := H.1 (m + 1) (Nat.zero_le _) q1
  obtain ⟨em7, em8, _, _⟩ := H.1 (e (m + 1)) (Nat.zero_le _) q4
  have hle1 := zc_le _ _ _ _ hl1
  have hle2 := zc_le _ _ _ _ hl2
  have hj : zc_jo (tk m) = 17 ∨ zc_jo (tk m) = 18 := by rcases ht with ht | ht <;> rw [ht] <;> decide
  have hjr : zq_r1 (zc_jo (tk m)) := by rcases hj with h | h <;> rw [h] <;> decide
  have hcl : (nI (6 + m)).toNatClampNeg = 6 + m := nI_clamp (by omega)
  have hcl1 : (nI (6 + (m + 1))).toNatClampNeg = 6 + (m + 1) := nI_clamp (by omega)
  have hcl2 : (nI (6 + e (m + 1))).toNatClampNeg = 6 + e (m + 1) := nI_clamp (by omega)
  have hx1 : ∀ W : ty_V, zq_x (zc_jo (tk m)) (nI (6 + (m + 1))) W = W (6 + (m + 1)) := by intro W; rw [zq_x, if_pos hjr, hcl1]
  have hx2 : ∀ W : ty_V, zq_x (zc_jo (tk m)) (nI (6 + e (m + 1))) W = W (6 + e (m + 1)) := by intro W; rw [zq_x, if_pos hjr, hcl2]
  have hct : ∀ R bb p v W E, p < n → zc_ins op tg fi se p 1 (nI (6 + m)) v 0 → zs_X g I n op tg fi se R bb (p + 1) (upd W (6 + m) v) E → zs_X g I n op tg fi se R bb p W E := by
    intro R bb p v W E hp hi h
    refine zs_stp hp hi (by decide) (by simp [zq_end]) ?_
    have ew : ∀ r, zq_w 1 (nI (6 + m)) r W = upd W (6 + m) r := by intro r; rw [zq_w, if_pos (by decide), hcl]
    have er : ∀ y, zq_res I 1 (zq_x 1 v W) y E = v := by intro y; simp [zq_res, zq_val, zq_x, zq_r1]
    have ee : ∀ x y, zq_eff 1 x y E = E := by intro x y; simp [zq_eff]
    rw [ew, er, ee]; exact h
  rcases ih f (m + 1) a d V D vr (by omega) q1 (by omega) hl1 hV hD with ⟨V1, D1, vr1, x, ⟨g1, g2, g3, g4, g5⟩, gX, gY⟩ | ⟨st, V1, D1, vr1, ⟨g1, g2, g3, g4⟩, gX, gY⟩
  · obtain ⟨g6, rfl, rfl⟩ := g5 q2
    have g7 : upd V1 (6 + m) (zc_v1 (tk m)) (6 + (m + 1)) = x := by rw [zq_un (by omega)]; exact g6
    have gX2 : ∀ R bb, zs_X g I n op tg fi se R bb (d + 1) (upd V1 (6 + m) (zc_v1 (tk m))) D1 → zs_X g I n op tg fi se R bb a V D1 :=
      fun R bb h => zs_mn (gX R bb (hct R bb d _ V1 D1 (by omega) i1 h)) (by omega)
    have gY2 : ∀ (post : Int32 → SY → Prop) (yop : Int32) (ymi : ty_V) er ct va dp, ct + 2 * (e m - m) + 2 ≤ 600 → dp + (e m - m) ≤ 200 → er ct = nI (8 * m) →
          (∀ er1 va1 : ty_V, (∀ j, j < ct → er1 j = er j) → er1 ct = nI (8 * m + 2) → (∀ j, j < dp → va1 j = va j) → va1 dp = x →
            zy_R post c g yop tk I ymi er1 (ct + 1) va1 (dp + 1) 0 D1 vr1) → zy_R post c g yop tk I ymi er (ct + 1) va dp 0 D1 vr1 := by
      intro post yop ymi er ct va dp hc hd he hf
      refine zy_bra H g1 hm (by omega) he (Or.inr (Or.inr ht)) ?_
      refine gY _ _ _ _ (ct + 1) va dp (by omega) (by omega) zq_us ?_
      intro er1 va1 r1 r2 r3
      rw [if_pos q2]
      exact hf er1 va1 (fun j hj => by rw [r1 j (by omega), zq_un (by omega), zq_un (by omega)]) (by rw [r1 ct (by omega), zq_un (by omega), zq_us]) r2 (r3 q2)
    by_cases htx : zq_tk (zc_jo (tk m)) x
    · refine Or.inl ⟨upd V1 (6 + m) (zc_v1 (tk m)), D1, vr1, zc_v1 (tk m), ⟨g1, Nat.le_refl _, ?_, ?_, fun _ => ⟨zq_us, rfl, rfl⟩⟩, fun R bb h => ?_, ?_⟩
      · intro v hv; rw [zq_un (by omega)]; exact g3 v hv
      · intro v hv hv2; rw [zq_un (by omega)]; exact g4 v hv (by omega)
      · have h1 := zs_jf (by omega) i2 (V := upd V1 (6 + m) (zc_v1 (tk m))) (by rw [hx1, g7]; exact htx) (q := d2 + 2) (by omega) i5 (by omega) (zs_lab (by omega) i5 h)
        exact zs_mn (gX2 R bb h1) (by omega)
      · intro post yop ymi er ct va dp hc hd he hf
        refine gY2 post yop ymi er ct va dp hc hd he ?_
        intro er1 va1 r1 r2 r3 r4
        refine zy_sh H g1 hm (by omega) (by omega) r2 ht (fun _ => ?_) (fun h => ?_)
        · have := hf er1 (upd va1 dp (zc_v1 (tk m))) r1 (fun j hj => by rw [zq_un (by omega)]; exact r3 j hj) (fun _ => zq_us)
          rw [if_pos hk] at this; exact this
        · rw [r4] at h; exact absurd htx h
    · have gX3 : ∀ R bb, zs_X g I n op tg fi se R bb (d + 2) (upd V1 (6 + m) (zc_v1 (tk m))) D1 → zs_X g I n op tg fi se R bb a V D1 :=
        fun R bb h => gX2 R bb (zs_jn (by omega) i2 hj (by rw [hx1, g7]; exact htx) h)
      have gY3 : ∀ (post : Int32 → SY → Prop) (yop : Int32) (ymi : ty_V) er ct va dp, ct + 2 * (e m - m) + 2 ≤ 600 → dp + (e m - m) ≤ 200 → er ct = nI (8 * m) →
          (∀ er1 va1 : ty_V, (∀ j, j < ct → er1 j = er j) → (∀ j, j < dp → va1 j = va j) →
            zy_R post c g yop tk I ymi (upd (upd er1 ct (nI (8 * m + 3))) (ct + 1) (nI (8 * e (m + 1)))) (ct + 2) va1 dp 0 D1 vr1) → zy_R post c g yop tk I ymi er (ct + 1) va dp 0 D1 vr1 := by
        intro post yop ymi er ct va dp hc hd he hf
        refine gY2 post yop ymi er ct va dp hc hd he ?_
        intro er1 va1 r1 r2 r3 r4
        refine zy_sh H g1 hm (by omega) (by omega) r2 ht (fun h => ?_) (fun _ => hf er1 va1 r1 r3)
        rw [r4] at h; exact absurd h htx
      rcases ih f (e (m + 1)) (d + 2) d2 (upd V1 (6 + m) (zc_v1 (tk m))) D1 vr1 (by omega) q4 (by omega) hl2 (fun v hv => by rw [zq_un (by omega)]; exact g3 v hv) g1 with
        ⟨V2, D2, vr2, y, ⟨k1, k2, k3, k4, k5⟩, kX, kY⟩ | ⟨st, V2, D2, vr2, ⟨k1, k2, k3, k4⟩, kX, kY⟩
      · obtain ⟨k6, rfl, rfl⟩ := k5 q5
        have k7 : V2 (6 + m) = zc_v1 (tk m) := by rw [k4 _ (by omega) (by omega), zq_us]
        have hfr : ∀ v, 6 ≤ v → (v < 6 + m ∨ 6 + e m ≤ v) → V2 v = V v := by
          intro v hv hv2
          rw [k4 v hv (by omega), zq_un (by omega), g4 v hv (by omega)]
        by_cases hty : zq_tk (zc_jo (tk m)) y
        · refine Or.inl ⟨V2, D2, vr2, zc_v1 (tk m), ⟨g1, Nat.le_refl _, k3, hfr, fun _ => ⟨k7, rfl, rfl⟩⟩, fun R bb h => ?_, ?_⟩
          · have h1 := zs_jf (by omega) i3 (V := V2) (by rw [hx2, k6]; exact hty) (q := d2 + 2) (by omega) i5 (by omega) (zs_lab (by omega) i5 h)
            exact zs_mn (gX3 R _ (kX R bb h1)) (by omega)
          · intro post yop ymi er ct va dp hc hd he hf
            refine gY3 post yop ymi er ct va dp hc hd he ?_
            intro er1 va1 r1 r2
            refine kY _ _ _ _ (ct + 1) va1 dp (by omega) (by omega) zq_us ?_
            intro er2 va2 s1 s2 s3
            rw [if_pos q5]
            refine zy_k3 H g1 hm (by omega) (by omega) (by rw [s1 ct (by omega), zq_un (by omega), zq_us]) ht (fun _ => ?_) (fun h => ?_)
            · have := hf er2 (upd va2 dp (zc_v1 (tk m))) (fun j hj => by rw [s1 j (by omega), zq_un (by omega), zq_un (by omega), r1 j hj])
                (fun j hj => by rw [zq_un (by omega), s2 j hj, r2 j hj]) (fun _ => zq_us)
              rw [if_pos hk] at this; exact this
            · rw [s3 q5] at h; exact absurd hty h
        · refine Or.inl ⟨upd V2 (6 + m) (zc_v2 (tk m)), D2, vr2, zc_v2 (tk m), ⟨g1, Nat.le_refl _, ?_, ?_, fun _ => ⟨zq_us, rfl, rfl⟩⟩, fun R bb h => ?_, ?_⟩
          · intro v hv; rw [zq_un (by omega)]; exact k3 v hv
          · intro v hv hv2; rw [zq_un (by omega)]; exact hfr v hv hv2
          · have h1 := hct R bb (d2 + 1) _ V2 D2 (by omega) i4 (zs_lab (by omega) i5 h)
            have h2 := zs_jn (by omega) i3 hj (V := V2) (by rw [hx2, k6]; exact hty) h1
            exact zs_mn (gX3 R _ (kX R bb h2)) (by omega)
          · intro post yop ymi er ct va dp hc hd he hf
            refine gY3 post yop ymi er ct va dp hc hd he ?_
            intro er1 va1 r1 r2
            refine kY _ _ _ _ (ct + 1) va1 dp (by omega) (by omega) zq_us ?_
            intro er2 va2 s1 s2 s3
            rw [if_pos q5]
            refine zy_k3 H g1 hm (by omega) (by omega) (by rw [s1 ct (by omega), zq_un (by omega), zq_us]) ht (fun h => ?_) (fun _ => ?_)
            · rw [s3 q5] at h; exact absurd h hty
            · have := hf er2 (upd va2 dp (zc_v2 (tk m))) (fun j hj => by rw [s1 j (by omega), zq_un (by omega), zq_un (by omega), r1 j hj])
                (fun j hj => by rw [zq_un (by omega), s2 j hj, r2 j hj]) (fun _ => zq_us)
              rw [if_pos hk] at this; exact this
      · refine Or.inr ⟨st, V2, D2, vr2, ⟨k1, k2, k3, k4⟩, fun R h => gX3 R _ (kX R h), ?_⟩
        intro post yop ymi er ct va dp hc hd he hf
        refine gY3 post yop ymi er ct va dp hc hd he ?_
        intro er1 va1 r1 r2
        exact kY _ _ _ _ (ct + 1) va1 dp (by omega) (by omega) zq_us hf
  · refine Or.inr ⟨st, V1, D1, vr1, ⟨g1, g2, g3, g4⟩, gX, ?_⟩
    intro post yop ymi er ct va dp hc hd he hf
    refine zy_bra H hD hm (by omega) he (Or.inr (Or.inr ht)) ?_
    exact gY _ _ _ _ (ct + 1) va dp (by omega) (by omega) zq_us hf
theorem zs_sim (H : zy_H tk c e g) : ∀ M, zs_IH g I n op tg fi se c tk e M := by
  intro M
  induction M with
  | zero => intro f m a b V D vr h; omega
  | succ M ih =>
    intro f m a b V D vr hM hm hb hl hV hD
    have ih2 : zs_IH g I n op tg fi se c tk e ((100 - D.2.1) * 100 + (e m - m)) := by
      intro f2 m2 a2 b2 V2 D2 vr2 h2
      exact ih f2 m2 a2 b2 V2 D2 vr2 (by omega)
    cases f with
    | zero => exact absurd hl id
    | succ f =>
      have hl' := hl
      unfold zc_lay at hl'
      split at hl'
      · rename_i h0
        exact zs_c_skip H hm hb hl' h0 hV hD
      rename_i h0
      split at hl'
      · rename_i h1
        obtain ⟨d, r1, r2⟩ := hl'
        exact zs_c_seq H hm ih2 hb h1 r1 r2 hV hD
      rename_i h1
      split at hl'
      · rename_i h2
        obtain ⟨d, d2, k, r1, i1, r2, i2, i3, r3, i4, rfl⟩ := hl'
        exact zs_c_if H hm ih2 hb h2 r1 i1 r2 i2 i3 r3 i4 hV hD
      rename_i h2
      split at hl'
      · rename_i h3
        obtain ⟨d, d2, i0, r1, i1, i2, r2, i3, i4, rfl⟩ := hl'
        exact zs_c_wh H hm ih2 hb h3 hl i0 r1 i1 i2 r2 i3 i4 hV hD
      rename_i h3
      split at hl'
      · rename_i h4
        obtain ⟨d, d2, r1, i1, i2, r2, i3, i4, i5, rfl⟩ := hl'
        exact zs_c_sh H hm ih2 hb h4 r1 i1 i2 r2 i3 i4 i5 hV hD
      rename_i h4
      have h68 : ¬ tk m = 68 := fun h => h4 (Or.inl h)
      have h69 : ¬ tk m = 69 := fun h => h4 (Or.inr h)
      split at hl'
      · rename_i h5
        obtain ⟨i1, rfl⟩ := hl'
        exact zs_c_p0 H hm hb h5 h0 h1 h2 h3 h68 h69 i1 hV hD
      rename_i h5
      split at hl'
      · rename_i h6
        obtain ⟨d, r1, i1, rfl⟩ := hl'
        exact zs_c_p1 H hm ih2 hb h6 h0 h1 h2 h3 h68 h69 r1 i1 hV hD
      · rename_i h6
        obtain ⟨d, d2, r1, r2, i1, rfl⟩ := hl'
        have h7 : zt_pt (tk m) = 2 := by
          have hok := H.2.1 m hm
          obtain ⟨k, hk, ek⟩ := zs_okn hok
          have htb := zs_tb k hk (ek ▸ hok) (ek ▸ h2) (ek ▸ h3) (ek ▸ h68) (ek ▸ h69) (ek ▸ h0) (ek ▸ h1)
          rw [← ek] at htb
          have := htb.1
          omega
        exact zs_c_p2 H hm ih2 hb h7 h0 h1 h2 h3 h68 h69 r1 r2 i1 hV hD
end
end
section
/-! what is known within a block: pure -/
def zk_h (op tg fi se : ty_V) (cv : Int32) (ve vf vs vt vc : ty_V) (j : Nat) : Prop :=
  vf j = ve (fi j).toNatClampNeg ∧ (zq_r2 (op j) → vs j = ve (se j).toNatClampNeg) ∧ (op j = 12 → vc j = cv) ∧ vt j = ve (tg j).toNatClampNeg
/-- of the tables alone -/
def zk_S (i : Nat) (op tg fi se : ty_V) (cv : Int32) (sa ve vf vs vt vc : ty_V) : Prop :=
  (∀ v, v < 96 → sa v = -1 ∨ (0 ≤ sa v ∧ sa v < 96)) ∧
  (∀ v, v < 96 → 0 ≤ (ve v).toInt ∧ (ve v).toInt ≤ i) ∧ (0 ≤ cv.toInt ∧ cv.toInt ≤ i) ∧
  (∀ j, j < i → (zq_r1 (op j) → (vf j).toInt ≤ (ve (fi j).toNatClampNeg).toInt) ∧ (zq_r2 (op j) → (vs j).toInt ≤ (ve (se j).toNatClampNeg).toInt) ∧
    (vc j).toInt ≤ cv.toInt ∧ (zq_wr (op j) → (vt j).toInt ≤ (ve (tg j).toNatClampNeg).toInt))
/-- of the tables and the state -/
def zk_F (g : Nat) (I : ty_V) (b i : Nat) (op tg fi se : ty_V) (cv : Int32) (ik kv sa ve vf vs vt vc : ty_V) (V : ty_V) (D : ty_D) : Prop :=
  (∀ v, v < 96 → ¬ ik v = 0 → V v = kv v) ∧ (∀ v, v < 96 → ¬ sa v < 0 → V v = V (sa v).toNatClampNeg) ∧
  (∀ j, b ≤ j → j < i → 3 ≤ op j → op j ≤ 12 → zk_h op tg fi se cv ve vf vs vt vc j →
    zq_end g (op j) (zq_x (op j) (fi j) V) (zq_y (op j) (se j) V) D = 0 ∧
    V (tg j).toNatClampNeg = zq_res I (op j) (zq_x (op j) (fi j) V) (zq_y (op j) (se j) V) D)
theorem zk_clin {x : Int32} (h0 : 0 ≤ x) (h : x < 96) : x.toNatClampNeg < 96 := by
  have h1 := Int32.le_iff_toInt_le.mp h0
  have h2 := Int32.lt_iff_toInt_lt.mp h
  have e0 : (0 : Int32).toInt = 0 := by decide
  have e1 : (96 : Int32).toInt = 96 := by decide
  show x.toInt.toNat < 96
  omega
theorem zk_clinj {x y : Int32} (h0 : 0 ≤ x) (h1 : 0 ≤ y) (h : x.toNatClampNeg = y.toNatClampNeg) : x = y := by
  apply Int32.toInt_inj.mp
  have h2 := Int32.le_iff_toInt_le.mp h0
  have h3 := Int32.le_iff_toInt_le.mp h1
  have e0 : (0 : Int32).toInt = 0 := by decide
  have h4 : x.toInt.toNat = y.toInt.toNat := h
  omega
theorem zk_inc {x : Int32} {i : Nat} (h0 : 0 ≤ x.toInt) (h1 : x.toInt ≤ i) (hi : i < 1000) : (x + 1).toInt = x.toInt + 1 := by
  rw [Int32.toInt_add]
  have e : (1 : Int32).toInt = 1 := by decide
  rw [e]
  exact Int.bmod_eq_of_le (by omega) (by omega)
/-- for operations between 3 and 12 only names and cells matter -/
theorem zk_loc {g : Nat} {I : ty_V} {o x y : Int32} {D D' : ty_D} (h3 : 3 ≤ o) (h12 : o ≤ 12) (hD : o = 12 → D'.1 = D.1) :
    zq_end g o x y D' = zq_end g o x y D ∧ zq_res I o x y D' = zq_res I o x y D := by
  have ne : ∀ c : Int32, 12 < c → ¬ o = c := by
    rintro c hc rfl
    exact absurd h12 (Int32.not_le.mpr hc)
  constructor
  · unfold zq_end
    have n15 := ne 15 (by decide)
    have n14 := ne 14 (by decide)
    have n19 := ne 19 (by decide)
    simp only [n15, n14, n19, false_and, if_false]
  · unfold zq_res
    by_cases h : o = 12
    · rw [if_pos h, if_pos h, hD h]
    · rw [if_neg h, if_neg h, if_neg (ne 15 (by decide)), if_neg (ne 15 (by decide))]
/-- the tables after an instruction -/
theorem zk_Sadv {i : Nat} {op tg fi se : ty_V} {cv : Int32} {sa ve vf vs vt vc : ty_V} (hi : i < 600) (hS : zk_S i op tg fi se cv sa ve vf vs vt vc)
    (hwi : ∀ j, j ≤ i → zq_wi (op j) (tg j) (fi j) (se j) 0) {cv' : Int32} {sa' ve' vf' vs' vt' vc' : ty_V}
    (h1 : ∀ v, v < 96 → sa' v = -1 ∨ (0 ≤ sa' v ∧ sa' v < 96)) (hvf : vf' = upd vf i (if zq_r1 (op i) then ve (fi i).toNatClampNeg else 0))
    (hvs : vs' = upd vs i (if zq_r2 (op i) then ve (se i).toNatClampNeg else 0)) (hvc : vc' = upd vc i cv) (hcv : cv' = if op i = 13 then cv + 1 else cv)
    (hve : ve' = if zq_wr (op i) then upd ve (tg i).toNatClampNeg (ve (tg i).toNatClampNeg + 1) else ve)
    (hvt : vt' = if zq_wr (op i) then upd vt i (ve (tg i).toNatClampNeg + 1) else vt) :
    zk_S (i + 1) op tg fi se cv' sa' ve' vf' vs' vt' vc' := by
  obtain ⟨s1, s2, s3, s4⟩ := hS
  have inc : ∀ v, v < 96 → (ve v).toInt ≤ (ve' v).toInt ∧ (ve' v).toInt ≤ i + 1 := by
    intro v hv
    have s5 := s2 v hv
    rw [hve]
    by_cases hw : zq_wr (op i)
    · rw [if_pos hw]
      by_cases e : v = (tg i).toNatClampNeg
      · rw [e, zq_us]
        rw [e] at s5
        rw [zk_inc s5.1 s5.2 (by omega)]; omega
      · rw [zq_un e]; omega
    · rw [if_neg hw]; omega
  have cinc : cv.toInt ≤ cv'.toInt ∧ cv'.toInt ≤ i + 1 := by
    rw [hcv]
    by_cases h13 : op i = 13
    · rw [if_pos h13, zk_inc s3.1 s3.2 (by omega)]; omega
    · rw [if_neg h13]; omega
  refine ⟨h1, fun v hv => ⟨Int.le_trans (s2 v hv).1 (inc v hv).1, (inc v hv).2⟩, ⟨by omega, cinc.2⟩, ?_⟩
  intro j hj
  obtain ⟨w1, w2, w3, w4, w5, _⟩ := hwi j (by omega)
  have r1 : zq_r1 (op j) → (fi j).toNatClampNeg < 96 := fun h => zk_clin (w4 h).1 (w4 h).2
  have r2 : (se j).toNatClampNeg < 96 := zk_clin w5.1 w5.2
  have r3 : zq_wr (op j) → (tg j).toNatClampNeg < 96 := fun h => zk_clin w2.1 (w3 h)
  by_cases e : j = i
  · subst e
    refine ⟨fun h => ?_, fun h => ?_, ?_, fun h => ?_⟩
    · rw [hvf, zq_us, if_pos h]; exact (inc _ (r1 h)).1
    · rw [hvs, zq_us, if_pos h]; exact (inc _ r2).1
    · rw [hvc, zq_us]; exact cinc.1
    · rw [hvt, if_pos h, zq_us, hve, if_pos h, zq_us]; exact Int.le_refl _
  · obtain ⟨t1, t2, t3, t4⟩ := s4 j (by omega)
    refine ⟨fun h => ?_, fun h => ?_, ?_, fun h => ?_⟩
    · rw [hvf, zq_un e]; exact Int.le_trans (t1 h) (inc _ (r1 h)).1
    · rw [hvs, zq_un e]; exact Int.le_trans (t2 h) (inc _ r2).1
    · rw [hvc, zq_un e]; exact Int.le_trans t3 cinc.1
    · have : vt' j = vt j := by
        rw [hvt]
        by_cases hw : zq_wr (op i)
        · rw [if_pos hw, zq_un e]
        · rw [if_neg hw]
      rw [this]; exact Int.le_trans (t4 h) (inc _ (r3 h)).1
/-- what holds behind an instruction -/
theorem zk_Fadv {g : Nat} {I : ty_V} {b i : Nat} {op tg fi se : ty_V} {cv : Int32} {ik kv sa ve vf vs vt vc : ty_V} {V : ty_V} {D : ty_D}
    (hi : i < 600) (hS : zk_S i op tg fi se cv sa ve vf vs vt vc) (hF : zk_F g I b i op tg fi se cv ik kv sa ve vf vs vt vc V D)
    (hwi : ∀ j, j ≤ i → zq_wi (op j) (tg j) (fi j) (se j) 0) {cv' : Int32} {ik' kv' sa' ve' vf' vs' vt' vc' : ty_V}
    (hvf : vf' = upd vf i (if zq_r1 (op i) then ve (fi i).toNatClampNeg else 0))
    (hvs : vs' = upd vs i (if zq_r2 (op i) then ve (se i).toNatClampNeg else 0)) (hvc : vc' = upd vc i cv) (hcv : cv' = if op i = 13 then cv + 1 else cv)
    (hve : ve' = if zq_wr (op i) then upd ve (tg i).toNatClampNeg (ve (tg i).toNatClampNeg + 1) else ve)
    (hvt : vt' = if zq_wr (op i) then upd vt i (ve (tg i).toNatClampNeg + 1) else vt)
    (hnw : ¬ zq_wr (op i) → ik' = ik ∧ kv' = kv ∧ sa' = sa)
    (hw0 : zq_wr (op i) → ∀ v, v < 96 → v ≠ (tg i).toNatClampNeg → ik' v = ik v ∧ kv' v = kv v ∧ (sa' v = -1 ∨ (sa' v = sa v ∧ ¬ sa v = tg i)))
    (hw1 : zq_wr (op i) → ¬ ik' (tg i).toNatClampNeg = 0 → (op i = 1 ∧ kv' (tg i).toNatClampNeg = fi i) ∨ (op i = 2 ∧ ¬ ik (fi i).toNatClampNeg = 0 ∧ kv' (tg i).toNatClampNeg = kv (fi i).toNatClampNeg))
    (hw2 : zq_wr (op i) → ¬ sa' (tg i).toNatClampNeg < 0 → op i = 2 ∧ sa' (tg i).toNatClampNeg = fi i ∧ ¬ fi i = tg i)
    (hend : zq_end g (op i) (zq_x (op i) (fi i) V) (zq_y (op i) (se i) V) D = 0) :
    zk_F g I b (i + 1) op tg fi se cv' ik' kv' sa' ve' vf' vs' vt' vc'
      (zq_w (op i) (tg i) (zq_res I (op i) (zq_x (op i) (fi i) V) (zq_y (op i) (se i) V) D) V) (zq_eff (op i) (zq_x (op i) (fi i) V) (zq_y (op i) (se i) V) D) := by
  obtain ⟨s1, s2, s3, s4⟩ := hS
  obtain ⟨f1, f2, f3⟩ := hF
  obtain ⟨w1, w2, w3, w4, w5, _⟩ := hwi i (Nat.le_refl _)
  have hV : ∀ v, (zq_wr (op i) → v ≠ (tg i).toNatClampNeg) →
      zq_w (op i) (tg i) (zq_res I (op i) (zq_x (op i) (fi i) V) (zq_y (op i) (se i) V) D) V v = V v := by
    intro v hv
    unfold zq_w
    by_cases hw : zq_wr (op i)
    · rw [if_pos hw, zq_un (hv hw)]
    · rw [if_neg hw]
  have hVt : zq_wr (op i) → zq_w (op i) (tg i) (zq_res I (op i) (zq_x (op i) (fi i) V) (zq_y (op i) (se i) V) D) V (tg i).toNatClampNeg =
      zq_res I (op i) (zq_x (op i) (fi i) V) (zq_y (op i) (se i) V) D := by
    intro hw
    unfold zq_w
    rw [if_pos hw, zq_us]
  have res1 : op i = 1 → zq_res I (op i) (zq_x (op i) (fi i) V) (zq_y (op i) (se i) V) D = fi i := by
    intro e; rw [e]; simp [zq_res, zq_val, zq_x, zq_r1]
  have res2 : op i = 2 → zq_res I (op i) (zq_x (op i) (fi i) V) (zq_y (op i) (se i) V) D = V (fi i).toNatClampNeg := by
    intro e; rw [e]
    have : zq_x 2 (fi i) V = V (fi i).toNatClampNeg := if_pos (by decide)
    rw [this]; simp [zq_res, zq_val]
  refine ⟨?_, ?_, ?_⟩
  · intro v hv hk
    by_cases hw : zq_wr (op i)
    · by_cases e : v = (tg i).toNatClampNeg
      · subst e
        rw [hVt hw]
        rcases hw1 hw hk with ⟨e1, e2⟩ | ⟨e1, e2, e3⟩
        · rw [res1 e1, e2]
        · rw [res2 e1, e3]
          have := w4 (by rw [e1]; decide)
          exact f1 _ (zk_clin this.1 this.2) e2
      · rw [hV v (fun _ => e)]
        obtain ⟨a1, a2, _⟩ := hw0 hw v hv e
        rw [a1] at hk
        rw [a2]; exact f1 v hv hk
    · obtain ⟨a1, a2, a3⟩ := hnw hw
      rw [hV v (fun h => absurd h hw), a2]
      rw [a1] at hk
      exact f1 v hv hk
  · intro v hv hk
    by_cases hw : zq_wr (op i)
    · by_cases e : v = (tg i).toNatClampNeg
      · subst e
        obtain ⟨e1, e2, e3⟩ := hw2 hw hk
        have h4 := w4 (by rw [e1]; decide)
        rw [e2, hV _ (fun _ h => e3 (zk_clinj h4.1 w2.1 h)), hVt hw, res2 e1]
      · obtain ⟨_, _, a3⟩ := hw0 hw v hv e
        rcases a3 with a3 | ⟨a3, a4⟩
        · rw [a3] at hk; exact absurd (by decide) hk
        · rw [a3] at hk ⊢
          rcases s1 v hv with h5 | h5
          · rw [h5] at hk; exact absurd (by decide) hk
          · rw [hV v (fun _ => e), hV _ (fun _ h => a4 (zk_clinj h5.1 w2.1 h))]
            exact f2 v hv hk
    · obtain ⟨a1, a2, a3⟩ := hnw hw
      rw [a3] at hk ⊢
      rw [hV v (fun h => absurd h hw), hV _ (fun h => absurd h hw)]
      exact f2 v hv hk
  · intro j hb hj h3 h12 hh
    obtain ⟨x1, x2, x3, x4, x5, _⟩ := hwi j (by omega)
    have q1 : zq_r1 (op j) := Or.inl ⟨Int32.le_trans (by decide) h3, Int32.le_trans h12 (by decide)⟩
    have qw : zq_wr (op j) := Or.inl ⟨Int32.le_trans (by decide) h3, h12⟩
    have p1 := zk_clin (x4 q1).1 (x4 q1).2
    have p2 := zk_clin x5.1 x5.2
    have p3 := zk_clin x2.1 (x3 qw)
    obtain ⟨c1, c2, c3, c4⟩ := hh
    have veu : ∀ v, v < 96 → v = (tg i).toNatClampNeg → zq_wr (op i) → (ve' v).toInt = (ve v).toInt + 1 := by
      intro v hv e hw
      have := s2 v hv
      rw [hve, if_pos hw, ← e, zq_us, zk_inc this.1 this.2 (by omega)]
    have ven : ∀ v, (zq_wr (op i) → v ≠ (tg i).toNatClampNeg) → ve' v = ve v := by
      intro v hv
      rw [hve]
      by_cases hw : zq_wr (op i)
      · rw [if_pos hw, zq_un (hv hw)]
      · rw [if_neg hw]
    by_cases e : j = i
    · subst e
      have n1 : zq_wr (op j) → (fi j).toNatClampNeg ≠ (tg j).toNatClampNeg := by
        intro hw h
        have h5 := veu _ p1 h hw
        rw [hvf, zq_us, if_pos q1] at c1
        rw [← c1] at h5; omega
      have n2 : zq_r2 (op j) → zq_wr (op j) → (se j).toNatClampNeg ≠ (tg j).toNatClampNeg := by
        intro hr hw h
        have h5 := veu _ p2 h hw
        have c2 := c2 hr
        rw [hvs, zq_us, if_pos hr] at c2
        rw [← c2] at h5; omega
      have hag := zq_agree (o := op j) (f := fi j) (s := se j) (V := zq_w (op j) (tg j) (zq_res I (op j) (zq_x (op j) (fi j) V) (zq_y (op j) (se j) V) D) V) (V' := V)
        (fun _ => hV _ n1) (fun hr => hV _ (n2 hr))
      have heff : (zq_eff (op j) (zq_x (op j) (fi j) V) (zq_y (op j) (se j) V) D).1 = D.1 := by
        have ne : ∀ c : Int32, 12 < c → ¬ op j = c := fun c hc e => absurd (e ▸ h12) (Int32.not_le.mpr hc)
        unfold zq_eff
        rw [if_neg (ne 13 (by decide)), if_neg (ne 14 (by decide)), if_neg (ne 15 (by decide)), if_neg (ne 19 (by decide))]
      have hl := zk_loc (g := g) (I := I) (o := op j) (x := zq_x (op j) (fi j) V) (y := zq_y (op j) (se j) V) (D := D)
        (D' := zq_eff (op j) (zq_x (op j) (fi j) V) (zq_y (op j) (se j) V) D) h3 h12 (fun _ => heff)
      rw [hag.1, hag.2, hl.1, hl.2, hVt qw]
      exact ⟨hend, rfl⟩
    · have hjl : j < i := by omega
      obtain ⟨t1, t2, t3, t4⟩ := s4 j hjl
      have hvfj : vf' j = vf j := by rw [hvf, zq_un e]
      have hvsj : vs' j = vs j := by rw [hvs, zq_un e]
      have hvcj : vc' j = vc j := by rw [hvc, zq_un e]
      have hvtj : vt' j = vt j := by
        rw [hvt]
        by_cases hw : zq_wr (op i)
        · rw [if_pos hw, zq_un e]
        · rw [if_neg hw]
      rw [hvfj] at c1
      rw [hvsj] at c2
      rw [hvcj] at c3
      rw [hvtj] at c4
      have n1 : zq_wr (op i) → (fi j).toNatClampNeg ≠ (tg i).toNatClampNeg := by
        intro hw h
        have h5 := veu _ p1 h hw
        rw [← c1] at h5
        have := t1 q1; omega
      have n2 : zq_r2 (op j) → zq_wr (op i) → (se j).toNatClampNeg ≠ (tg i).toNatClampNeg := by
        intro hr hw h
        have h5 := veu _ p2 h hw
        rw [← c2 hr] at h5
        have := t2 hr; omega
      have n3 : zq_wr (op i) → (tg j).toNatClampNeg ≠ (tg i).toNatClampNeg := by
        intro hw h
        have h5 := veu _ p3 h hw
        rw [← c4] at h5
        have := t4 qw; omega
      have hc13 : op j = 12 → ¬ op i = 13 := by
        intro h h13
        have c3 := c3 h
        rw [hcv, if_pos h13] at c3
        have h5 := zk_inc s3.1 s3.2 (by omega)
        rw [← c3] at h5; omega
      have hh0 : zk_h op tg fi se cv ve vf vs vt vc j := by
        refine ⟨?_, ?_, ?_, ?_⟩
        · rw [c1]; exact ven _ n1
        · intro hr; rw [c2 hr]; exact ven _ (n2 hr)
        · intro h; rw [c3 h, hcv, if_neg (hc13 h)]
        · rw [c4]; exact ven _ n3
      obtain ⟨y1, y2⟩ := f3 j hb hjl h3 h12 hh0
      have hag := zq_agree (o := op j) (f := fi j) (s := se j) (V := zq_w (op i) (tg i) (zq_res I (op i) (zq_x (op i) (fi i) V) (zq_y (op i) (se i) V) D) V) (V' := V)
        (fun _ => hV _ n1) (fun hr => hV _ (n2 hr))
      have heff : op j = 12 → (zq_eff (op i) (zq_x (op i) (fi i) V) (zq_y (op i) (se i) V) D).1 = D.1 := by
        intro h
        unfold zq_eff
        rw [if_neg (hc13 h)]
        by_cases a1 : op i = 14
        · rw [if_pos a1]
        · rw [if_neg a1]
          by_cases a2 : op i = 15
          · rw [if_pos a2]
          · rw [if_neg a2]
            by_cases a3 : op i = 19
            · rw [if_pos a3]
            · rw [if_neg a3]
      have hl := zk_loc (g := g) (I := I) (o := op j) (x := zq_x (op j) (fi j) V) (y := zq_y (op j) (se j) V) (D := D)
        (D' := zq_eff (op i) (zq_x (op i) (fi i) V) (zq_y (op i) (se i) V) D) h3 h12 heff
      rw [hag.1, hag.2, hl.1, hl.2, hV _ n3]
      exact ⟨y1, y2⟩
end
section
/-! an instruction changed under what is known -/
def zk_r (g : Nat) (I : ty_V) (V : ty_V) (D : ty_D) (o t f s h o' f' s' h' : Int32) : Prop :=
  (∀ J T N, zq_sb g I o t f s V D J T N → zq_sb g I o' t f' s' V D J T N) ∧
  ((¬ h = 0 → zq_end g o (zq_x o f V) (zq_y o s V) D = 0) → ¬ h' = 0 → zq_end g o' (zq_x o' f' V) (zq_y o' s' V) D = 0)
theorem zk_rr {g : Nat} {I : ty_V} {V : ty_V} {D : ty_D} {o t f s h : Int32} : zk_r g I V D o t f s h o f s h := ⟨fun _ _ _ h => h, fun h => h⟩
theorem zk_rx {g : Nat} {I : ty_V} {V : ty_V} {D : ty_D} {o t f s h f' s' : Int32} (h1 : zq_x o f V = zq_x o f' V) (h2 : zq_y o s V = zq_y o s' V) : zk_r g I V D o t f s h o f' s' h := by
  refine ⟨fun J T N hh => ?_, fun hh => ?_⟩
  · unfold zq_sb at hh ⊢; rw [← h1, ← h2]; exact hh
  · rw [← h1, ← h2]; exact hh
/-- a writing instruction that doesn't end for another one with the same value -/
theorem zk_rw {g : Nat} {I : ty_V} {V : ty_V} {D : ty_D} {o t f s h o' f' s' : Int32} (hw : zq_wr o) (hw' : zq_wr o')
    (h1 : zq_end g o (zq_x o f V) (zq_y o s V) D = 0) (h2 : zq_end g o' (zq_x o' f' V) (zq_y o' s' V) D = 0)
    (h3 : zq_res I o (zq_x o f V) (zq_y o s V) D = zq_res I o' (zq_x o' f' V) (zq_y o' s' V) D)
    (h4 : zq_eff o (zq_x o f V) (zq_y o s V) D = zq_eff o' (zq_x o' f' V) (zq_y o' s' V) D) : zk_r g I V D o t f s h o' f' s' 0 := by
  refine ⟨fun J T N hh => ?_, fun _ h => absurd rfl h⟩
  refine zq_sbN (zq_wre hw') h2 ?_
  have := (hh.2 (zq_wre hw)).2 h1
  rw [h3, h4, zq_w, if_pos hw] at this
  rw [zq_w, if_pos hw']; exact this
theorem zk_eff12 {o x y : Int32} {D : ty_D} (h : o ≤ 12) : zq_eff o x y D = D := by
  have ne : ∀ c : Int32, 12 < c → ¬ o = c := fun c hc e => absurd (e ▸ h) (Int32.not_le.mpr hc)
  unfold zq_eff
  rw [if_neg (ne 13 (by decide)), if_neg (ne 14 (by decide)), if_neg (ne 15 (by decide)), if_neg (ne 19 (by decide))]
theorem zk_end12 {g : Nat} {o x y : Int32} {D : ty_D} (h : o ≤ 11) (hd : (o = 6 ∨ o = 7) → ¬ y = 0) : zq_end g o x y D = 0 := by
  have ne : ∀ c : Int32, 11 < c → ¬ o = c := fun c hc e => absurd (e ▸ h) (Int32.not_le.mpr hc)
  unfold zq_end
  rw [if_neg (fun hh => hd hh.1 hh.2), if_neg (fun hh => hh.1.elim (ne 12 (by decide)) (ne 13 (by decide))), if_neg (fun hh => ne 15 (by decide) hh.1),
    if_neg (fun hh => ne 14 (by decide) hh.1), if_neg (fun hh => ne 19 (by decide) hh.1), if_neg (ne 21 (by decide))]
theorem zk_res11 {I : ty_V} {o x y : Int32} {D : ty_D} (h : o ≤ 11) : zq_res I o x y D = zq_val o x y := by
  have ne : ∀ c : Int32, 11 < c → ¬ o = c := fun c hc e => absurd (e ▸ h) (Int32.not_le.mpr hc)
  unfold zq_res
  rw [if_neg (ne 12 (by decide)), if_neg (ne 15 (by decide))]
/-- a value that is known is put in -/
theorem zk_rc {g : Nat} {I : ty_V} {V : ty_V} {D : ty_D} {o t f s h r : Int32} (hw : 1 ≤ o) (h11 : o ≤ 11) (hd : (o = 6 ∨ o = 7) → ¬ zq_y o s V = 0)
    (hv : zq_val o (zq_x o f V) (zq_y o s V) = r) : zk_r g I V D o t f s h 1 r 0 0 := by
  refine zk_rw (Or.inl ⟨hw, Int32.le_trans h11 (by decide)⟩) (by decide) (zk_end12 h11 hd) (zk_end12 (by decide) (fun h => absurd h (by decide))) ?_ ?_
  · rw [zk_res11 h11, hv, zk_res11 (by decide)]
    simp [zq_val, zq_x, zq_r1]
  · rw [zk_eff12 (Int32.le_trans h11 (by decide)), zk_eff12 (by decide)]
/-- a value that a name has is moved -/
theorem zk_rm {g : Nat} {I : ty_V} {V : ty_V} {D : ty_D} {o t f s h f' : Int32} (hw : 1 ≤ o) (h12 : o ≤ 12) (he : zq_end g o (zq_x o f V) (zq_y o s V) D = 0)
    (hv : V f'.toNatClampNeg = zq_res I o (zq_x o f V) (zq_y o s V) D) : zk_r g I V D o t f s h 2 f' 0 0 := by
  have hx : zq_x 2 f' V = V f'.toNatClampNeg := if_pos (by decide)
  refine zk_rw (Or.inl ⟨hw, h12⟩) (by decide) he (zk_end12 (by decide) (fun h => absurd h (by decide))) ?_ ?_
  · rw [zk_res11 (o := 2) (by decide), hx, hv]
    simp [zq_val]
  · rw [zk_eff12 h12, zk_eff12 (by decide)]
/-- a comparison with nothing -/
theorem zk_rn {g : Nat} {I : ty_V} {V : ty_V} {D : ty_D} {t f s h : Int32} (hy : zq_y 9 s V = 0) : zk_r g I V D 9 t f s h 10 f 0 0 := by
  have hx : zq_x 9 f V = V f.toNatClampNeg := if_pos (by decide)
  have hx2 : zq_x 10 f V = V f.toNatClampNeg := if_pos (by decide)
  refine zk_rw (by decide) (by decide) (zk_end12 (by decide) (fun h => absurd h (by decide))) (zk_end12 (by decide) (fun h => absurd h (by decide))) ?_ ?_
  · rw [zk_res11 (o := 10) (by decide), zk_res11 (o := 9) (by decide), hx, hx2, hy]
    simp [zq_val]
  · rw [zk_eff12 (by decide), zk_eff12 (by decide)]
/-- a jump whose condition is known -/
theorem zk_rj {g : Nat} {I : ty_V} {V : ty_V} {D : ty_D} {o t f s h : Int32} (ho : o = 17 ∨ o = 18) (ht : zq_tk o (zq_x o f V)) : zk_r g I V D o t f s h 16 0 0 0 :=
  ⟨fun _ _ _ hh => zq_sbJ (Or.inl rfl) (hh.1 ht), fun _ h => absurd rfl h⟩
theorem zk_rj0 {g : Nat} {I : ty_V} {V : ty_V} {D : ty_D} {o t f s h : Int32} (ho : o = 17 ∨ o = 18) (ht : ¬ zq_tk o (zq_x o f V)) : zk_r g I V D o t f s h 0 0 0 0 := by
  refine ⟨fun J T N hh => (zq_nop (Or.inl rfl)).mpr ?_, fun _ h => absurd rfl h⟩
  have h1 := (hh.2 ht).2 (by rcases ho with rfl | rfl <;> simp [zq_end])
  have e1 : ∀ r, zq_w o t r V = V := by intro r; rcases ho with rfl | rfl <;> simp [zq_w, zq_wr]
  have e2 : ∀ x y, zq_eff o x y D = D := by intro x y; rcases ho with rfl | rfl <;> simp [zq_eff]
  rw [e1, e2] at h1; exact h1
/-- only the flag changes -/
theorem zk_rh {g : Nat} {I : ty_V} {V : ty_V} {D : ty_D} {o t f s h h' : Int32} (hh : ¬ h' = 0 → zq_end g o (zq_x o f V) (zq_y o s V) D = 0) : zk_r g I V D o t f s h o f s h' :=
  ⟨fun _ _ _ h => h, fun _ h => hh h⟩
theorem zk_rt {g : Nat} {I : ty_V} {V : ty_V} {D : ty_D} {o t f s h o' f' s' h' o2 f2 s2 h2 : Int32} (a : zk_r g I V D o t f s h o' f' s' h') (b : zk_r g I V D o' t f' s' h' o2 f2 s2 h2) :
    zk_r g I V D o t f s h o2 f2 s2 h2 := ⟨fun J T N hh => b.1 J T N (a.1 J T N hh), fun hh => b.2 (a.2 hh)⟩
/-! arithmetic -/
theorem zk_a1 (x : Int32) : zq_val 3 x 0 = x := by simp [zq_val]
theorem zk_a2 (x : Int32) : zq_val 4 x 0 = x := by simp [zq_val]
theorem zk_a3 (x : Int32) : zq_val 5 x 1 = x := by simp [zq_val]
theorem zk_a4 (x : Int32) : zq_val 6 x 1 = x := by simp [zq_val]
theorem zk_a5 (y : Int32) : zq_val 3 0 y = y := by simp [zq_val]
theorem zk_a6 (y : Int32) : zq_val 5 1 y = y := by simp [zq_val]
theorem zk_a7 (x : Int32) : zq_val 5 x 0 = 0 := by simp [zq_val]
theorem zk_a8 (y : Int32) : zq_val 5 0 y = 0 := by simp [zq_val]
theorem zk_a9 (x : Int32) : zq_val 4 x x = 0 := by simp [zq_val]
theorem zk_a10 (x : Int32) : zq_val 8 x x = 0 := by simp [zq_val]
theorem zk_a11 (x : Int32) : zq_val 9 x x = 1 := by simp [zq_val]
theorem zk_a12 (x : Int32) : zq_val 7 x 1 = 0 := by simp [zq_val]
theorem zk_dm1 (x : Int32) : x / (-1) = -x := by
  apply Int32.toInt_inj.mp
  have e : (-1 : Int32).toInt = -1 := by decide
  rw [Int32.toInt_div, e, Int32.toInt_neg, Int.tdiv_neg, Int.tdiv_one]
theorem zk_a13 (x : Int32) : zq_val 7 x (-1) = 0 := by
  have h : (-1 : Int32) ≠ 0 := by decide
  have e : zq_val 7 x (-1) = x - x / (-1) * (-1) := by simp [zq_val]
  rw [e, zk_dm1]
  grind
end
section
/-! the component's basic walks -/
theorem zn_b {x : Int32} (h0 : -1 ≤ x) (h1 : x ≤ 127) : x.toInt8.toInt32 = x := by
  have a := Int32.le_iff_toInt_le.mp h0
  have b := Int32.le_iff_toInt_le.mp h1
  rw [show (-1 : Int32).toInt = -1 from by decide] at a
  rw [show (127 : Int32).toInt = 127 from by decide] at b
  exact lg_i2b_small (by omega) (by omega)
theorem zn_s {x : Int32} (h0 : -1 ≤ x) (h1 : x ≤ 32767) : x.toInt16.toInt32 = x := by
  have a := Int32.le_iff_toInt_le.mp h0
  have b := Int32.le_iff_toInt_le.mp h1
  rw [show (-1 : Int32).toInt = -1 from by decide] at a
  rw [show (32767 : Int32).toInt = 32767 from by decide] at b
  exact lg_i2s_small (by omega) (by omega)
theorem zn_sN {n : Nat} (h : n < 32768) : (nI n).toInt16.toInt32 = nI n := by
  refine lg_i2s_small ?_ ?_ <;> rw [nI_toInt (by omega)] <;> omega
theorem zn_bN {n : Nat} (h : n < 128) : (nI n).toInt8.toInt32 = nI n := by
  refine lg_i2b_small ?_ ?_ <;> rw [nI_toInt (by omega)] <;> omega
def zx_fl (f : ty_V) (a b : Nat) (v : Int32) : ty_V := fun j => if a ≤ j ∧ j < b then v else f j
theorem zx_fle {f : ty_V} {b : Nat} {v : Int32} : zx_fl f b b v = f := by
  funext j
  exact if_neg (by omega)
theorem zx_fls {f : ty_V} {a b : Nat} {v : Int32} (h : a < b) : zx_fl (upd f a v) (a + 1) b v = zx_fl f a b v := by
  funext j
  unfold zx_fl
  by_cases e : j = a
  · subst e
    rw [if_neg (by omega), if_pos (by omega), zq_us]
  · by_cases h2 : a ≤ j ∧ j < b
    · rw [if_pos h2, if_pos (by omega)]
    · rw [if_neg h2, if_neg (by omega), zq_un e]
theorem zx_flp {W : Nat → Nat → ty_V → Prop} {e : Nat} {v : Int32} (hs : ∀ n i f, i < e → W n (i + 1) (upd f i v) → W (n + 1) i f) : ∀ d i f n, i + d = e → W n e (zx_fl f i e v) → W (n + d) i f := by
  intro d
  induction d with
  | zero => intro i f n hi h; obtain rfl : i = e := by omega
            rw [zx_fle] at h; exact h
  | succ d ih =>
    intro i f n hi h
    refine hs _ _ _ (by omega) (ih (i + 1) _ n (by omega) ?_)
    rw [zx_fls (by omega)]; exact h
section
variable {ct ms gv sz dp ch cv bs rc mz ls tc rd pc ps : Int32} {tk wa sp ip op tg fi se hz lt lq ik kv sa ve vf vs vt vc la lu bg en ro hq mo mt mf mq pv ce fn va rg : Nat → Int32} {ll lh : Nat → Int64}
variable {post : SX → Prop}
theorem zx_emit {n : Nat} {o t f s : Int32} (hn : n < 512) (ho : 0 ≤ o ∧ o ≤ 127) (ht : 0 ≤ t ∧ t ≤ 32767) (hs : 0 ≤ s ∧ s ≤ 32767)
    (h : post (ct, ms, gv, nI (n + 1), dp, ch, cv, bs, rc, mz, ls, tc, rd, pc, ps, tk, wa, sp, ip, upd op n o, upd tg n t, upd fi n f, upd se n s, upd hz n 0, lt, lq, ik, kv, sa, ve, vf, vs, vt, vc, ll, lh, la, lu, bg, en, ro, hq, mo, mt, mf, mq, pv, ce, fn, va, rg)) : wpX_emit post (ct, ms, gv, nI n, dp, ch, cv, bs, rc, mz, ls, tc, rd, pc, ps, tk, wa, sp, ip, op, tg, fi, se, hz, lt, lq, ik, kv, sa, ve, vf, vs, vt, vc, ll, lh, la, lu, bg, en, ro, hq, mo, mt, mf, mq, pv, ce, fn, va, rg) o t f s := by
  have hc : (nI n).toNatClampNeg = n := nI_clamp (by omega)
  have m1 : (-1 : Int32) ≤ 0 := by decide
  have hi : vp_in (nI n) 512 := vp_in_nI hn (by decide)
  unfold wpX_emit
  refine ⟨hi, nm_r (e' := upd op n o) ?_ ⟨hi, nm_r (e' := upd tg n t) ?_ ⟨hi, nm_r (e' := upd fi n f) ?_ ⟨hi, nm_r (e' := upd se n s) ?_ ⟨hi, nm_r (e' := upd hz n 0) ?_ (nm_r (nI_1 n) h)⟩⟩⟩⟩⟩
  · rw [hc, pk_vb, zn_b (Int32.le_trans m1 ho.1) ho.2]
  · rw [hc, pk_vs, zn_s (Int32.le_trans m1 ht.1) ht.2]
  · rw [hc]
  · rw [hc, pk_vs, zn_s (Int32.le_trans m1 hs.1) hs.2]
  · rw [hc]; rfl
theorem zx_replace {i : Nat} {o f : Int32} (hn : i < 512) (ho : 0 ≤ o ∧ o ≤ 127)
    (h : post (ct, ms, gv, sz, dp, 1, cv, bs, rc, mz, ls, tc, rd, pc, ps, tk, wa, sp, ip, upd op i o, tg, upd fi i f, upd se i 0, upd hz i 0, lt, lq, ik, kv, sa, ve, vf, vs, vt, vc, ll, lh, la, lu, bg, en, ro, hq, mo, mt, mf, mq, pv, ce, fn, va, rg)) : wpX_replace post (ct, ms, gv, sz, dp, ch, cv, bs, rc, mz, ls, tc, rd, pc, ps, tk, wa, sp, ip, op, tg, fi, se, hz, lt, lq, ik, kv, sa, ve, vf, vs, vt, vc, ll, lh, la, lu, bg, en, ro, hq, mo, mt, mf, mq, pv, ce, fn, va, rg) (nI i) o f := by
  have hc : (nI i).toNatClampNeg = i := nI_clamp (by omega)
  have m1 : (-1 : Int32) ≤ 0 := by decide
  have hi : vp_in (nI i) 512 := vp_in_nI hn (by decide)
  unfold wpX_replace
  refine ⟨hi, nm_r (e' := upd op i o) ?_ ⟨hi, nm_r (e' := upd fi i f) ?_ ⟨hi, nm_r (e' := upd se i 0) ?_ ⟨hi, nm_r (e' := upd hz i 0) ?_ h⟩⟩⟩⟩
  · rw [hc, pk_vb, zn_b (Int32.le_trans m1 ho.1) ho.2]
  · rw [hc]
  · rw [hc]; rfl
  · rw [hc]; rfl
theorem zx_forget (h : post (ct, ms, gv, sz, dp, ch, cv, bs, rc, mz, 0, 0, 0, 0, ps, tk, wa, sp, ip, op, tg, fi, se, hz, lt, lq, ik, kv, sa, ve, vf, vs, vt, vc, ll, lh, la, lu, bg, en, ro, hq, mo, mt, mf, mq, pv, zx_fl ce 0 8 0, zx_fl fn 0 6 0, va, rg)) : wpX_forget post (ct, ms, gv, sz, dp, ch, cv, bs, rc, mz, ls, tc, rd, pc, ps, tk, wa, sp, ip, op, tg, fi, se, hz, lt, lq, ik, kv, sa, ve, vf, vs, vt, vc, ll, lh, la, lu, bg, en, ro, hq, mo, mt, mf, mq, pv, ce, fn, va, rg) := by
  unfold wpX_forget
  refine ⟨1 + 8, ?_⟩
  refine zx_flp (W := fun n i f => wX_forget_22 post ct ms gv sz dp ch cv bs rc mz 0 0 0 0 ps n (nI i) tk wa sp ip op tg fi se hz lt lq ik kv sa ve vf vs vt vc ll lh la lu bg en ro hq mo mt mf mq pv f fn va rg) (e := 8) (v := 0) ?_ 8 0 ce 1 rfl ?_
  · intro n i f hi h
    exact br_f (nI_ge (b := 8) hi (by decide)) ⟨vp_in_nI hi (by decide), nm_r (e' := upd f i 0) (by rw [nI_clamp (by omega)]) (nm_r (nI_1 i) h)⟩
  · refine br_t (by decide) ⟨1 + 6, ?_⟩
    refine zx_flp (W := fun n i f => wX_forget_43 post ct ms gv sz dp ch cv bs rc mz 0 0 0 0 ps n (nI i) tk wa sp ip op tg fi se hz lt lq ik kv sa ve vf vs vt vc ll lh la lu bg en ro hq mo mt mf mq pv (zx_fl ce 0 8 0) f va rg) (e := 6) (v := 0) ?_ 6 0 fn 1 rfl ?_
    · intro n i f hi h
      exact br_f (nI_ge (b := 6) hi (by decide)) ⟨vp_in_nI hi (by decide), nm_r (e' := upd f i 0) (by rw [nI_clamp (by omega)]) (nm_r (nI_1 i) h)⟩
    · exact br_t (by decide) h
theorem zx_startBlock {i : Nat} (h : post (ct, ms, gv, sz, dp, ch, cv, nI i, rc, mz, ls, tc, rd, pc, ps, tk, wa, sp, ip, op, tg, fi, se, hz, lt, lq, zx_fl ik 0 96 0, kv, zx_fl sa 0 96 (-1), ve, vf, vs, vt, vc, ll, lh, la, lu, bg, en, ro, hq, mo, mt, mf, mq, pv, ce, fn, va, rg)) : wpX_startBlock post (ct, ms, gv, sz, dp, ch, cv, bs, rc, mz, ls, tc, rd, pc, ps, tk, wa, sp, ip, op, tg, fi, se, hz, lt, lq, ik, kv, sa, ve, vf, vs, vt, vc, ll, lh, la, lu, bg, en, ro, hq, mo, mt, mf, mq, pv, ce, fn, va, rg) (nI i) := by
  have lp : ∀ d j ik' sa', j + d = 96 → zx_fl ik' j 96 0 = zx_fl ik 0 96 0 → zx_fl sa' j 96 (-1) = zx_fl sa 0 96 (-1) →
      wX_startBlock_7 post ct ms gv sz dp ch cv (nI i) rc mz ls tc rd pc ps (d + 1) (nI j) tk wa sp ip op tg fi se hz lt lq ik' kv sa' ve vf vs vt vc ll lh la lu bg en ro hq mo mt mf mq pv ce fn va rg := by
    intro d
    induction d with
    | zero =>
      intro j ik' sa' hj e1 e2
      obtain rfl : j = 96 := by omega
      rw [zx_fle] at e1 e2
      subst e1 e2
      exact br_t (by decide) h
    | succ d ih =>
      intro j ik' sa' hj e1 e2
      have hi : vp_in (nI j) 96 := vp_in_nI (by omega) (by decide)
      refine br_f (nI_ge (b := 96) (by omega) (by decide)) ⟨hi, nm_r (e' := upd ik' j 0) (by rw [nI_clamp (by omega)]; rfl) ⟨hi, nm_r (e' := upd sa' j (-1)) (by rw [nI_clamp (by omega)]; rfl)
        (nm_r (nI_1 j) (ih (j + 1) _ _ (by omega) ?_ ?_))⟩⟩
      · rw [zx_fls (by omega)]; exact e1
      · rw [zx_fls (by omega)]; exact e2
  unfold wpX_startBlock
  exact ⟨97, lp 96 0 ik sa rfl rfl rfl⟩
end
end
section
/-! followBack, putIn, simplify -/
theorem zq_uself {f : ty_V} {i : Nat} : upd f i (f i) = f := by
  funext j
  by_cases e : j = i
  · subst e; exact zq_us
  · exact zq_un e
theorem zq_uu {f : ty_V} {i : Nat} {a b : Int32} : upd (upd f i a) i b = upd f i b := by
  funext j
  by_cases e : j = i
  · subst e; rw [zq_us, zq_us]
  · rw [zq_un e, zq_un e, zq_un e]
def zk_Q (g : Nat) (I : ty_V) (F : ty_V → ty_D → Prop) (o t f s h o' f' s' h' : Int32) : Prop :=
  (∀ V D, F V D → zk_r g I V D o t f s h o' f' s' h') ∧ zq_wi o' t f' s' h' ∧ (o' = 20 ↔ o = 20) ∧ (zq_jp o' → zq_jp o)
section
variable {g : Nat} {I : ty_V} {F : ty_V → ty_D → Prop} {o t f s h o' f' s' h' r : Int32}
theorem zk_Qr (hwi : zq_wi o t f s h) : zk_Q g I F o t f s h o f s h := ⟨fun _ _ _ => zk_rr, hwi, Iff.rfl, id⟩
theorem zk_Qt {o2 f2 s2 h2 : Int32} (a : zk_Q g I F o t f s h o' f' s' h') (b : zk_Q g I F o' t f' s' h' o2 f2 s2 h2) : zk_Q g I F o t f s h o2 f2 s2 h2 :=
  ⟨fun V D hF => zk_rt (a.1 V D hF) (b.1 V D hF), b.2.1, b.2.2.1.trans a.2.2.1, fun q => a.2.2.2 (b.2.2.2 q)⟩
theorem zk_lt96 (ho : 1 ≤ o ∧ o ≤ 12) (hwi : zq_wi o t f s h) : t < 96 := hwi.2.2.1 (Or.inl ho)
theorem zk_no20 {c : Int32} (hc : 12 < c) (ho : o ≤ 12) : ¬ o = c := fun e => absurd (e ▸ ho) (Int32.not_le.mpr hc)
theorem zk_Qm (ho : 1 ≤ o ∧ o ≤ 12) (hwi : zq_wi o t f s h) (hf : 0 ≤ f' ∧ f' < 96)
    (hr : ∀ V D, F V D → zq_end g o (zq_x o f V) (zq_y o s V) D = 0 ∧ V f'.toNatClampNeg = zq_res I o (zq_x o f V) (zq_y o s V) D) : zk_Q g I F o t f s h 2 f' 0 0 :=
  ⟨fun V D hF => zk_rm ho.1 ho.2 (hr V D hF).1 (hr V D hF).2, ⟨by decide, hwi.2.1, fun _ => zk_lt96 ho hwi, fun _ => hf, by decide, Or.inl rfl⟩,
    ⟨fun q => absurd q (by decide), fun q => absurd q (zk_no20 (by decide) ho.2)⟩, fun q => absurd q (by decide)⟩
theorem zk_Qc (ho : 1 ≤ o ∧ o ≤ 11) (hwi : zq_wi o t f s h) (hr : ∀ V D, F V D → ((o = 6 ∨ o = 7) → ¬ zq_y o s V = 0) ∧ zq_val o (zq_x o f V) (zq_y o s V) = r) : zk_Q g I F o t f s h 1 r 0 0 :=
  have h12 : o ≤ 12 := Int32.le_trans ho.2 (by decide)
  ⟨fun V D hF => zk_rc ho.1 ho.2 (hr V D hF).1 (hr V D hF).2, ⟨by decide, hwi.2.1, fun _ => zk_lt96 ⟨ho.1, h12⟩ hwi, fun q => absurd q (by decide), by decide, Or.inl rfl⟩,
    ⟨fun q => absurd q (by decide), fun q => absurd q (zk_no20 (by decide) h12)⟩, fun q => absurd q (by decide)⟩
theorem zk_Qn (hwi : zq_wi 9 t f s h) (hr : ∀ V D, F V D → zq_y 9 s V = 0) : zk_Q g I F 9 t f s h 10 f 0 0 :=
  ⟨fun V D hF => zk_rn (hr V D hF), ⟨by decide, hwi.2.1, fun _ => hwi.2.2.1 (by decide), fun _ => hwi.2.2.2.1 (by decide), by decide, Or.inl rfl⟩,
    ⟨fun q => absurd q (by decide), fun q => absurd q (by decide)⟩, fun q => absurd q (by decide)⟩
end
theorem zk_vin {x : Int32} (h : 0 ≤ x ∧ x < 96) : vp_in x 96 := by
  have h2 := Int32.le_iff_toInt_le.mp h.1
  have h3 := Int32.lt_iff_toInt_lt.mp h.2
  rw [show (0 : Int32).toInt = 0 from by decide] at h2
  rw [show (96 : Int32).toInt = 96 from by decide] at h3
  exact vp_in_iff.mpr ⟨h2, h3⟩
section
variable {ct ms gv sz dp ch cv bs rc mz ls tc rd pc ps : Int32} {tk wa sp ip op tg fi se hz lt lq ik kv sa ve vf vs vt vc la lu bg en ro hq mo mt mf mq pv ce fn va rg : Nat → Int32} {ll lh : Nat → Int64}
variable {post : SX → Prop} {g : Nat} {I : ty_V} {F : ty_V → ty_D → Prop} {i : Nat}
theorem zx_fb50 {o : Int32} (hi : i < 512) (hse : 0 ≤ se i ∧ se i < 96) (hsa : ∀ v, v < 96 → sa v = -1 ∨ (0 ≤ sa v ∧ sa v < 96))
    (h : ∀ s' c', (s' = se i ∨ (zq_r2 o ∧ ¬ sa (se i).toNatClampNeg < 0 ∧ s' = sa (se i).toNatClampNeg)) → post (ct, ms, gv, sz, dp, c', cv, bs, rc, mz, ls, tc, rd, pc, ps, tk, wa, sp, ip, op, tg, fi, upd se i s', hz, lt, lq, ik, kv, sa, ve, vf, vs, vt, vc, ll, lh, la, lu, bg, en, ro, hq, mo, mt, mf, mq, pv, ce, fn, va, rg)) : wX_followBack_50 post (nI i) o ct ms gv sz dp ch cv bs rc mz ls tc rd pc ps tk wa sp ip op tg fi se hz lt lq ik kv sa ve vf vs vt vc ll lh la lu bg en ro hq mo mt mf mq pv ce fn va rg := by
  have hc : (nI i).toNatClampNeg = i := nI_clamp (by omega)
  have hin : vp_in (nI i) 512 := vp_in_nI hi (by decide)
  have h0 := h (se i) ch (Or.inl rfl)
  rw [zq_uself] at h0
  unfold wX_followBack_50
  rw [hc]
  refine zx_readsSecond (zb_br (fun _ => h0) (fun r2 => ⟨hin, zk_vin hse, br_c (fun _ => h0) (fun g => ⟨hin, zk_vin hse, hin, nm_r (e' := upd se i (sa (se i).toNatClampNeg)) ?_ ?_⟩)⟩))
  · rw [pk_vs, zn_s ?_ ?_]
    · rcases hsa _ (zk_clin hse.1 hse.2) with q | q
      · rw [q]; decide
      · exact Int32.le_trans (by decide) q.1
    · rcases hsa _ (zk_clin hse.1 hse.2) with q | q
      · rw [q]; decide
      · exact Int32.le_trans (Int32.le_of_lt q.2) (by decide)
  · exact h _ 1 (Or.inr ⟨r2, g, rfl⟩)
theorem zx_followBack (hi : i < 512) (hwi : zq_wi (op i) (tg i) (fi i) (se i) (hz i)) (hsa : ∀ v, v < 96 → sa v = -1 ∨ (0 ≤ sa v ∧ sa v < 96))
    (hF : ∀ V D, F V D → ∀ v, v < 96 → ¬ sa v < 0 → V v = V (sa v).toNatClampNeg)
    (h : ∀ f' s' c', zk_Q g I F (op i) (tg i) (fi i) (se i) (hz i) (op i) f' s' (hz i) → post (ct, ms, gv, sz, dp, c', cv, bs, rc, mz, ls, tc, rd, pc, ps, tk, wa, sp, ip, op, tg, upd fi i f', upd se i s', hz, lt, lq, ik, kv, sa, ve, vf, vs, vt, vc, ll, lh, la, lu, bg, en, ro, hq, mo, mt, mf, mq, pv, ce, fn, va, rg)) : wpX_followBack post (ct, ms, gv, sz, dp, ch, cv, bs, rc, mz, ls, tc, rd, pc, ps, tk, wa, sp, ip, op, tg, fi, se, hz, lt, lq, ik, kv, sa, ve, vf, vs, vt, vc, ll, lh, la, lu, bg, en, ro, hq, mo, mt, mf, mq, pv, ce, fn, va, rg) (nI i) := by
  have hc : (nI i).toNatClampNeg = i := nI_clamp (by omega)
  have hin : vp_in (nI i) 512 := vp_in_nI hi (by decide)
  obtain ⟨w1, w2, w3, w4, w5, w6⟩ := hwi
  have hse := zk_clin w5.1 w5.2
  have rng : ∀ x : Int32, 0 ≤ x ∧ x < 96 → ¬ sa x.toNatClampNeg < 0 → 0 ≤ sa x.toNatClampNeg ∧ sa x.toNatClampNeg < 96 := by
    intro x hx hn
    rcases hsa _ (zk_clin hx.1 hx.2) with q | q
    · rw [q] at hn; exact absurd (by decide) hn
    · exact q
  have key : ∀ f', (f' = fi i ∨ (zq_r1 (op i) ∧ ¬ sa (fi i).toNatClampNeg < 0 ∧ f' = sa (fi i).toNatClampNeg)) → ∀ c1, wX_followBack_50 post (nI i) (op i) ct ms gv sz dp c1 cv bs rc mz ls tc rd pc ps tk wa sp ip op tg (upd fi i f') se hz lt lq ik kv sa ve vf vs vt vc ll lh la lu bg en ro hq mo mt mf mq pv ce fn va rg := by
    intro f' hf c1
    refine zx_fb50 hi w5 hsa (fun s' c' hs => h f' s' c' ⟨fun V D hFV => zk_rx ?_ ?_, ?_, Iff.rfl, id⟩)
    · rcases hf with rfl | ⟨r1, n1, rfl⟩
      · rfl
      · rw [zq_x, if_pos r1, zq_x, if_pos r1]
        exact hF V D hFV _ (zk_clin (w4 r1).1 (w4 r1).2) n1
    · rcases hs with rfl | ⟨r2, n2, rfl⟩
      · rfl
      · rw [zq_y, if_pos r2, zq_y, if_pos r2]
        exact hF V D hFV _ hse n2
    · refine ⟨w1, w2, w3, fun r1 => ?_, ?_, w6⟩
      · rcases hf with rfl | ⟨_, n1, rfl⟩
        · exact w4 r1
        · exact rng _ (w4 r1) n1
      · rcases hs with rfl | ⟨r2, n2, rfl⟩
        · exact w5
        · exact rng _ w5 n2
  unfold wpX_followBack
  have k0 := key (fi i) (Or.inl rfl) ch
  rw [zq_uself] at k0
  rw [hc]
  refine ⟨hin, nm_r (e' := op i) rfl (zx_readsFirst (zb_br (fun _ => k0) (fun r1 => ⟨hin, zk_vin (w4 r1), br_c (fun _ => k0) (fun n1 => ⟨hin, zk_vin (w4 r1), hin, nm_e (key _ (Or.inr ⟨r1, n1, rfl⟩) 1)⟩)⟩)))⟩
theorem zx_simplify {x4 x6 x3 x5 : Int32} (hi : i < 512) (hwi : zq_wi (op i) (tg i) (fi i) (se i) (hz i)) (h3 : 3 ≤ op i) (h9 : op i ≤ 9)
    (hx : ¬ x3 = 0 → ∀ V D, F V D → zq_x (op i) (fi i) V = x4) (hy : ¬ x5 = 0 → ∀ V D, F V D → zq_y (op i) (se i) V = x6) (hd : (op i = 6 ∨ op i = 7) → ¬ x5 = 0 ∧ ¬ x6 = 0)
    (hn : post (ct, ms, gv, sz, dp, ch, cv, bs, rc, mz, ls, tc, rd, pc, ps, tk, wa, sp, ip, op, tg, fi, se, hz, lt, lq, ik, kv, sa, ve, vf, vs, vt, vc, ll, lh, la, lu, bg, en, ro, hq, mo, mt, mf, mq, pv, ce, fn, va, rg)) (h : ∀ o' f', zk_Q g I F (op i) (tg i) (fi i) (se i) (hz i) o' f' 0 0 → post (ct, ms, gv, sz, dp, 1, cv, bs, rc, mz, ls, tc, rd, pc, ps, tk, wa, sp, ip, upd op i o', tg, upd fi i f', upd se i 0, upd hz i 0, lt, lq, ik, kv, sa, ve, vf, vs, vt, vc, ll, lh, la, lu, bg, en, ro, hq, mo, mt, mf, mq, pv, ce, fn, va, rg)) :
    wpX_simplify post (ct, ms, gv, sz, dp, ch, cv, bs, rc, mz, ls, tc, rd, pc, ps, tk, wa, sp, ip, op, tg, fi, se, hz, lt, lq, ik, kv, sa, ve, vf, vs, vt, vc, ll, lh, la, lu, bg, en, ro, hq, mo, mt, mf, mq, pv, ce, fn, va, rg) (nI i) (op i) x3 x4 x5 x6 := by
  have hc : (nI i).toNatClampNeg = i := nI_clamp (by omega)
  have hin : vp_in (nI i) 512 := vp_in_nI hi (by decide)
  have h1 : 1 ≤ op i := Int32.le_trans (by decide) h3
  have h11 : op i ≤ 11 := Int32.le_trans h9 (by decide)
  have h12 : op i ≤ 12 := Int32.le_trans h9 (by decide)
  have r1 : zq_r1 (op i) := Or.inl ⟨Int32.le_trans (by decide) h3, Int32.le_trans h9 (by decide)⟩
  have r2 : zq_r2 (op i) := Or.inl ⟨h3, h9⟩
  have ex : ∀ V : ty_V, zq_x (op i) (fi i) V = V (fi i).toNatClampNeg := fun V => if_pos r1
  have ey : ∀ V : ty_V, zq_y (op i) (se i) V = V (se i).toNatClampNeg := fun V => if_pos r2
  have hdv : ∀ V D, F V D → (op i = 6 ∨ op i = 7) → ¬ zq_y (op i) (se i) V = 0 := by
    intro V D hF q
    rw [hy (hd q).1 V D hF]; exact (hd q).2
  have mv1 : (∀ V D, F V D → zq_val (op i) (zq_x (op i) (fi i) V) (zq_y (op i) (se i) V) = zq_x (op i) (fi i) V) → wX_simplify_104 post (nI i) ct ms gv sz dp ch cv bs rc mz ls tc rd pc ps tk wa sp ip op tg fi se hz lt lq ik kv sa ve vf vs vt vc ll lh la lu bg en ro hq mo mt mf mq pv ce fn va rg := by
    intro hv
    unfold wX_simplify_104
    rw [hc]
    refine ⟨hin, zx_replace hi (by decide) (h 2 (fi i) (zk_Qm ⟨h1, h12⟩ hwi (hwi.2.2.2.1 r1) (fun V D hF => ⟨zk_end12 h11 (hdv V D hF), ?_⟩)))⟩
    rw [zk_res11 h11, hv V D hF, ex]
  have mv2 : (∀ V D, F V D → zq_val (op i) (zq_x (op i) (fi i) V) (zq_y (op i) (se i) V) = zq_y (op i) (se i) V) → wX_simplify_144 post (nI i) ct ms gv sz dp ch cv bs rc mz ls tc rd pc ps tk wa sp ip op tg fi se hz lt lq ik kv sa ve vf vs vt vc ll lh la lu bg en ro hq mo mt mf mq pv ce fn va rg := by
    intro hv
    unfold wX_simplify_144
    rw [hc]
    refine ⟨hin, zx_replace hi (by decide) (h 2 (se i) (zk_Qm ⟨h1, h12⟩ hwi hwi.2.2.2.2.1 (fun V D hF => ⟨zk_end12 h11 (hdv V D hF), ?_⟩)))⟩
    rw [zk_res11 h11, hv V D hF, ey]
  have cst : ∀ r : Int32, (∀ V D, F V D → zq_val (op i) (zq_x (op i) (fi i) V) (zq_y (op i) (se i) V) = r) → wpX_replace post (ct, ms, gv, sz, dp, ch, cv, bs, rc, mz, ls, tc, rd, pc, ps, tk, wa, sp, ip, op, tg, fi, se, hz, lt, lq, ik, kv, sa, ve, vf, vs, vt, vc, ll, lh, la, lu, bg, en, ro, hq, mo, mt, mf, mq, pv, ce, fn, va, rg) (nI i) 1 r := by
    intro r hv
    exact zx_replace hi (by decide) (h 1 r (zk_Qc ⟨h1, h11⟩ hwi (fun V D hF => ⟨hdv V D hF, hv V D hF⟩)))
  have k264 : ∀ x9 : Int32, (¬ x9 = 0 → ¬ x5 = 0 ∧ x6 = 0) → wX_simplify_264 post (nI i) (op i) x9 ct ms gv sz dp ch cv bs rc mz ls tc rd pc ps tk wa sp ip op tg fi se hz lt lq ik kv sa ve vf vs vt vc ll lh la lu bg en ro hq mo mt mf mq pv ce fn va rg := by
    intro x9 q9
    unfold wX_simplify_264
    rw [hc]
    refine br_c (fun _ => hn) (fun g9 => br_c (fun o9 => ⟨hin, zx_replace hi (by decide) (h 10 (fi i) ?_)⟩) (fun _ => hn))
    rw [o9]
    refine zk_Qn (by rw [← o9]; exact hwi) (fun V D hF => ?_)
    rw [← o9, hy (q9 g9).1 V D hF]; exact (q9 g9).2
  have k231 : ∀ x9 : Int32, (¬ x9 = 0 → ¬ x5 = 0 ∧ x6 = 0) → wX_simplify_231 post (nI i) (op i) x5 x6 x9 ct ms gv sz dp ch cv bs rc mz ls tc rd pc ps tk wa sp ip op tg fi se hz lt lq ik kv sa ve vf vs vt vc ll lh la lu bg en ro hq mo mt mf mq pv ce fn va rg := by
    intro x9 q9
    unfold wX_simplify_231 wX_simplify_254
    refine br_c (fun o7 => br_c (fun _ => k264 x9 q9) (fun g5 => br_c (fun e1 => cst 0 (fun V D hF => ?_)) (fun _ => br_c (fun e1 => cst 0 (fun V D hF => ?_)) (fun _ => k264 x9 q9)))) (fun _ => k264 x9 q9)
    · rw [hy g5 V D hF, e1, o7]; exact zk_a12 _
    · rw [hy g5 V D hF, e1, o7]; exact zk_a13 _
  have k210 : ∀ x7 x9 : Int32, (¬ x7 = 0 → fi i = se i) → (¬ x9 = 0 → ¬ x5 = 0 ∧ x6 = 0) → wX_simplify_210 post (nI i) (op i) x5 x6 x7 x9 ct ms gv sz dp ch cv bs rc mz ls tc rd pc ps tk wa sp ip op tg fi se hz lt lq ik kv sa ve vf vs vt vc ll lh la lu bg en ro hq mo mt mf mq pv ce fn va rg := by
    intro x7 x9 q7 q9
    unfold wX_simplify_210
    refine br_c (fun _ => k231 x9 q9) (fun g7 => br_c (fun o9 => cst 1 (fun V D hF => ?_)) (fun _ => k231 x9 q9))
    rw [ex, ey, ← q7 g7, o9]; exact zk_a11 _
  have k184 : ∀ x7 x9 : Int32, (¬ x7 = 0 → fi i = se i) → (¬ x9 = 0 → ¬ x5 = 0 ∧ x6 = 0) → wX_simplify_184 post (nI i) (op i) x5 x6 x7 x9 ct ms gv sz dp ch cv bs rc mz ls tc rd pc ps tk wa sp ip op tg fi se hz lt lq ik kv sa ve vf vs vt vc ll lh la lu bg en ro hq mo mt mf mq pv ce fn va rg := by
    intro x7 x9 q7 q9
    unfold wX_simplify_184 wX_simplify_200
    refine br_c (fun _ => k210 x7 x9 q7 q9) (fun g7 => br_c (fun o4 => cst 0 (fun V D hF => ?_)) (fun _ => br_c (fun o8 => cst 0 (fun V D hF => ?_)) (fun _ => k210 x7 x9 q7 q9)))
    · rw [ex, ey, ← q7 g7, o4]; exact zk_a9 _
    · rw [ex, ey, ← q7 g7, o8]; exact zk_a10 _
  have k159 : ∀ x7 x8 x9 : Int32, (¬ x7 = 0 → fi i = se i) → (¬ x8 = 0 → ¬ x3 = 0 ∧ x4 = 0) → (¬ x9 = 0 → ¬ x5 = 0 ∧ x6 = 0) → wX_simplify_159 post (nI i) (op i) x5 x6 x7 x8 x9 ct ms gv sz dp ch cv bs rc mz ls tc rd pc ps tk wa sp ip op tg fi se hz lt lq ik kv sa ve vf vs vt vc ll lh la lu bg en ro hq mo mt mf mq pv ce fn va rg := by
    intro x7 x8 x9 q7 q8 q9
    unfold wX_simplify_159 wX_simplify_174
    refine br_c (fun o5 => br_c (fun _ => br_c (fun _ => k184 x7 x9 q7 q9) (fun g9 => cst 0 (fun V D hF => ?_))) (fun g8 => cst 0 (fun V D hF => ?_))) (fun _ => k184 x7 x9 q7 q9)
    · rw [hy (q9 g9).1 V D hF, (q9 g9).2, o5]; exact zk_a7 _
    · rw [hx (q8 g8).1 V D hF, (q8 g8).2, o5]; exact zk_a8 _
  have k129 : ∀ x7 x8 x9 : Int32, (¬ x7 = 0 → fi i = se i) → (¬ x8 = 0 → ¬ x3 = 0 ∧ x4 = 0) → (¬ x9 = 0 → ¬ x5 = 0 ∧ x6 = 0) → wX_simplify_129 post (nI i) (op i) x3 x4 x5 x6 x7 x8 x9 ct ms gv sz dp ch cv bs rc mz ls tc rd pc ps tk wa sp ip op tg fi se hz lt lq ik kv sa ve vf vs vt vc ll lh la lu bg en ro hq mo mt mf mq pv ce fn va rg := by
    intro x7 x8 x9 q7 q8 q9
    unfold wX_simplify_129
    refine br_c (fun _ => k159 x7 x8 x9 q7 q8 q9) (fun g3 => br_c (fun e1 => br_c (fun o5 => mv2 (fun V D hF => ?_)) (fun _ => k159 x7 x8 x9 q7 q8 q9)) (fun _ => k159 x7 x8 x9 q7 q8 q9))
    rw [hx g3 V D hF, e1, o5]; exact zk_a6 _
  have k119 : ∀ x7 x8 x9 : Int32, (¬ x7 = 0 → fi i = se i) → (¬ x8 = 0 → ¬ x3 = 0 ∧ x4 = 0) → (¬ x9 = 0 → ¬ x5 = 0 ∧ x6 = 0) → wX_simplify_119 post (nI i) (op i) x3 x4 x5 x6 x7 x8 x9 ct ms gv sz dp ch cv bs rc mz ls tc rd pc ps tk wa sp ip op tg fi se hz lt lq ik kv sa ve vf vs vt vc ll lh la lu bg en ro hq mo mt mf mq pv ce fn va rg := by
    intro x7 x8 x9 q7 q8 q9
    unfold wX_simplify_119
    refine br_c (fun _ => k129 x7 x8 x9 q7 q8 q9) (fun g8 => br_c (fun o3 => mv2 (fun V D hF => ?_)) (fun _ => k129 x7 x8 x9 q7 q8 q9))
    rw [hx (q8 g8).1 V D hF, (q8 g8).2, o3]; exact zk_a5 _
  have k88 : ∀ x7 x8 x9 x10 : Int32, (¬ x7 = 0 → fi i = se i) → (¬ x8 = 0 → ¬ x3 = 0 ∧ x4 = 0) → (¬ x9 = 0 → ¬ x5 = 0 ∧ x6 = 0) → (¬ x10 = 0 → ¬ x5 = 0 ∧ x6 = 1) →
      wX_simplify_88 post (nI i) (op i) x3 x4 x5 x6 x7 x8 x9 x10 ct ms gv sz dp ch cv bs rc mz ls tc rd pc ps tk wa sp ip op tg fi se hz lt lq ik kv sa ve vf vs vt vc ll lh la lu bg en ro hq mo mt mf mq pv ce fn va rg := by
    intro x7 x8 x9 x10 q7 q8 q9 q10
    unfold wX_simplify_88
    refine br_c (fun _ => k119 x7 x8 x9 q7 q8 q9) (fun g10 => br_c (fun o5 => mv1 (fun V D hF => ?_)) (fun _ => br_c (fun o6 => mv1 (fun V D hF => ?_)) (fun _ => k119 x7 x8 x9 q7 q8 q9)))
    · rw [hy (q10 g10).1 V D hF, (q10 g10).2, o5]; exact zk_a3 _
    · rw [hy (q10 g10).1 V D hF, (q10 g10).2, o6]; exact zk_a4 _
  have k71 : ∀ x7 x8 x9 x10 : Int32, (¬ x7 = 0 → fi i = se i) → (¬ x8 = 0 → ¬ x3 = 0 ∧ x4 = 0) → (¬ x9 = 0 → ¬ x5 = 0 ∧ x6 = 0) → (¬ x10 = 0 → ¬ x5 = 0 ∧ x6 = 1) →
      wX_simplify_71 post (nI i) (op i) x3 x4 x5 x6 x7 x8 x9 x10 ct ms gv sz dp ch cv bs rc mz ls tc rd pc ps tk wa sp ip op tg fi se hz lt lq ik kv sa ve vf vs vt vc ll lh la lu bg en ro hq mo mt mf mq pv ce fn va rg := by
    intro x7 x8 x9 x10 q7 q8 q9 q10
    unfold wX_simplify_71
    refine br_c (fun _ => k88 x7 x8 x9 x10 q7 q8 q9 q10) (fun g9 => br_c (fun o3 => mv1 (fun V D hF => ?_)) (fun _ => br_c (fun o4 => mv1 (fun V D hF => ?_)) (fun _ => k88 x7 x8 x9 x10 q7 q8 q9 q10)))
    · rw [hy (q9 g9).1 V D hF, (q9 g9).2, o3]; exact zk_a1 _
    · rw [hy (q9 g9).1 V D hF, (q9 g9).2, o4]; exact zk_a2 _
  have z0 : ∀ {P : Prop}, ¬ (0 : Int32) = 0 → P := fun q => absurd rfl q
  have k53 : ∀ x7 x8 x9 : Int32, (¬ x7 = 0 → fi i = se i) → (¬ x8 = 0 → ¬ x3 = 0 ∧ x4 = 0) → (¬ x9 = 0 → ¬ x5 = 0 ∧ x6 = 0) → wX_simplify_53 post (nI i) (op i) x3 x4 x5 x6 x7 x8 x9 ct ms gv sz dp ch cv bs rc mz ls tc rd pc ps tk wa sp ip op tg fi se hz lt lq ik kv sa ve vf vs vt vc ll lh la lu bg en ro hq mo mt mf mq pv ce fn va rg := by
    intro x7 x8 x9 q7 q8 q9
    unfold wX_simplify_53 wX_simplify_70
    exact br_c (fun _ => k71 x7 x8 x9 0 q7 q8 q9 z0) (fun g5 => br_c (fun e1 => k71 x7 x8 x9 1 q7 q8 q9 (fun _ => ⟨g5, e1⟩)) (fun _ => k71 x7 x8 x9 0 q7 q8 q9 z0))
  have k36 : ∀ x7 x8 : Int32, (¬ x7 = 0 → fi i = se i) → (¬ x8 = 0 → ¬ x3 = 0 ∧ x4 = 0) → wX_simplify_36 post (nI i) (op i) x3 x4 x5 x6 x7 x8 ct ms gv sz dp ch cv bs rc mz ls tc rd pc ps tk wa sp ip op tg fi se hz lt lq ik kv sa ve vf vs vt vc ll lh la lu bg en ro hq mo mt mf mq pv ce fn va rg := by
    intro x7 x8 q7 q8
    unfold wX_simplify_36 wX_simplify_52
    exact br_c (fun _ => k53 x7 x8 0 q7 q8 z0) (fun g5 => br_c (fun e1 => k53 x7 x8 1 q7 q8 (fun _ => ⟨g5, e1⟩)) (fun _ => k53 x7 x8 0 q7 q8 z0))
  have k20 : ∀ x7 : Int32, (¬ x7 = 0 → fi i = se i) → wX_simplify_20 post (nI i) (op i) x3 x4 x5 x6 x7 ct ms gv sz dp ch cv bs rc mz ls tc rd pc ps tk wa sp ip op tg fi se hz lt lq ik kv sa ve vf vs vt vc ll lh la lu bg en ro hq mo mt mf mq pv ce fn va rg := by
    intro x7 q7
    unfold wX_simplify_20 wX_simplify_35
    exact br_c (fun _ => k36 x7 0 q7 z0) (fun g3 => br_c (fun e1 => k36 x7 1 q7 (fun _ => ⟨g3, e1⟩)) (fun _ => k36 x7 0 q7 z0))
  unfold wpX_simplify
  rw [hc]
  exact ⟨hin, hin, br_c (fun e => k20 1 (fun _ => e)) (fun _ => k20 0 z0)⟩
end
end
section
section
variable {g : Nat} {I : ty_V} {F : ty_V → ty_D → Prop} {o t f s h o' f' s' h' r : Int32}
theorem zk_Qj (ho : o = 17 ∨ o = 18) (hwi : zq_wi o t f s h) (hr : ∀ V D, F V D → zq_tk o (zq_x o f V)) : zk_Q g I F o t f s h 16 0 0 0 :=
  ⟨fun V D hF => zk_rj ho (hr V D hF), ⟨by decide, hwi.2.1, fun q => absurd q (by decide), fun q => absurd q (by decide), by decide, Or.inl rfl⟩,
    ⟨fun q => absurd q (by decide), fun q => by rcases ho with e | e <;> rw [e] at q <;> exact absurd q (by decide)⟩, fun _ => by rcases ho with e | e <;> rw [e] <;> decide⟩
theorem zk_Qj0 (ho : o = 17 ∨ o = 18) (hwi : zq_wi o t f s h) (hr : ∀ V D, F V D → ¬ zq_tk o (zq_x o f V)) : zk_Q g I F o t f s h 0 0 0 0 :=
  ⟨fun V D hF => zk_rj0 ho (hr V D hF), ⟨by decide, hwi.2.1, fun q => absurd q (by decide), fun q => absurd q (by decide), by decide, Or.inl rfl⟩,
    ⟨fun q => absurd q (by decide), fun q => by rcases ho with e | e <;> rw [e] at q <;> exact absurd q (by decide)⟩, fun q => absurd q (by decide)⟩
theorem zk_Qh (hwi : zq_wi o t f s h) (h01 : h' = 0 ∨ (h' = 1 ∧ (o = 6 ∨ o = 7 ∨ o = 12))) (hr : ¬ h' = 0 → ∀ V D, F V D → zq_end g o (zq_x o f V) (zq_y o s V) D = 0) : zk_Q g I F o t f s h o f s h' :=
  ⟨fun V D hF => zk_rh (fun q => hr q V D hF), ⟨hwi.1, hwi.2.1, hwi.2.2.1, hwi.2.2.2.1, hwi.2.2.2.2.1, h01⟩, Iff.rfl, id⟩
end
theorem zk_39 {o : Int32} (h2 : 2 ≤ o) (h11 : o ≤ 11) (n2 : ¬ o = 2) (n10 : ¬ o = 10) (n11 : ¬ o = 11) : 3 ≤ o ∧ o ≤ 9 := by
  have e : ∀ k : Nat, k < 2147483648 → (Int32.ofNat k).toInt = k := fun k hk => nI_toInt hk
  have a := Int32.le_iff_toInt_le.mp h2
  have b := Int32.le_iff_toInt_le.mp h11
  have c2 : ¬ o.toInt = 2 := fun q => n2 (Int32.toInt_inj.mp (q.trans (by decide)))
  have c10 : ¬ o.toInt = 10 := fun q => n10 (Int32.toInt_inj.mp (q.trans (by decide)))
  have c11 : ¬ o.toInt = 11 := fun q => n11 (Int32.toInt_inj.mp (q.trans (by decide)))
  rw [show (2 : Int32).toInt = 2 from by decide] at a
  rw [show (11 : Int32).toInt = 11 from by decide] at b
  rw [Int32.le_iff_toInt_le, Int32.le_iff_toInt_le, show (3 : Int32).toInt = 3 from by decide, show (9 : Int32).toInt = 9 from by decide]
  omega
section
variable {ct ms gv sz dp ch cv bs rc mz ls tc rd pc ps : Int32} {tk wa sp ip op tg fi se hz lt lq ik kv sa ve vf vs vt vc la lu bg en ro hq mo mt mf mq pv ce fn va rg : Nat → Int32} {ll lh : Nat → Int64}
variable {post : SX → Prop} {g : Nat} {I : ty_V} {F : ty_V → ty_D → Prop} {i : Nat} {x3 x4 x5 x6 : Int32}
theorem zx_put275 (hi : i < 512) (hwi : zq_wi (op i) (tg i) (fi i) (se i) (hz i)) (h2 : 2 ≤ op i) (h11 : op i ≤ 11)
    (hx : ¬ x3 = 0 → ∀ V D, F V D → zq_x (op i) (fi i) V = x5) (hy : ¬ x4 = 0 → ∀ V D, F V D → zq_y (op i) (se i) V = x6) (hd : (op i = 6 ∨ op i = 7) → ¬ x4 = 0 ∧ ¬ x6 = 0)
    (hn : post (ct, ms, gv, sz, dp, ch, cv, bs, rc, mz, ls, tc, rd, pc, ps, tk, wa, sp, ip, op, tg, fi, se, hz, lt, lq, ik, kv, sa, ve, vf, vs, vt, vc, ll, lh, la, lu, bg, en, ro, hq, mo, mt, mf, mq, pv, ce, fn, va, rg)) (h : ∀ o' f', zk_Q g I F (op i) (tg i) (fi i) (se i) (hz i) o' f' 0 0 → post (ct, ms, gv, sz, dp, 1, cv, bs, rc, mz, ls, tc, rd, pc, ps, tk, wa, sp, ip, upd op i o', tg, upd fi i f', upd se i 0, upd hz i 0, lt, lq, ik, kv, sa, ve, vf, vs, vt, vc, ll, lh, la, lu, bg, en, ro, hq, mo, mt, mf, mq, pv, ce, fn, va, rg)) :
    wX_putIn_275 post (nI i) (op i) x3 x4 x5 x6 ct ms gv sz dp ch cv bs rc mz ls tc rd pc ps tk wa sp ip op tg fi se hz lt lq ik kv sa ve vf vs vt vc ll lh la lu bg en ro hq mo mt mf mq pv ce fn va rg := by
  have k313 : ¬ x3 = 0 → ((op i = 2 ∨ op i = 10 ∨ op i = 11) ∨ ¬ x4 = 0) → wX_putIn_313 post (nI i) (op i) x5 x6 ct ms gv sz dp ch cv bs rc mz ls tc rd pc ps tk wa sp ip op tg fi se hz lt lq ik kv sa ve vf vs vt vc ll lh la lu bg en ro hq mo mt mf mq pv ce fn va rg := by
    intro q3 q4
    unfold wX_putIn_313
    refine zx_value (zx_replace hi (by decide) (h 1 _ (zk_Qc ⟨Int32.le_trans (by decide) h2, h11⟩ hwi (fun V D hF => ⟨fun q => ?_, ?_⟩))))
    · rw [hy (hd q).1 V D hF]; exact (hd q).2
    · rw [hx q3 V D hF]
      rcases q4 with (e | e | e) | q4
      · rw [e]; simp [zq_val]
      · rw [e]; simp [zq_val]
      · rw [e]; simp [zq_val]
      · rw [hy q4 V D hF]
  have k334 : ∀ x8 : Int32, (x8 = 0 → ¬ op i = 2 ∧ ¬ op i = 10 ∧ ¬ op i = 11) → wX_putIn_334 post (nI i) (op i) x3 x4 x5 x6 x8 ct ms gv sz dp ch cv bs rc mz ls tc rd pc ps tk wa sp ip op tg fi se hz lt lq ik kv sa ve vf vs vt vc ll lh la lu bg en ro hq mo mt mf mq pv ce fn va rg := by
    intro x8 q8
    unfold wX_putIn_334
    refine br_c (fun e => ?_) (fun _ => hn)
    obtain ⟨a1, a2, a3⟩ := q8 e
    obtain ⟨b1, b2⟩ := zk_39 h2 h11 a1 a2 a3
    exact zx_simplify hi hwi b1 b2 hx hy hd hn h
  have k297 : ∀ x8 : Int32, (x8 = 0 → ¬ op i = 2 ∧ ¬ op i = 10 ∧ ¬ op i = 11) → (¬ x8 = 0 → op i = 2 ∨ op i = 10 ∨ op i = 11) → wX_putIn_297 post (nI i) (op i) x3 x4 x5 x6 x8 ct ms gv sz dp ch cv bs rc mz ls tc rd pc ps tk wa sp ip op tg fi se hz lt lq ik kv sa ve vf vs vt vc ll lh la lu bg en ro hq mo mt mf mq pv ce fn va rg := by
    intro x8 q8 q9
    unfold wX_putIn_297
    exact br_c (fun _ => k334 x8 q8) (fun g3 => br_c (fun _ => br_c (fun _ => k334 x8 q8) (fun g4 => k313 g3 (Or.inr g4))) (fun g8 => k313 g3 (Or.inl (q9 g8))))
  unfold wX_putIn_275 wX_putIn_292
  have t1 : (1 : Int32) = 0 → ¬ op i = 2 ∧ ¬ op i = 10 ∧ ¬ op i = 11 := fun q => absurd q (by decide)
  exact br_c (fun e => k297 1 t1 (fun _ => Or.inl e)) (fun n2 => br_c (fun e => k297 1 t1 (fun _ => Or.inr (Or.inl e))) (fun n10 => br_c (fun e => k297 1 t1 (fun _ => Or.inr (Or.inr e)))
    (fun n11 => k297 0 (fun _ => ⟨n2, n10, n11⟩) (fun q => absurd rfl q))))
theorem zx_put249 {x7 : Int32} (hi : i < 512) (hwi : zq_wi (op i) (tg i) (fi i) (se i) (hz i))
    (hx : ¬ x3 = 0 → ∀ V D, F V D → zq_x (op i) (fi i) V = x5) (hy : ¬ x4 = 0 → ∀ V D, F V D → zq_y (op i) (se i) V = x6)
    (h7 : x7 = 0 → ¬ (op i = 6 ∨ op i = 7)) (hd : ¬ x7 = 0 → ¬ hz i = 0 → ¬ x4 = 0 ∧ ¬ x6 = 0)
    (hn : post (ct, ms, gv, sz, dp, ch, cv, bs, rc, mz, ls, tc, rd, pc, ps, tk, wa, sp, ip, op, tg, fi, se, hz, lt, lq, ik, kv, sa, ve, vf, vs, vt, vc, ll, lh, la, lu, bg, en, ro, hq, mo, mt, mf, mq, pv, ce, fn, va, rg)) (h : ∀ o' f', zk_Q g I F (op i) (tg i) (fi i) (se i) (hz i) o' f' 0 0 → post (ct, ms, gv, sz, dp, 1, cv, bs, rc, mz, ls, tc, rd, pc, ps, tk, wa, sp, ip, upd op i o', tg, upd fi i f', upd se i 0, upd hz i 0, lt, lq, ik, kv, sa, ve, vf, vs, vt, vc, ll, lh, la, lu, bg, en, ro, hq, mo, mt, mf, mq, pv, ce, fn, va, rg)) :
    wX_putIn_249 post (nI i) (op i) x3 x4 x5 x6 x7 ct ms gv sz dp ch cv bs rc mz ls tc rd pc ps tk wa sp ip op tg fi se hz lt lq ik kv sa ve vf vs vt vc ll lh la lu bg en ro hq mo mt mf mq pv ce fn va rg := by
  have hc : (nI i).toNatClampNeg = i := nI_clamp (by omega)
  have hin : vp_in (nI i) 512 := vp_in_nI hi (by decide)
  unfold wX_putIn_249
  rw [hc]
  refine br_c (fun _ => hn) (fun g2 => br_c (fun _ => hn) (fun g11 => br_c (fun e7 => ?_) (fun n7 => ⟨hin, br_c (fun _ => hn) (fun g => ?_)⟩)))
  · exact zx_put275 hi hwi (Int32.not_lt.mp g2) (Int32.not_lt.mp g11) hx hy (fun q => absurd q (h7 e7)) hn h
  · exact zx_put275 hi hwi (Int32.not_lt.mp g2) (Int32.not_lt.mp g11) hx hy (fun _ => hd n7 g) hn h
theorem zx_put103 (hi : i < 512) (hwi : zq_wi (op i) (tg i) (fi i) (se i) (hz i)) (hr1 : ¬ x3 = 0 → zq_r1 (op i))
    (hx : ¬ x3 = 0 → ∀ V D, F V D → zq_x (op i) (fi i) V = x5) (hy : ¬ x4 = 0 → ∀ V D, F V D → zq_y (op i) (se i) V = x6)
    (h : ∀ o' f' s' h' c', zk_Q g I F (op i) (tg i) (fi i) (se i) (hz i) o' f' s' h' → post (ct, ms, gv, sz, dp, c', cv, bs, rc, mz, ls, tc, rd, pc, ps, tk, wa, sp, ip, upd op i o', tg, upd fi i f', upd se i s', upd hz i h', lt, lq, ik, kv, sa, ve, vf, vs, vt, vc, ll, lh, la, lu, bg, en, ro, hq, mo, mt, mf, mq, pv, ce, fn, va, rg)) :
    wX_putIn_103 post (nI i) (op i) x3 x4 x5 x6 ct ms gv sz dp ch cv bs rc mz ls tc rd pc ps tk wa sp ip op tg fi se hz lt lq ik kv sa ve vf vs vt vc ll lh la lu bg en ro hq mo mt mf mq pv ce fn va rg := by
  have hc : (nI i).toNatClampNeg = i := nI_clamp (by omega)
  have hin : vp_in (nI i) 512 := vp_in_nI hi (by decide)
  have hn : post (ct, ms, gv, sz, dp, ch, cv, bs, rc, mz, ls, tc, rd, pc, ps, tk, wa, sp, ip, op, tg, fi, se, hz, lt, lq, ik, kv, sa, ve, vf, vs, vt, vc, ll, lh, la, lu, bg, en, ro, hq, mo, mt, mf, mq, pv, ce, fn, va, rg) := by
    have := h (op i) (fi i) (se i) (hz i) ch (zk_Qr hwi)
    rw [zq_uself, zq_uself, zq_uself, zq_uself] at this; exact this
  have hflag : ∀ h', (h' = 0 ∨ (h' = 1 ∧ (op i = 6 ∨ op i = 7 ∨ op i = 12))) → (¬ h' = 0 → ∀ V D, F V D → zq_end g (op i) (zq_x (op i) (fi i) V) (zq_y (op i) (se i) V) D = 0) → post (ct, ms, gv, sz, dp, ch, cv, bs, rc, mz, ls, tc, rd, pc, ps, tk, wa, sp, ip, op, tg, fi, se, upd hz i h', lt, lq, ik, kv, sa, ve, vf, vs, vt, vc, ll, lh, la, lu, bg, en, ro, hq, mo, mt, mf, mq, pv, ce, fn, va, rg) := by
    intro h' a b
    have := h (op i) (fi i) (se i) h' ch (zk_Qh hwi a b)
    rw [zq_uself, zq_uself, zq_uself] at this; exact this
  have k117 : (op i = 17 ∨ op i = 18) → wX_putIn_117 post (nI i) (op i) x3 x5 ct ms gv sz dp ch cv bs rc mz ls tc rd pc ps tk wa sp ip op tg fi se hz lt lq ik kv sa ve vf vs vt vc ll lh la lu bg en ro hq mo mt mf mq pv ce fn va rg := by
    intro ho
    have jmp : ¬ x3 = 0 → zq_tk (op i) x5 → wX_putIn_150 post (nI i) 1 ct ms gv sz dp ch cv bs rc mz ls tc rd pc ps tk wa sp ip op tg fi se hz lt lq ik kv sa ve vf vs vt vc ll lh la lu bg en ro hq mo mt mf mq pv ce fn va rg := by
      intro g3 ht
      unfold wX_putIn_150 wX_putIn_165
      exact br_f (by decide) (zx_replace hi (by decide) (h 16 0 0 0 1 (zk_Qj ho hwi (fun V D hF => by rw [hx g3 V D hF]; exact ht))))
    have nop : ¬ x3 = 0 → ¬ zq_tk (op i) x5 → wX_putIn_150 post (nI i) 0 ct ms gv sz dp ch cv bs rc mz ls tc rd pc ps tk wa sp ip op tg fi se hz lt lq ik kv sa ve vf vs vt vc ll lh la lu bg en ro hq mo mt mf mq pv ce fn va rg := by
      intro g3 ht
      unfold wX_putIn_150 wX_putIn_165
      exact br_t rfl (zx_replace hi (by decide) (h 0 0 0 0 1 (zk_Qj0 ho hwi (fun V D hF => by rw [hx g3 V D hF]; exact ht))))
    unfold wX_putIn_117 wX_putIn_131 wX_putIn_142
    refine br_c (fun _ => hn) (fun g3 => br_c (fun e5 => br_c (fun e => br_t rfl (jmp g3 (Or.inr (Or.inl ⟨e, e5⟩)))) (fun n => br_f (by decide) (nop g3 ?_))) (fun n5 => br_c (fun e => br_f (by decide) (nop g3 ?_)) (fun n => br_t rfl (jmp g3 ?_))))
    · rcases ho with e | e
      · exact absurd e n
      · rw [e]
        rintro (q | q | q)
        · exact absurd q (by decide)
        · exact absurd q.1 (by decide)
        · exact q.2 e5
    · rw [e]
      rintro (q | q | q)
      · exact absurd q (by decide)
      · exact n5 q.2
      · exact absurd q.1 (by decide)
    · rcases ho with e | e
      · exact absurd e n
      · exact Or.inr (Or.inr ⟨e, n5⟩)
  have k249 : ∀ h' x7 : Int32, (h' = 0 ∨ (h' = 1 ∧ (op i = 6 ∨ op i = 7 ∨ op i = 12))) → (¬ h' = 0 → ∀ V D, F V D → zq_end g (op i) (zq_x (op i) (fi i) V) (zq_y (op i) (se i) V) D = 0) →
      (x7 = 0 → ¬ (op i = 6 ∨ op i = 7)) → (¬ x7 = 0 → ¬ h' = 0 → ¬ x4 = 0 ∧ ¬ x6 = 0) → wX_putIn_249 post (nI i) (op i) x3 x4 x5 x6 x7 ct ms gv sz dp ch cv bs rc mz ls tc rd pc ps tk wa sp ip op tg fi se (upd hz i h') lt lq ik kv sa ve vf vs vt vc ll lh la lu bg en ro hq mo mt mf mq pv ce fn va rg := by
    intro h' x7 a b c d
    have Q := zk_Qh (g := g) (I := I) (F := F) hwi a b
    refine zx_put249 (g := g) (I := I) hi (by rw [zq_us]; exact Q.2.1) hx hy c (by rw [zq_us]; exact d) (hflag h' a b) (fun o' f' Q2 => ?_)
    rw [zq_us] at Q2
    rw [zq_uu]
    exact h o' f' 0 0 1 (zk_Qt Q Q2)
  have k248 : ∀ z : Int32, (op i = 6 ∨ op i = 7) → (z = 0 ∨ (z = 1 ∧ ¬ x4 = 0 ∧ ¬ x6 = 0)) → wX_putIn_248 post (nI i) (op i) x3 x4 x5 x6 1 z (nI i) ct ms gv sz dp ch cv bs rc mz ls tc rd pc ps tk wa sp ip op tg fi se hz lt lq ik kv sa ve vf vs vt vc ll lh la lu bg en ro hq mo mt mf mq pv ce fn va rg := by
    intro z ho hz1
    unfold wX_putIn_248
    rw [hc]
    refine ⟨hin, nm_r (e' := upd hz i z) ?_ (k249 z 1 ?_ ?_ (fun q => absurd q (by decide)) ?_)⟩
    · rcases hz1 with e | ⟨e, _⟩ <;> rw [e] <;> rfl
    · rcases hz1 with e | ⟨e, _⟩
      · exact Or.inl e
      · exact Or.inr ⟨e, ho.elim Or.inl (fun q => Or.inr (Or.inl q))⟩
    · intro nz V D hF
      rcases hz1 with e | ⟨e, q4, q6⟩
      · exact absurd e nz
      · refine zk_end12 ?_ (fun _ => by rw [hy q4 V D hF]; exact q6)
        rcases ho with e | e <;> rw [e] <;> decide
    · intro _ nz
      rcases hz1 with e | ⟨e, q4, q6⟩
      · exact absurd e nz
      · exact ⟨q4, q6⟩
  have k221a : (op i = 6 ∨ op i = 7) → wX_putIn_216 post (nI i) (op i) x3 x4 x5 x6 ct ms gv sz dp ch cv bs rc mz ls tc rd pc ps tk wa sp ip op tg fi se hz lt lq ik kv sa ve vf vs vt vc ll lh la lu bg en ro hq mo mt mf mq pv ce fn va rg := by
    intro ho
    unfold wX_putIn_216 wX_putIn_221 wX_putIn_247
    exact br_f (by decide) (br_c (fun _ => k248 0 ho (Or.inl rfl)) (fun g4 => br_c (fun _ => k248 0 ho (Or.inl rfl)) (fun g6 => k248 1 ho (Or.inr ⟨rfl, g4, g6⟩))))
  unfold wX_putIn_103
  rw [hc]
  refine br_c (fun e => k117 (Or.inl e)) (fun _ => br_c (fun e => k117 (Or.inr e)) (fun _ => br_c (fun e12 => ?_) (fun n12 => br_c (fun e => k221a (Or.inl e)) (fun n6 => br_c (fun e => k221a (Or.inr e)) (fun n7 => ?_)))))
  · have f0 : post (ct, ms, gv, sz, dp, ch, cv, bs, rc, mz, ls, tc, rd, pc, ps, tk, wa, sp, ip, op, tg, fi, se, upd hz i 0, lt, lq, ik, kv, sa, ve, vf, vs, vt, vc, ll, lh, la, lu, bg, en, ro, hq, mo, mt, mf, mq, pv, ce, fn, va, rg) := hflag 0 (Or.inl rfl) (fun q => absurd rfl q)
    refine br_c (fun _ => ⟨hin, nm_r (e' := upd hz i 0) rfl f0⟩) (fun g3 => br_c (fun _ => ⟨hin, nm_r (e' := upd hz i 0) rfl f0⟩) (fun g5 => br_c (fun _ => ⟨hin, nm_r (e' := upd hz i 0) rfl f0⟩)
      (fun g8 => ⟨hin, nm_r (e' := upd hz i 1) rfl (hflag 1 (Or.inr ⟨rfl, Or.inr (Or.inr e12)⟩) (fun _ V D hF => ?_))⟩)))
    rw [hx g3 V D hF, e12]
    have : ¬ (x5 < 0 ∨ 8 ≤ x5) := fun q => q.elim g5 g8
    simp [zq_end, this]
  · unfold wX_putIn_221
    refine br_t rfl ?_
    have := k249 (hz i) 0 hwi.2.2.2.2.2 ?_ (fun _ q => q.elim n6 n7) (fun q => absurd rfl q)
    · rw [zq_uself] at this; exact this
    · intro nz
      rcases hwi.2.2.2.2.2 with e | ⟨_, e | e | e⟩
      · exact absurd e nz
      · exact absurd e n6
      · exact absurd e n7
      · exact absurd e n12
theorem zx_putIn (hi : i < 512) (hwi : zq_wi (op i) (tg i) (fi i) (se i) (hz i)) (hF : ∀ V D, F V D → ∀ v, v < 96 → ¬ ik v = 0 → V v = kv v)
    (h : ∀ o' f' s' h' c', zk_Q g I F (op i) (tg i) (fi i) (se i) (hz i) o' f' s' h' → post (ct, ms, gv, sz, dp, c', cv, bs, rc, mz, ls, tc, rd, pc, ps, tk, wa, sp, ip, upd op i o', tg, upd fi i f', upd se i s', upd hz i h', lt, lq, ik, kv, sa, ve, vf, vs, vt, vc, ll, lh, la, lu, bg, en, ro, hq, mo, mt, mf, mq, pv, ce, fn, va, rg)) :
    wpX_putIn post (ct, ms, gv, sz, dp, ch, cv, bs, rc, mz, ls, tc, rd, pc, ps, tk, wa, sp, ip, op, tg, fi, se, hz, lt, lq, ik, kv, sa, ve, vf, vs, vt, vc, ll, lh, la, lu, bg, en, ro, hq, mo, mt, mf, mq, pv, ce, fn, va, rg) (nI i) := by
  have hc : (nI i).toNatClampNeg = i := nI_clamp (by omega)
  have hin : vp_in (nI i) 512 := vp_in_nI hi (by decide)
  have hse := hwi.2.2.2.2.1
  have z0 : ∀ {P : Prop}, ¬ (0 : Int32) = 0 → P := fun q => absurd rfl q
  have k81 : ∀ x3 x4 x5 : Int32, (¬ x3 = 0 → zq_r1 (op i)) → (¬ x3 = 0 → ∀ V D, F V D → zq_x (op i) (fi i) V = x5) →
      (¬ x4 = 0 → zq_r2 (op i) ∧ ¬ ik (se i).toNatClampNeg = 0) → wX_putIn_81 post (nI i) (op i) x3 x4 x5 ct ms gv sz dp ch cv bs rc mz ls tc rd pc ps tk wa sp ip op tg fi se hz lt lq ik kv sa ve vf vs vt vc ll lh la lu bg en ro hq mo mt mf mq pv ce fn va rg := by
    intro x3 x4 x5 a b c
    unfold wX_putIn_81
    rw [hc]
    refine br_c (fun e => zx_put103 hi hwi a b (fun q => absurd e q) h) (fun g4 => ⟨hin, zk_vin hse, zx_put103 hi hwi a b (fun _ V D hFV => ?_) h⟩)
    obtain ⟨r2, nk⟩ := c g4
    rw [zq_y, if_pos r2]; exact hF V D hFV _ (zk_clin hse.1 hse.2) nk
  have k60 : ∀ x3 x4 : Int32, (¬ x3 = 0 → zq_r1 (op i) ∧ ¬ ik (fi i).toNatClampNeg = 0) →
      (¬ x4 = 0 → zq_r2 (op i) ∧ ¬ ik (se i).toNatClampNeg = 0) → wX_putIn_60 post (nI i) (op i) x3 x4 ct ms gv sz dp ch cv bs rc mz ls tc rd pc ps tk wa sp ip op tg fi se hz lt lq ik kv sa ve vf vs vt vc ll lh la lu bg en ro hq mo mt mf mq pv ce fn va rg := by
    intro x3 x4 a c
    unfold wX_putIn_60
    rw [hc]
    refine br_c (fun e => k81 x3 x4 0 (fun q => absurd e q) (fun q => absurd e q) c) (fun g3 => ⟨hin, zk_vin (hwi.2.2.2.1 (a g3).1), k81 x3 x4 _ (fun _ => (a g3).1) (fun _ V D hFV => ?_) c⟩)
    obtain ⟨r1, nk⟩ := a g3
    have := hwi.2.2.2.1 r1
    rw [zq_x, if_pos r1]; exact hF V D hFV _ (zk_clin this.1 this.2) nk
  have k33 : ∀ x3 : Int32, (¬ x3 = 0 → zq_r1 (op i) ∧ ¬ ik (fi i).toNatClampNeg = 0) → wX_putIn_33 post (nI i) (op i) x3 ct ms gv sz dp ch cv bs rc mz ls tc rd pc ps tk wa sp ip op tg fi se hz lt lq ik kv sa ve vf vs vt vc ll lh la lu bg en ro hq mo mt mf mq pv ce fn va rg := by
    intro x3 a
    unfold wX_putIn_33 wX_putIn_59
    rw [hc]
    exact zx_readsSecond (zb_br (fun _ => k60 x3 0 a z0) (fun r2 => ⟨hin, zk_vin hse, br_c (fun _ => k60 x3 0 a z0) (fun nk => k60 x3 1 a (fun _ => ⟨r2, nk⟩))⟩))
  unfold wpX_putIn wX_putIn_32
  rw [hc]
  exact ⟨hin, nm_r (e' := op i) rfl (zx_readsFirst (zb_br (fun _ => k33 0 z0) (fun r1 => ⟨hin, zk_vin (hwi.2.2.2.1 r1), br_c (fun _ => k33 0 z0) (fun nk => k33 1 (fun _ => ⟨r1, nk⟩))⟩)))⟩
end
end
section
/-! useAgain, noteVersions, learnFrom -/
theorem zk_vp {x : Int32} (h : 0 ≤ x ∧ x < 180) : vp_in x 180 := by
  have h2 := Int32.le_iff_toInt_le.mp h.1
  have h3 := Int32.lt_iff_toInt_lt.mp h.2
  rw [show (0 : Int32).toInt = 0 from by decide] at h2
  rw [show (180 : Int32).toInt = 180 from by decide] at h3
  exact vp_in_iff.mpr ⟨h2, h3⟩
theorem zk_sm1 (x : Int32) : x - 1 = x + (-1) := Int32.sub_eq_add_neg x 1
theorem zk_m1lt {n : Nat} (h : n < 2 ^ 31) : nI 0 + (-1) < nI n := by
  rw [Int32.lt_iff_toInt_lt, nI_toInt h, show (nI 0 + (-1)).toInt = -1 from by decide]
  omega
section
variable {ct ms gv sz dp ch cv bs rc mz ls tc rd pc ps : Int32} {tk wa sp ip op tg fi se hz lt lq ik kv sa ve vf vs vt vc la lu bg en ro hq mo mt mf mq pv ce fn va rg : Nat → Int32} {ll lh : Nat → Int64}
variable {g : Nat} {I : ty_V} {F : ty_V → ty_D → Prop} {i : Nat}
theorem zx_stillHolds {post : Int32 → Prop} {j : Nat} (hj : j < 512) (hwi : zq_wi (op j) (tg j) (fi j) (se j) (hz j)) (h3 : 3 ≤ op j) (h12 : op j ≤ 12)
    (h : ∀ r, (¬ r = 0 → zk_h op tg fi se cv ve vf vs vt vc j) → post r) : wpX_stillHolds post (ct, ms, gv, sz, dp, ch, cv, bs, rc, mz, ls, tc, rd, pc, ps, tk, wa, sp, ip, op, tg, fi, se, hz, lt, lq, ik, kv, sa, ve, vf, vs, vt, vc, ll, lh, la, lu, bg, en, ro, hq, mo, mt, mf, mq, pv, ce, fn, va, rg) (nI j) := by
  have hc : (nI j).toNatClampNeg = j := nI_clamp (by omega)
  have hin : vp_in (nI j) 512 := vp_in_nI hj (by decide)
  have r1 : zq_r1 (op j) := Or.inl ⟨Int32.le_trans (by decide) h3, Int32.le_trans h12 (by decide)⟩
  have hw : zq_wr (op j) := Or.inl ⟨Int32.le_trans (by decide) h3, h12⟩
  have vf1 := zk_vin (hwi.2.2.2.1 r1)
  have vs1 := zk_vin hwi.2.2.2.2.1
  have vt1 := zk_vin ⟨hwi.2.1.1, hwi.2.2.1 hw⟩
  have n0 : post 0 := h 0 (fun q => absurd rfl q)
  have z0 : ∀ {P : Prop}, ¬ (0 : Int32) = 0 → P := fun q => absurd rfl q
  have k97 : ∀ x2 z : Int32, (¬ x2 = 0 → vf j = ve (fi j).toNatClampNeg ∧ (zq_r2 (op j) → vs j = ve (se j).toNatClampNeg)) → (¬ z = 0 → op j = 12 → vc j = cv) →
      wX_stillHolds_97 post (nI j) x2 z ct ms gv sz dp ch cv bs rc mz ls tc rd pc ps tk wa sp ip op tg fi se hz lt lq ik kv sa ve vf vs vt vc ll lh la lu bg en ro hq mo mt mf mq pv ce fn va rg := by
    intro x2 z a b
    unfold wX_stillHolds_97
    rw [hc]
    exact br_c (fun _ => n0) (fun g2 => br_c (fun _ => n0) (fun gz => ⟨hin, hin, vt1, br_c (fun e => h 1 (fun _ => ⟨(a g2).1, (a g2).2, b gz, e⟩)) (fun _ => n0)⟩))
  have k68 : ∀ x2 : Int32, (¬ x2 = 0 → vf j = ve (fi j).toNatClampNeg ∧ (zq_r2 (op j) → vs j = ve (se j).toNatClampNeg)) → wX_stillHolds_68 post (nI j) x2 ct ms gv sz dp ch cv bs rc mz ls tc rd pc ps tk wa sp ip op tg fi se hz lt lq ik kv sa ve vf vs vt vc ll lh la lu bg en ro hq mo mt mf mq pv ce fn va rg := by
    intro x2 a
    unfold wX_stillHolds_68 wX_stillHolds_92
    rw [hc]
    exact ⟨hin, br_c (fun e => ⟨hin, br_c (fun e2 => k97 x2 1 a (fun _ _ => e2)) (fun _ => k97 x2 0 a z0)⟩) (fun n => k97 x2 1 a (fun _ q => absurd q n))⟩
  have k25 : ∀ x2 : Int32, (¬ x2 = 0 → vf j = ve (fi j).toNatClampNeg) → wX_stillHolds_25 post (nI j) x2 ct ms gv sz dp ch cv bs rc mz ls tc rd pc ps tk wa sp ip op tg fi se hz lt lq ik kv sa ve vf vs vt vc ll lh la lu bg en ro hq mo mt mf mq pv ce fn va rg := by
    intro x2 a
    unfold wX_stillHolds_25 wX_stillHolds_66 wX_stillHolds_67
    rw [hc]
    exact ⟨hin, zx_readsSecond (zb_br (fun n => k68 x2 (fun q => ⟨a q, fun q2 => absurd q2 n⟩)) (fun r2 => br_c (fun _ => k68 0 z0) (fun g => ⟨hin, hin, vs1,
      br_c (fun e => k68 1 (fun _ => ⟨a g, fun _ => e⟩)) (fun _ => k68 0 z0)⟩)))⟩
  unfold wpX_stillHolds
  rw [hc]
  exact ⟨hin, hin, vf1, br_c (fun e => k25 1 (fun _ => e)) (fun _ => k25 0 z0)⟩
theorem zx_useAgain {post : SX → Prop} {b : Nat} (hi : i < 512) (hb : b < 2 ^ 31) (hwi : ∀ j, j ≤ i → zq_wi (op j) (tg j) (fi j) (se j) (hz j))
    (hF : ∀ V D, F V D → ∀ j, b ≤ j → j < i → 3 ≤ op j → op j ≤ 12 → zk_h op tg fi se cv ve vf vs vt vc j →
      zq_end g (op j) (zq_x (op j) (fi j) V) (zq_y (op j) (se j) V) D = 0 ∧ V (tg j).toNatClampNeg = zq_res I (op j) (zq_x (op j) (fi j) V) (zq_y (op j) (se j) V) D)
    (h : ∀ o' f' s' h' c', zk_Q g I F (op i) (tg i) (fi i) (se i) (hz i) o' f' s' h' → post (ct, ms, gv, sz, dp, c', cv, nI b, rc, mz, ls, tc, rd, pc, ps, tk, wa, sp, ip, upd op i o', tg, upd fi i f', upd se i s', upd hz i h', lt, lq, ik, kv, sa, ve, vf, vs, vt, vc, ll, lh, la, lu, bg, en, ro, hq, mo, mt, mf, mq, pv, ce, fn, va, rg)) :
    wpX_useAgain post (ct, ms, gv, sz, dp, ch, cv, nI b, rc, mz, ls, tc, rd, pc, ps, tk, wa, sp, ip, op, tg, fi, se, hz, lt, lq, ik, kv, sa, ve, vf, vs, vt, vc, ll, lh, la, lu, bg, en, ro, hq, mo, mt, mf, mq, pv, ce, fn, va, rg) (nI i) := by
  have hc : (nI i).toNatClampNeg = i := nI_clamp (by omega)
  have hin : vp_in (nI i) 512 := vp_in_nI hi (by decide)
  have hn : post (ct, ms, gv, sz, dp, ch, cv, nI b, rc, mz, ls, tc, rd, pc, ps, tk, wa, sp, ip, op, tg, fi, se, hz, lt, lq, ik, kv, sa, ve, vf, vs, vt, vc, ll, lh, la, lu, bg, en, ro, hq, mo, mt, mf, mq, pv, ce, fn, va, rg) := by
    have := h (op i) (fi i) (se i) (hz i) ch (zk_Qr (hwi i (Nat.le_refl _)))
    rw [zq_uself, zq_uself, zq_uself, zq_uself] at this; exact this
  unfold wpX_useAgain
  rw [hc]
  refine ⟨hin, nm_r (e' := op i) rfl (br_c (fun _ => hn) (fun g3 => br_c (fun g12 => nm_r (zk_sm1 _) ⟨i + 1, ?_⟩) (fun _ => hn)))⟩
  have lp : ∀ k, k ≤ i → wX_useAgain_23 post (nI i) (op i) ct ms gv sz dp ch cv (nI b) rc mz ls tc rd pc ps tk wa sp ip op tg fi se hz lt lq ik kv sa ve vf vs vt vc ll lh la lu bg en ro hq mo mt mf mq pv ce fn va rg (k + 1) (nI k + (-1)) := by
    intro k
    induction k with
    | zero => intro _; exact br_t (zk_m1lt hb) hn
    | succ k ih =>
      intro hk
      rw [pk_m1]
      have ih := ih (by omega)
      by_cases hkb : k < b
      · exact br_t (nI_lt hkb hb) hn
      · have hck : (nI k).toNatClampNeg = k := nI_clamp (by omega)
        have hink : vp_in (nI k) 512 := vp_in_nI (by omega) (by decide)
        refine br_f (nI_nlt (by omega) (by omega)) ?_
        rw [hck, hc]
        refine ⟨hink, br_c (fun e1 => ⟨hink, hin, br_c (fun e2 => ⟨hink, hin, br_c (fun e3 => ?_) (fun _ => nm_e ih)⟩) (fun _ => nm_e ih)⟩) (fun _ => nm_e ih)⟩
        have o3 : 3 ≤ op k := by rw [e1]; exact Int32.not_lt.mp g3
        have o12 : op k ≤ 12 := by rw [e1]; exact g12
        have hwk := hwi k (by omega)
        refine zx_stillHolds (by omega) hwk o3 o12 (fun r hr => br_c (fun _ => nm_e ih) (fun gr => ⟨hink, zx_replace hi (by decide) (h 2 (tg k) 0 0 1 ?_)⟩))
        refine zk_Qm ⟨Int32.le_trans (by decide) (Int32.not_lt.mp g3), g12⟩ (hwi i (Nat.le_refl _)) ⟨hwk.2.1.1, hwk.2.2.1 (Or.inl ⟨Int32.le_trans (by decide) o3, o12⟩)⟩ (fun V D hFV => ?_)
        have := hF V D hFV k (by omega) (by omega) o3 o12 (hr gr)
        rw [e1, e2, e3] at this
        exact this
  exact lp i (Nat.le_refl _)
theorem zx_noteVersions {post : SX → Prop} (hi : i < 512) (hwi : zq_wi (op i) (tg i) (fi i) (se i) (hz i))
    (h : post (ct, ms, gv, sz, dp, ch, if op i = 13 then cv + 1 else cv, bs, rc, mz, ls, tc, rd, pc, ps, tk, wa, sp, ip, op, tg, fi, se, hz, lt, lq, ik, kv, sa, if zq_wr (op i) then upd ve (tg i).toNatClampNeg (ve (tg i).toNatClampNeg + 1) else ve, upd vf i (if zq_r1 (op i) then ve (fi i).toNatClampNeg else 0), upd vs i (if zq_r2 (op i) then ve (se i).toNatClampNeg else 0), if zq_wr (op i) then upd vt i (ve (tg i).toNatClampNeg + 1) else vt, upd vc i cv, ll, lh, la, lu, bg, en, ro, hq, mo, mt, mf, mq, pv, ce, fn, va, rg)) :
    wpX_noteVersions post (ct, ms, gv, sz, dp, ch, cv, bs, rc, mz, ls, tc, rd, pc, ps, tk, wa, sp, ip, op, tg, fi, se, hz, lt, lq, ik, kv, sa, ve, vf, vs, vt, vc, ll, lh, la, lu, bg, en, ro, hq, mo, mt, mf, mq, pv, ce, fn, va, rg) (nI i) := by
  have hc : (nI i).toNatClampNeg = i := nI_clamp (by omega)
  have hin : vp_in (nI i) 512 := vp_in_nI hi (by decide)
  have vs1 := zk_vin hwi.2.2.2.2.1
  have k89 : wX_noteVersions_89 post (nI i) (op i) ct ms gv sz dp ch (if op i = 13 then cv + 1 else cv) bs rc mz ls tc rd pc ps tk wa sp ip op tg fi se hz lt lq ik kv sa ve (upd vf i (if zq_r1 (op i) then ve (fi i).toNatClampNeg else 0)) (upd vs i (if zq_r2 (op i) then ve (se i).toNatClampNeg else 0)) vt (upd vc i cv) ll lh la lu bg en ro hq mo mt mf mq pv ce fn va rg := by
    unfold wX_noteVersions_89
    rw [hc]
    refine zx_writes (zb_br (fun n => ?_) (fun w => ?_))
    · rw [if_neg n, if_neg n] at h; exact h
    · rw [if_pos w, if_pos w] at h
      have vt1 := zk_vin ⟨hwi.2.1.1, hwi.2.2.1 w⟩
      exact ⟨hin, vt1, vt1, nm_e ⟨hin, vt1, hin, nm_r (e' := upd vt i (ve (tg i).toNatClampNeg + 1)) (by rw [zq_us]) h⟩⟩
  have k62 : wX_noteVersions_62 post (nI i) (op i) (if zq_r2 (op i) then ve (se i).toNatClampNeg else 0) (nI i) ct ms gv sz dp ch cv bs rc mz ls tc rd pc ps tk wa sp ip op tg fi se hz lt lq ik kv sa ve (upd vf i (if zq_r1 (op i) then ve (fi i).toNatClampNeg else 0)) vs vt vc ll lh la lu bg en ro hq mo mt mf mq pv ce fn va rg := by
    unfold wX_noteVersions_62
    rw [hc]
    refine ⟨hin, nm_e ⟨hin, nm_e (br_c (fun e => nm_e ?_) (fun n => ?_))⟩⟩
    · rw [if_pos e] at k89; exact k89
    · rw [if_neg n] at k89; exact k89
  have k34 : wX_noteVersions_34 post (nI i) (op i) (if zq_r1 (op i) then ve (fi i).toNatClampNeg else 0) (nI i) ct ms gv sz dp ch cv bs rc mz ls tc rd pc ps tk wa sp ip op tg fi se hz lt lq ik kv sa ve vf vs vt vc ll lh la lu bg en ro hq mo mt mf mq pv ce fn va rg := by
    unfold wX_noteVersions_34
    rw [hc]
    refine ⟨hin, nm_e (zx_readsSecond (zb_br (fun n => ?_) (fun r2 => ⟨hin, vs1, ?_⟩)))⟩
    · rw [if_neg n] at k62; exact k62
    · rw [if_pos r2] at k62; exact k62
  unfold wpX_noteVersions
  rw [hc]
  refine ⟨hin, nm_r (e' := op i) rfl (zx_readsFirst (zb_br (fun n => ?_) (fun r1 => ⟨hin, zk_vin (hwi.2.2.2.1 r1), ?_⟩)))⟩
  · rw [if_neg n] at k34; exact k34
  · rw [if_pos r1] at k34; exact k34
theorem zx_learnFrom {post : SX → Prop} (hi : i < 512) (hwi : zq_wi (op i) (tg i) (fi i) (se i) (hz i)) (hsa : ∀ v, v < 96 → sa v = -1 ∨ (0 ≤ sa v ∧ sa v < 96))
    (h0 : ¬ zq_wr (op i) → post (ct, ms, gv, sz, dp, ch, cv, bs, rc, mz, ls, tc, rd, pc, ps, tk, wa, sp, ip, op, tg, fi, se, hz, lt, lq, ik, kv, sa, ve, vf, vs, vt, vc, ll, lh, la, lu, bg, en, ro, hq, mo, mt, mf, mq, pv, ce, fn, va, rg))
    (h1 : zq_wr (op i) → ∀ ik' kv' sa' : ty_V, (∀ v, v < 96 → sa' v = -1 ∨ (0 ≤ sa' v ∧ sa' v < 96)) → 
      (∀ v, v < 96 → v ≠ (tg i).toNatClampNeg → ik' v = ik v ∧ kv' v = kv v ∧ (sa' v = -1 ∨ (sa' v = sa v ∧ ¬ sa v = tg i))) →
      (¬ ik' (tg i).toNatClampNeg = 0 → (op i = 1 ∧ kv' (tg i).toNatClampNeg = fi i) ∨ (op i = 2 ∧ ¬ ik (fi i).toNatClampNeg = 0 ∧ kv' (tg i).toNatClampNeg = kv (fi i).toNatClampNeg)) →
      (¬ sa' (tg i).toNatClampNeg < 0 → op i = 2 ∧ sa' (tg i).toNatClampNeg = fi i ∧ ¬ fi i = tg i) → post (ct, ms, gv, sz, dp, ch, cv, bs, rc, mz, ls, tc, rd, pc, ps, tk, wa, sp, ip, op, tg, fi, se, hz, lt, lq, ik', kv', sa', ve, vf, vs, vt, vc, ll, lh, la, lu, bg, en, ro, hq, mo, mt, mf, mq, pv, ce, fn, va, rg)) :
    wpX_learnFrom post (ct, ms, gv, sz, dp, ch, cv, bs, rc, mz, ls, tc, rd, pc, ps, tk, wa, sp, ip, op, tg, fi, se, hz, lt, lq, ik, kv, sa, ve, vf, vs, vt, vc, ll, lh, la, lu, bg, en, ro, hq, mo, mt, mf, mq, pv, ce, fn, va, rg) (nI i) := by
  have hc : (nI i).toNatClampNeg = i := nI_clamp (by omega)
  have hin : vp_in (nI i) 512 := vp_in_nI hi (by decide)
  unfold wpX_learnFrom
  rw [hc]
  refine ⟨hin, nm_r (e' := op i) rfl (zx_writes (zb_br h0 (fun w => ⟨hin, nm_r (e' := tg i) rfl ?_⟩)))⟩
  have htl : 0 ≤ tg i ∧ tg i < 96 := ⟨hwi.2.1.1, hwi.2.2.1 w⟩
  have vt1 := zk_vin htl
  have h1 := h1 w
  -- the loop and what comes behind it
  have k101 : ∀ x4 x5 x6 : Int32, (x4 = -1 ∨ (op i = 2 ∧ x4 = fi i)) → (x5 = 0 ∨ x5 = 1) → (¬ x5 = 0 → (op i = 1 ∧ x6 = fi i) ∨ (op i = 2 ∧ ¬ ik (fi i).toNatClampNeg = 0 ∧ x6 = kv (fi i).toNatClampNeg)) →
      ∀ d k sa', k + d = 96 → (∀ v, v < 96 → (v < k → sa' v = -1 ∨ (sa' v = sa v ∧ ¬ sa v = tg i)) ∧ (k ≤ v → sa' v = sa v)) →
      wX_learnFrom_101 post (tg i) x4 x5 x6 ct ms gv sz dp ch cv bs rc mz ls tc rd pc ps (d + 1) (nI k) tk wa sp ip op tg fi se hz lt lq ik kv sa' ve vf vs vt vc ll lh la lu bg en ro hq mo mt mf mq pv ce fn va rg := by
    intro x4 x5 x6 q4 q5 q6 d
    have hx4 : x4 = -1 ∨ (op i = 2 ∧ x4 = fi i ∧ 0 ≤ x4 ∧ x4 < 96) := by
      rcases q4 with q | ⟨q, e⟩
      · exact Or.inl q
      · have := hwi.2.2.2.1 (by rw [q]; decide)
        rw [← e] at this
        exact Or.inr ⟨q, e, this⟩
    induction d with
    | zero =>
      intro k sa' hk hs
      obtain rfl : k = 96 := by omega
      have fin : ∀ y : Int32, (y = -1 ∨ (op i = 2 ∧ y = fi i ∧ (0 ≤ y ∧ y < 96) ∧ ¬ fi i = tg i)) → post (ct, ms, gv, sz, dp, ch, cv, bs, rc, mz, ls, tc, rd, pc, ps, tk, wa, sp, ip, op, tg, fi, se, hz, lt, lq, upd ik (tg i).toNatClampNeg x5, upd kv (tg i).toNatClampNeg x6, upd sa' (tg i).toNatClampNeg y, ve, vf, vs, vt, vc, ll, lh, la, lu, bg, en, ro, hq, mo, mt, mf, mq, pv, ce, fn, va, rg) := by
        intro y hy
        refine h1 _ _ _ ?_ ?_ ?_ ?_
        · intro v hv
          by_cases e : v = (tg i).toNatClampNeg
          · rw [e, zq_us]
            rcases hy with q | q
            · exact Or.inl q
            · exact Or.inr q.2.2.1
          · rw [zq_un e]
            rcases (hs v hv).1 hv with q | q
            · exact Or.inl q
            · rw [q.1]; exact hsa v hv
        · intro v hv e
          rw [zq_un e, zq_un e, zq_un e]
          exact ⟨rfl, rfl, (hs v hv).1 hv⟩
        · rw [zq_us, zq_us]; exact q6
        · rw [zq_us]
          intro q
          rcases hy with e | ⟨a1, a2, a3, a4⟩
          · rw [e] at q; exact absurd (by decide) q
          · exact ⟨a1, a2, a4⟩
      refine br_t (by decide) ⟨vt1, nm_r (e' := upd ik (tg i).toNatClampNeg x5) ?_ ⟨vt1, nm_e (br_c (fun e => ⟨vt1, nm_r (e' := upd sa' (tg i).toNatClampNeg (-1)) rfl (fin (-1) (Or.inl rfl))⟩) (fun n => ⟨vt1, nm_r (e' := upd sa' (tg i).toNatClampNeg x4) ?_ (fin x4 ?_)⟩))⟩⟩
      · rcases q5 with e | e <;> rw [e] <;> rfl
      · rw [pk_vb, zn_b ?_ ?_]
        · rcases hx4 with e | e
          · rw [e]; decide
          · exact Int32.le_trans (by decide) e.2.2.1
        · rcases hx4 with e | e
          · rw [e]; decide
          · exact Int32.le_trans (Int32.le_of_lt e.2.2.2) (by decide)
      · rcases hx4 with e | e
        · exact Or.inl e
        · exact Or.inr ⟨e.1, e.2.1, e.2.2, fun q => n (e.2.1.trans q)⟩
    | succ d ih =>
      intro k sa' hk hs
      have hin2 : vp_in (nI k) 96 := vp_in_nI (by omega) (by decide)
      have hck : (nI k).toNatClampNeg = k := nI_clamp (by omega)
      have hsk : sa' k = sa k := (hs k (by omega)).2 (Nat.le_refl _)
      refine br_f (nI_ge (b := 96) (by omega) (by decide)) ?_
      rw [hck]
      refine ⟨hin2, br_c (fun e => ⟨hin2, nm_r (e' := upd sa' k (-1)) rfl (nm_r (nI_1 k) (ih (k + 1) _ (by omega) ?_))⟩) (fun n => ⟨hin2, hin2, nm_r (e' := sa') ?_ (nm_r (nI_1 k) (ih (k + 1) _ (by omega) ?_))⟩)⟩
      · intro v hv
        by_cases e2 : v = k
        · subst e2
          rw [zq_us]
          exact ⟨fun _ => Or.inl rfl, fun q => by omega⟩
        · rw [zq_un e2]
          exact ⟨fun q => (hs v hv).1 (by omega), fun q => (hs v hv).2 (by omega)⟩
      · have e3 : vp_nar .byte (sa' k) = sa' k := by
          rw [vp_nar_byte, hsk, zn_b ?_ ?_]
          · rcases hsa k (by omega) with q | q
            · rw [q]; decide
            · exact Int32.le_trans (by decide) q.1
          · rcases hsa k (by omega) with q | q
            · rw [q]; decide
            · exact Int32.le_trans (Int32.le_of_lt q.2) (by decide)
        rw [e3, zq_uself]
      · intro v hv
        by_cases e2 : v = k
        · subst e2
          exact ⟨fun _ => Or.inr ⟨hsk, fun q => n (hsk.trans q)⟩, fun q => by omega⟩
        · exact ⟨fun q => (hs v hv).1 (by omega), fun q => (hs v hv).2 (by omega)⟩
  have k0 : ∀ x4 x5 x6 : Int32, (x4 = -1 ∨ (op i = 2 ∧ x4 = fi i)) → (x5 = 0 ∨ x5 = 1) → (¬ x5 = 0 → (op i = 1 ∧ x6 = fi i) ∨ (op i = 2 ∧ ¬ ik (fi i).toNatClampNeg = 0 ∧ x6 = kv (fi i).toNatClampNeg)) →
      ∃ n, wX_learnFrom_101 post (tg i) x4 x5 x6 ct ms gv sz dp ch cv bs rc mz ls tc rd pc ps n 0 tk wa sp ip op tg fi se hz lt lq ik kv sa ve vf vs vt vc ll lh la lu bg en ro hq mo mt mf mq pv ce fn va rg :=
    fun x4 x5 x6 a b c => ⟨97, k101 x4 x5 x6 a b c 96 0 sa rfl (fun v _ => ⟨fun q => by omega, fun _ => rfl⟩)⟩
  have z0 : ∀ {P : Prop}, ¬ (0 : Int32) = 0 → P := fun q => absurd rfl q
  have k64 : ∀ x4 x5 : Int32, (x4 = -1 ∨ (op i = 2 ∧ x4 = fi i)) → (x5 = 0 ∨ x5 = 1) → (¬ x5 = 0 → op i = 1 ∨ (op i = 2 ∧ x4 = fi i ∧ ¬ ik (fi i).toNatClampNeg = 0)) → wX_learnFrom_64 post (nI i) (op i) (tg i) x4 x5 ct ms gv sz dp ch cv bs rc mz ls tc rd pc ps tk wa sp ip op tg fi se hz lt lq ik kv sa ve vf vs vt vc ll lh la lu bg en ro hq mo mt mf mq pv ce fn va rg := by
    intro x4 x5 a b c
    unfold wX_learnFrom_64
    rw [hc]
    refine br_c (fun e => ⟨hin, nm_e (k0 x4 x5 _ a b (fun q => Or.inl ⟨e, rfl⟩))⟩) (fun n => br_c (fun g4 => k0 x4 x5 0 a b (fun q => ?_)) (fun g4 => ?_))
    · rcases c q with e | ⟨e, e2, e3⟩
      · exact absurd e n
      · have := hwi.2.2.2.1 (by rw [e]; decide)
        rw [e2] at g4; exact absurd (Int32.lt_of_lt_of_le g4 this.1) Int32.lt_irrefl
    · rcases a with e | ⟨e, e2⟩
      · rw [e] at g4; exact absurd (by decide) g4
      · have := hwi.2.2.2.1 (by rw [e]; decide)
        refine ⟨by rw [e2]; exact zk_vin this, nm_e (k0 x4 x5 _ (Or.inr ⟨e, e2⟩) b (fun q => Or.inr ?_))⟩
        rcases c q with e3 | ⟨_, _, e3⟩
        · exact absurd e3 n
        · exact ⟨e, e3, by rw [e2]⟩
  have k37 : ∀ x4 : Int32, (x4 = -1 ∨ (op i = 2 ∧ x4 = fi i)) → wX_learnFrom_37 post (nI i) (op i) (tg i) x4 ct ms gv sz dp ch cv bs rc mz ls tc rd pc ps tk wa sp ip op tg fi se hz lt lq ik kv sa ve vf vs vt vc ll lh la lu bg en ro hq mo mt mf mq pv ce fn va rg := by
    intro x4 a
    unfold wX_learnFrom_37 wX_learnFrom_59 wX_learnFrom_63
    refine br_c (fun e => k64 x4 1 a (Or.inr rfl) (fun _ => Or.inl e)) (fun n => br_c (fun _ => k64 x4 0 a (Or.inl rfl) z0) (fun g4 => ?_))
    rcases a with e | ⟨e, e2⟩
    · rw [e] at g4; exact absurd (by decide) g4
    · have := hwi.2.2.2.1 (by rw [e]; decide)
      refine ⟨by rw [e2]; exact zk_vin this, br_c (fun _ => k64 x4 0 (Or.inr ⟨e, e2⟩) (Or.inl rfl) z0) (fun nk => k64 x4 1 (Or.inr ⟨e, e2⟩) (Or.inr rfl) (fun _ => Or.inr ⟨e, e2, ?_⟩))⟩
      rw [e2] at nk; exact nk
  exact br_c (fun e => ⟨hin, k37 _ (Or.inr ⟨e, rfl⟩)⟩) (fun _ => k37 (-1) (Or.inl rfl))
end
end
section
/-! improveBlocks -/
section
variable {g : Nat} {I : ty_V} {R : ty_R} {D0 : ty_D} {n b i : Nat} {op tg fi se hz : ty_V} {cv : Int32} {ik kv sa ve vf vs vt vc : ty_V}
theorem zk_Fc {op' fi' se' : ty_V} {V : ty_V} {D : ty_D} (hc : ∀ j, j < i → op' j = op j ∧ fi' j = fi j ∧ se' j = se j)
    (h : zk_F g I b i op tg fi se cv ik kv sa ve vf vs vt vc V D) : zk_F g I b i op' tg fi' se' cv ik kv sa ve vf vs vt vc V D := by
  refine ⟨h.1, h.2.1, ?_⟩
  intro j hb hj
  obtain ⟨e1, e2, e3⟩ := hc j hj
  unfold zk_h
  rw [e1, e2, e3]
  exact h.2.2 j hb hj
theorem zk_Sc {op' fi' se' : ty_V} (hc : ∀ j, j < i → op' j = op j ∧ fi' j = fi j ∧ se' j = se j)
    (h : zk_S i op tg fi se cv sa ve vf vs vt vc) : zk_S i op' tg fi' se' cv sa ve vf vs vt vc := by
  refine ⟨h.1, h.2.1, h.2.2.1, ?_⟩
  intro j hj
  obtain ⟨e1, e2, e3⟩ := hc j hj
  rw [e1, e2, e3]
  exact h.2.2.2 j hj
theorem zk_wfu {F : ty_V → ty_D → Prop} {o3 f3 s3 h3 : Int32} (hwf : zq_wf n op tg fi se hz) (hQ : zk_Q g I F (op i) (tg i) (fi i) (se i) (hz i) o3 f3 s3 h3) :
    zq_wf n (upd op i o3) tg (upd fi i f3) (upd se i s3) (upd hz i h3) := by
  obtain ⟨w1, w2, w3, w4⟩ := hwf
  have o20 : ∀ q, upd op i o3 q = 20 ↔ op q = 20 := by
    intro q
    by_cases e : q = i
    · subst e; rw [zq_us]; exact hQ.2.2.1
    · rw [zq_un e]
  refine ⟨w1, ?_, ?_, ?_⟩
  · intro j hj
    by_cases e : j = i
    · subst e; rw [zq_us, zq_us, zq_us, zq_us]; exact hQ.2.1
    · rw [zq_un e, zq_un e, zq_un e, zq_un e]; exact w2 j hj
  · intro j hj hp
    have hp2 : zq_jp (op j) := by
      by_cases e : j = i
      · subst e; rw [zq_us] at hp; exact hQ.2.2.2 hp
      · rw [zq_un e] at hp; exact hp
    obtain ⟨q, a1, a2, a3⟩ := w3 j hj hp2
    exact ⟨q, a1, (o20 q).mpr a2, a3⟩
  · intro p q hp hq h1 h2 h3
    exact w4 p q hp hq ((o20 p).mp h1) ((o20 q).mp h2) h3
theorem zk_exu {F : ty_V → ty_D → Prop} {o3 f3 s3 h3 : Int32} {m : Nat} (hQ : zk_Q g I F (op i) (tg i) (fi i) (se i) (hz i) o3 f3 s3 h3)
    (h : zq_ex g I n op tg fi se (fun p V D => zq_hm g op fi se hz p V D ∧ (p = i → F V D)) R m 99 0 (fun _ => 0) D0) :
    zq_ex g I n (upd op i o3) tg (upd fi i f3) (upd se i s3) (fun p V D => zq_hm g (upd op i o3) (upd fi i f3) (upd se i s3) (upd hz i h3) p V D ∧ (p = i → F V D)) R m 99 0 (fun _ => 0) D0 := by
  refine zq_swap ?_ ?_ m 99 0 _ D0 h
  · intro p V D hp hA
    by_cases e : p = i
    · subst e
      obtain ⟨a1, a2⟩ := hQ.1 V D (hA.2 rfl)
      unfold zq_hm
      rw [zq_us, zq_us, zq_us, zq_us]
      exact ⟨⟨a2 hA.1, hA.2⟩, a1⟩
    · unfold zq_hm
      rw [zq_un e, zq_un e, zq_un e, zq_un e]
      exact ⟨⟨hA.1, hA.2⟩, fun J T N h => h⟩
  · intro p q _ _ _ h20 _
    refine ⟨?_, rfl⟩
    by_cases e : q = i
    · subst e; rw [zq_us]; exact hQ.2.2.1.mpr h20
    · rw [zq_un e]; exact h20
/-- what holds at the loop's head -/
def zk_G (g : Nat) (I : ty_V) (R : ty_R) (D0 : ty_D) (n b i : Nat) (op tg fi se hz : ty_V) (cv : Int32) (ik kv sa ve vf vs vt vc : ty_V) : Prop :=
  zq_wf n op tg fi se hz ∧ zk_S i op tg fi se cv sa ve vf vs vt vc ∧
  ∃ m, zq_ex g I n op tg fi se (fun p V D => zq_hm g op fi se hz p V D ∧ (p = i → ¬ op p = 20 → zk_F g I b i op tg fi se cv ik kv sa ve vf vs vt vc V D)) R m 99 0 (fun _ => 0) D0
theorem zk_next {o3 f3 s3 h3 : Int32} {cv' : Int32} {ik' kv' sa' ve' vf' vs' vt' vc' : ty_V} {m : Nat} (hin : i < n) (hwf : zq_wf n op tg fi se hz) (hS : zk_S i op tg fi se cv sa ve vf vs vt vc)
    (h : zq_ex g I n op tg fi se (fun p V D => zq_hm g op fi se hz p V D ∧ (p = i → zk_F g I b i op tg fi se cv ik kv sa ve vf vs vt vc V D)) R m 99 0 (fun _ => 0) D0)
    (hQ : zk_Q g I (zk_F g I b i op tg fi se cv ik kv sa ve vf vs vt vc) (op i) (tg i) (fi i) (se i) (hz i) o3 f3 s3 h3)
    (hsr : ∀ v, v < 96 → sa' v = -1 ∨ (0 ≤ sa' v ∧ sa' v < 96))
    (hvf : vf' = upd vf i (if zq_r1 (upd op i o3 i) then ve (upd fi i f3 i).toNatClampNeg else 0))
    (hvs : vs' = upd vs i (if zq_r2 (upd op i o3 i) then ve (upd se i s3 i).toNatClampNeg else 0)) (hvc : vc' = upd vc i cv) (hcv : cv' = if upd op i o3 i = 13 then cv + 1 else cv)
    (hve : ve' = if zq_wr (upd op i o3 i) then upd ve (tg i).toNatClampNeg (ve (tg i).toNatClampNeg + 1) else ve)
    (hvt : vt' = if zq_wr (upd op i o3 i) then upd vt i (ve (tg i).toNatClampNeg + 1) else vt)
    (hnw : ¬ zq_wr (upd op i o3 i) → ik' = ik ∧ kv' = kv ∧ sa' = sa)
    (hw0 : zq_wr (upd op i o3 i) → ∀ v, v < 96 → v ≠ (tg i).toNatClampNeg → ik' v = ik v ∧ kv' v = kv v ∧ (sa' v = -1 ∨ (sa' v = sa v ∧ ¬ sa v = tg i)))
    (hw1 : zq_wr (upd op i o3 i) → ¬ ik' (tg i).toNatClampNeg = 0 → (upd op i o3 i = 1 ∧ kv' (tg i).toNatClampNeg = upd fi i f3 i) ∨ (upd op i o3 i = 2 ∧ ¬ ik (upd fi i f3 i).toNatClampNeg = 0 ∧ kv' (tg i).toNatClampNeg = kv (upd fi i f3 i).toNatClampNeg))
    (hw2 : zq_wr (upd op i o3 i) → ¬ sa' (tg i).toNatClampNeg < 0 → upd op i o3 i = 2 ∧ sa' (tg i).toNatClampNeg = upd fi i f3 i ∧ ¬ upd fi i f3 i = tg i) :
    zk_G g I R D0 n b (i + 1) (upd op i o3) tg (upd fi i f3) (upd se i s3) (upd hz i h3) cv' ik' kv' sa' ve' vf' vs' vt' vc' := by
  have hwf3 := zk_wfu hwf hQ
  have hex3 := zk_exu hQ h
  have hcg : ∀ j, j < i → upd op i o3 j = op j ∧ upd fi i f3 j = fi j ∧ upd se i s3 j = se j := fun j hj => ⟨zq_un (by omega), zq_un (by omega), zq_un (by omega)⟩
  have hS3 := zk_Sc hcg hS
  have hi : i < 600 := by have := hwf.1; omega
  have hwi3 : ∀ j, j ≤ i → zq_wi (upd op i o3 j) (tg j) (upd fi i f3 j) (upd se i s3 j) 0 := by
    intro j hj
    obtain ⟨a1, a2, a3, a4, a5, _⟩ := hwf3.2.1 j (by omega)
    exact ⟨a1, a2, a3, a4, a5, Or.inl rfl⟩
  refine ⟨hwf3, zk_Sadv hi hS3 hwi3 hsr hvf hvs hvc hcv hve hvt, m, ?_⟩
  refine zq_mono (A := fun p V D => (zq_hm g (upd op i o3) (upd fi i f3) (upd se i s3) (upd hz i h3) p V D ∧ (p = i → zk_F g I b i op tg fi se cv ik kv sa ve vf vs vt vc V D)) ∧
    (p = i + 1 → ¬ upd op i o3 p = 20 → zk_F g I b (i + 1) (upd op i o3) tg (upd fi i f3) (upd se i s3) cv' ik' kv' sa' ve' vf' vs' vt' vc' V D)) (fun p V D _ hA => ⟨hA.1.1, hA.2⟩) m 99 0 _ D0 m 99 (Nat.le_refl _) (Nat.le_refl _) ?_
  refine zq_adv i ?_ m 99 0 _ D0 (fun q => by omega) hex3
  intro V D hA _ hend
  exact zk_Fadv hi hS3 (zk_Fc hcg (hA.2 rfl)) hwi3 hvf hvs hvc hcv hve hvt hnw hw0 hw1 hw2 hend
end
section
variable {ct ms gv sz dp ch cv bs rc mz ls tc rd pc ps : Int32} {tk wa sp ip op tg fi se hz lt lq ik kv sa ve vf vs vt vc la lu bg en ro hq mo mt mf mq pv ce fn va rg : Nat → Int32} {ll lh : Nat → Int64}
variable {g : Nat} {I : ty_V} {R : ty_R} {D0 : ty_D} {n i b : Nat} {post : SX → Prop}
theorem zx_ib57 {J : Int32 → Int32 → Int32 → Int32 → Int32 → Int32 → Int32 → Int32 → Int32 → Int32 → Int32 → Int32 → Int32 → Int32 → Int32 → Int32 → (Nat → Int32) → (Nat → Int32) → (Nat → Int32) → (Nat → Int32) → (Nat → Int32) → (Nat → Int32) → (Nat → Int32) → (Nat → Int32) → (Nat → Int32) → (Nat → Int32) → (Nat → Int32) → (Nat → Int32) → (Nat → Int32) → (Nat → Int32) → (Nat → Int32) → (Nat → Int32) → (Nat → Int32) → (Nat → Int32) → (Nat → Int32) → (Nat → Int64) → (Nat → Int64) → (Nat → Int32) → (Nat → Int32) → (Nat → Int32) → (Nat → Int32) → (Nat → Int32) → (Nat → Int32) → (Nat → Int32) → (Nat → Int32) → (Nat → Int32) → (Nat → Int32) → (Nat → Int32) → (Nat → Int32) → (Nat → Int32) → (Nat → Int32) → (Nat → Int32) → Prop}
    {m : Nat} (hin : i < n) (hb : b < 2 ^ 31) (hwf : zq_wf n op tg fi se hz) (hS : zk_S i op tg fi se cv sa ve vf vs vt vc)
    (h : zq_ex g I n op tg fi se (fun p V D => zq_hm g op fi se hz p V D ∧ (p = i → zk_F g I b i op tg fi se cv ik kv sa ve vf vs vt vc V D)) R m 99 0 (fun _ => 0) D0)
    (H : ∀ op' fi' se' hz' ch' cv' ik' kv' sa' ve' vf' vs' vt' vc', zk_G g I R D0 n b (i + 1) op' tg fi' se' hz' cv' ik' kv' sa' ve' vf' vs' vt' vc' →
      J (nI (i + 1)) ct ms gv sz dp ch' cv' (nI b) rc mz ls tc rd pc ps tk wa sp ip op' tg fi' se' hz' lt lq ik' kv' sa' ve' vf' vs' vt' vc' ll lh la lu bg en ro hq mo mt mf mq pv ce fn va rg) :
    wX_improveBlocks_57 post J (nI i) ct ms gv sz dp ch cv (nI b) rc mz ls tc rd pc ps tk wa sp ip op tg fi se hz lt lq ik kv sa ve vf vs vt vc ll lh la lu bg en ro hq mo mt mf mq pv ce fn va rg := by
  have hi : i < 512 := by have := hwf.1; omega
  have hwi : ∀ j, j ≤ i → zq_wi (op j) (tg j) (fi j) (se j) (hz j) := fun j hj => hwf.2.1 j (by omega)
  unfold wX_improveBlocks_57
  refine zx_followBack (g := g) (I := I) (F := zk_F g I b i op tg fi se cv ik kv sa ve vf vs vt vc) hi (hwi i (Nat.le_refl _)) hS.1 (fun V D hF => hF.2.1) (fun f1 s1 c1 Q1 => ?_)
  refine zx_putIn (g := g) (I := I) (F := zk_F g I b i op tg fi se cv ik kv sa ve vf vs vt vc) hi ?_ (fun V D hF => hF.1) (fun o2 f2 s2 h2 c2 Q2 => ?_)
  · rw [zq_us, zq_us]; exact Q1.2.1
  rw [zq_us, zq_us] at Q2
  rw [zq_uu, zq_uu]
  have Q12 := zk_Qt Q1 Q2
  refine zx_useAgain (g := g) (I := I) (F := zk_F g I b i op tg fi se cv ik kv sa ve vf vs vt vc) hi hb ?_ ?_ (fun o3 f3 s3 h3 c3 Q3 => ?_)
  · intro j hj
    by_cases e : j = i
    · subst e; rw [zq_us, zq_us, zq_us, zq_us]; exact Q2.2.1
    · rw [zq_un e, zq_un e, zq_un e, zq_un e]; exact hwi j hj
  · intro V D hF j hbj hj
    have e : j ≠ i := by omega
    unfold zk_h
    rw [zq_un e, zq_un e, zq_un e]
    exact hF.2.2 j hbj hj
  rw [zq_us, zq_us, zq_us, zq_us] at Q3
  rw [zq_uu, zq_uu, zq_uu, zq_uu]
  have Q13 := zk_Qt Q12 Q3
  have hwi3 : zq_wi (upd op i o3 i) (tg i) (upd fi i f3 i) (upd se i s3 i) (upd hz i h3 i) := by
    rw [zq_us, zq_us, zq_us, zq_us]; exact Q13.2.1
  refine zx_noteVersions hi hwi3 ?_
  refine zx_learnFrom hi hwi3 hS.1 (fun nw => nm_r (nI_1 i) (H _ _ _ _ _ _ _ _ _ _ _ _ _ _ ?_)) (fun w ik' kv' sa' a1 a3 a4 a5 => nm_r (nI_1 i) (H _ _ _ _ _ _ _ _ _ _ _ _ _ _ ?_))
  · exact zk_next hin hwf hS h Q13 hS.1 rfl rfl rfl rfl rfl rfl (fun _ => ⟨rfl, rfl, rfl⟩) (fun q => absurd q nw) (fun q => absurd q nw) (fun q => absurd q nw)
  · exact zk_next hin hwf hS h Q13 a1 rfl rfl rfl rfl rfl rfl (fun q => absurd w q) (fun _ => a3) (fun _ => a4) (fun _ => a5)
theorem zx_ib33 (H : ∀ op' fi' se' hz' ch' cv' bs' ik' kv' sa' ve' vf' vs' vt' vc', zq_gd g I R D0 n op' tg fi' se' hz' →
      post (ct, ms, gv, nI n, dp, ch', cv', bs', rc, mz, ls, tc, rd, pc, ps, tk, wa, sp, ip, op', tg, fi', se', hz', lt, lq, ik', kv', sa', ve', vf', vs', vt', vc', ll, lh, la, lu, bg, en, ro, hq, mo, mt, mf, mq, pv, ce, fn, va, rg)) :
    ∀ d i b op fi se hz ch cv ik kv sa ve vf vs vt vc, i + d = n → b < 2 ^ 31 → zk_G g I R D0 n b i op tg fi se hz cv ik kv sa ve vf vs vt vc →
      wX_improveBlocks_33 post (d + 1) (nI i) ct ms gv (nI n) dp ch cv (nI b) rc mz ls tc rd pc ps tk wa sp ip op tg fi se hz lt lq ik kv sa ve vf vs vt vc ll lh la lu bg en ro hq mo mt mf mq pv ce fn va rg := by
  intro d
  induction d with
  | zero =>
    intro i b op fi se hz ch cv ik kv sa ve vf vs vt vc hi hb hG
    have h5 := hG.1.1
    refine br_t (nI_le (by omega) (by omega)) (H _ _ _ _ _ _ _ _ _ _ _ _ _ _ _ ⟨hG.1, ?_⟩)
    obtain ⟨m, h⟩ := hG.2.2
    exact ⟨m, zq_mono (fun p V D _ hA => hA.1) m 99 0 _ D0 m 99 (Nat.le_refl _) (Nat.le_refl _) h⟩
  | succ d ih =>
    intro i b op fi se hz ch cv ik kv sa ve vf vs vt vc hi hb hG
    have h5 := hG.1.1
    have hc : (nI i).toNatClampNeg = i := nI_clamp (by omega)
    obtain ⟨m, h⟩ := hG.2.2
    refine br_f (nI_ge (by omega) (by omega)) ?_
    rw [hc]
    refine ⟨vp_in_nI (by omega) (by decide), br_c (fun e => ?_) (fun n20 => ?_)⟩
    · refine zx_startBlock ?_
      have f96 : ∀ v, v < 96 → zx_fl ik 0 96 0 v = 0 := fun v hv => if_pos ⟨Nat.zero_le _, hv⟩
      have s96 : ∀ v, v < 96 → zx_fl sa 0 96 (-1) v = -1 := fun v hv => if_pos ⟨Nat.zero_le _, hv⟩
      refine zx_ib57 (g := g) (I := I) (R := R) (D0 := D0) (n := n) (m := m) (b := i) (by omega) (by omega) hG.1 ?_ ?_ (fun op' fi' se' hz' ch' cv' ik' kv' sa' ve' vf' vs' vt' vc' hG' => ih _ _ _ _ _ _ _ _ _ _ _ _ _ _ _ _ (by omega) (by omega) hG')
      · exact ⟨fun v hv => Or.inl (s96 v hv), hG.2.1.2⟩
      · refine zq_mono (fun p V D _ hA => ⟨hA.1, fun _ => ⟨?_, ?_, ?_⟩⟩) m 99 0 _ D0 m 99 (Nat.le_refl _) (Nat.le_refl _) h
        · intro v hv q; exact absurd (f96 v hv) q
        · intro v hv q; rw [s96 v hv] at q; exact absurd (by decide) q
        · intro j h1 h2; omega
    · refine zx_ib57 (g := g) (I := I) (R := R) (D0 := D0) (n := n) (m := m) (b := b) (by omega) hb hG.1 hG.2.1 ?_ (fun op' fi' se' hz' ch' cv' ik' kv' sa' ve' vf' vs' vt' vc' hG' => ih _ _ _ _ _ _ _ _ _ _ _ _ _ _ _ _ (by omega) hb hG')
      exact zq_mono (fun p V D _ hA => ⟨hA.1, fun q => hA.2 q (by rw [q]; exact n20)⟩) m 99 0 _ D0 m 99 (Nat.le_refl _) (Nat.le_refl _) h
theorem zx_improveBlocks (hG : zq_gd g I R D0 n op tg fi se hz)
    (H : ∀ op' fi' se' hz' ch' cv' bs' ik' kv' sa' ve' vf' vs' vt' vc', zq_gd g I R D0 n op' tg fi' se' hz' →
      post (ct, ms, gv, nI n, dp, ch', cv', bs', rc, mz, ls, tc, rd, pc, ps, tk, wa, sp, ip, op', tg, fi', se', hz', lt, lq, ik', kv', sa', ve', vf', vs', vt', vc', ll, lh, la, lu, bg, en, ro, hq, mo, mt, mf, mq, pv, ce, fn, va, rg)) :
    wpX_improveBlocks post (ct, ms, gv, nI n, dp, ch, cv, bs, rc, mz, ls, tc, rd, pc, ps, tk, wa, sp, ip, op, tg, fi, se, hz, lt, lq, ik, kv, sa, ve, vf, vs, vt, vc, ll, lh, la, lu, bg, en, ro, hq, mo, mt, mf, mq, pv, ce, fn, va, rg) := by
  unfold wpX_improveBlocks
  refine ⟨1 + 96, ?_⟩
  refine zx_flp (W := fun n1 i f => wX_improveBlocks_2 post ct ms gv (nI n) dp ch cv bs rc mz ls tc rd pc ps n1 (nI i) tk wa sp ip op tg fi se hz lt lq ik kv sa f vf vs vt vc ll lh la lu bg en ro hq mo mt mf mq pv ce fn va rg) (e := 96) (v := 0) ?_ 96 0 ve 1 rfl ?_
  · intro n1 i f hi h
    exact br_f (nI_ge (b := 96) hi (by decide)) ⟨vp_in_nI hi (by decide), nm_r (e' := upd f i 0) (by rw [nI_clamp (by omega)]) (nm_r (nI_1 i) h)⟩
  · have f96 : ∀ v, v < 96 → zx_fl ik 0 96 0 v = 0 := fun v hv => if_pos ⟨Nat.zero_le _, hv⟩
    have v96 : ∀ v, v < 96 → zx_fl ve 0 96 0 v = 0 := fun v hv => if_pos ⟨Nat.zero_le _, hv⟩
    have s96 : ∀ v, v < 96 → zx_fl sa 0 96 (-1) v = -1 := fun v hv => if_pos ⟨Nat.zero_le _, hv⟩
    obtain ⟨m, h⟩ := hG.2
    refine br_t (by decide) (zx_startBlock (i := 0) ⟨n + 1, zx_ib33 H n 0 0 _ _ _ _ _ _ _ _ _ _ _ _ _ _ (by omega) (by decide) ⟨hG.1, ⟨fun v hv => Or.inl (s96 v hv), ?_, by decide, fun j hj => by omega⟩, m, ?_⟩⟩)
    · intro v hv; rw [v96 v hv]; decide
    · refine zq_mono (fun p V D _ hA => ⟨hA, fun _ _ => ⟨?_, ?_, ?_⟩⟩) m 99 0 _ D0 m 99 (Nat.le_refl _) (Nat.le_refl _) h
      · intro v hv q; exact absurd (f96 v hv) q
      · intro v hv q; rw [s96 v hv] at q; exact absurd (by decide) q
      · intro j h1 h2; omega
end
end
section
/-! labels, the next real instruction -/
theorem zk_cl180 {x : Int32} (h0 : 0 ≤ x) (h : x < 180) : x.toNatClampNeg < 180 := by
  have h1 := Int32.le_iff_toInt_le.mp h0
  have h2 := Int32.lt_iff_toInt_lt.mp h
  have e0 : (0 : Int32).toInt = 0 := by decide
  have e1 : (180 : Int32).toInt = 180 := by decide
  show x.toInt.toNat < 180
  omega
def zj_la (n : Nat) (op tg la : ty_V) : Prop := ∀ q, q < n → op q = 20 → la (tg q).toNatClampNeg = nI q
def zj_lu (n : Nat) (op tg lu : ty_V) : Prop := ∀ p, p < n → zq_jp (op p) → ¬ lu (tg p).toNatClampNeg = 0
section
variable {ct ms gv sz dp ch cv bs rc mz ls tc rd pc ps : Int32} {tk wa sp ip op tg fi se hz lt lq ik kv sa ve vf vs vt vc la lu bg en ro hq mo mt mf mq pv ce fn va rg : Nat → Int32} {ll lh : Nat → Int64}
variable {post : SX → Prop} {n : Nat}
theorem zx_findLabels (hwf : zq_wf n op tg fi se hz) (H : ∀ la' lu', zj_la n op tg la' → zj_lu n op tg lu' → post (ct, ms, gv, nI n, dp, ch, cv, bs, rc, mz, ls, tc, rd, pc, ps, tk, wa, sp, ip, op, tg, fi, se, hz, lt, lq, ik, kv, sa, ve, vf, vs, vt, vc, ll, lh, la', lu', bg, en, ro, hq, mo, mt, mf, mq, pv, ce, fn, va, rg)) : wpX_findLabels post (ct, ms, gv, nI n, dp, ch, cv, bs, rc, mz, ls, tc, rd, pc, ps, tk, wa, sp, ip, op, tg, fi, se, hz, lt, lq, ik, kv, sa, ve, vf, vs, vt, vc, ll, lh, la, lu, bg, en, ro, hq, mo, mt, mf, mq, pv, ce, fn, va, rg) := by
  obtain ⟨w1, w2, w3, w4⟩ := hwf
  have k31 : ∀ d i la' lu', i + d = n → (∀ q, q < i → op q = 20 → la' (tg q).toNatClampNeg = nI q) → (∀ p, p < i → zq_jp (op p) → ¬ lu' (tg p).toNatClampNeg = 0) →
      wX_findLabels_31 post ct ms gv (nI n) dp ch cv bs rc mz ls tc rd pc ps (d + 1) (nI i) tk wa sp ip op tg fi se hz lt lq ik kv sa ve vf vs vt vc ll lh la' lu' bg en ro hq mo mt mf mq pv ce fn va rg := by
    intro d
    induction d with
    | zero =>
      intro i la' lu' hi a b
      obtain rfl : i = n := by omega
      exact br_t (nI_le (Nat.le_refl _) (by omega)) (H la' lu' a b)
    | succ d ih =>
      intro i la' lu' hi a b
      have hc : (nI i).toNatClampNeg = i := nI_clamp (by omega)
      have hin : vp_in (nI i) 512 := vp_in_nI (by omega) (by decide)
      have wi := w2 i (by omega)
      have ht := zk_vp wi.2.1
      refine br_f (nI_ge (by omega) (by omega)) ?_
      rw [hc]
      refine ⟨hin, br_c (fun e => ⟨hin, ht, nm_r (e' := upd la' (tg i).toNatClampNeg (nI i)) (by rw [pk_vs, zn_sN (by omega)]) (nm_r (nI_1 i) (ih (i + 1) _ _ (by omega) ?_ ?_))⟩)
        (fun n20 => ⟨hin, zx_isJump (zb_br (fun nj => nm_r (nI_1 i) (ih (i + 1) _ _ (by omega) ?_ ?_)) (fun j => ⟨hin, ht, nm_r (e' := upd lu' (tg i).toNatClampNeg 1) rfl (nm_r (nI_1 i) (ih (i + 1) _ _ (by omega) ?_ ?_))⟩))⟩)⟩
      · intro q hq h20
        by_cases e2 : q = i
        · subst e2; rw [zq_us]
        · rw [zq_un]
          · exact a q (by omega) h20
          · intro e3
            have := w4 q i (by omega) (by omega) h20 e (zk_clinj (w2 q (by omega)).2.1.1 wi.2.1.1 e3)
            exact e2 this
      · intro p hp hj
        by_cases e2 : p = i
        · subst e2; rw [e] at hj; exact absurd hj (by decide)
        · exact b p (by omega) hj
      · intro q hq h20
        by_cases e2 : q = i
        · subst e2; exact absurd h20 n20
        · exact a q (by omega) h20
      · intro p hp hj
        by_cases e2 : p = i
        · subst e2; exact absurd hj nj
        · exact b p (by omega) hj
      · intro q hq h20
        by_cases e2 : q = i
        · subst e2; exact absurd h20 n20
        · exact a q (by omega) h20
      · intro p hp hj
        by_cases e2 : p = i
        · subst e2; rw [zq_us]; decide
        · by_cases e3 : (tg p).toNatClampNeg = (tg i).toNatClampNeg
          · rw [e3, zq_us]; decide
          · rw [zq_un e3]; exact b p (by omega) hj
  have k2 : ∀ d k la' lu', k + d = 180 → wX_findLabels_2 post ct ms gv (nI n) dp ch cv bs rc mz ls tc rd pc ps (d + 1) (nI k) tk wa sp ip op tg fi se hz lt lq ik kv sa ve vf vs vt vc ll lh la' lu' bg en ro hq mo mt mf mq pv ce fn va rg := by
    intro d
    induction d with
    | zero =>
      intro k la' lu' hk
      obtain rfl : k = 180 := by omega
      exact br_t (by decide) ⟨n + 1, k31 n 0 la' lu' (by omega) (fun q hq => by omega) (fun q hq => by omega)⟩
    | succ d ih =>
      intro k la' lu' hk
      have hin : vp_in (nI k) 180 := vp_in_nI (by omega) (by decide)
      exact br_f (nI_ge (b := 180) (by omega) (by decide)) ⟨hin, nm_e ⟨hin, nm_e (nm_r (nI_1 k) (ih (k + 1) _ _ (by omega)))⟩⟩
  unfold wpX_findLabels
  exact ⟨181, k2 180 0 la lu rfl⟩
theorem zx_nextReal {Q : Int32 → Prop} {p : Nat} (hn : n ≤ 512) (hp : p ≤ n)
    (H : ∀ q, p ≤ q → q ≤ n → (∀ k, p ≤ k → k < q → op k = 0 ∨ op k = 20) → (q < n → ¬ op q = 0 ∧ ¬ op q = 20) → Q (nI q)) : wpX_nextReal Q (ct, ms, gv, nI n, dp, ch, cv, bs, rc, mz, ls, tc, rd, pc, ps, tk, wa, sp, ip, op, tg, fi, se, hz, lt, lq, ik, kv, sa, ve, vf, vs, vt, vc, ll, lh, la, lu, bg, en, ro, hq, mo, mt, mf, mq, pv, ce, fn, va, rg) (nI p) := by
  have lp : ∀ d q, q + d = n → p ≤ q → (∀ k, p ≤ k → k < q → op k = 0 ∨ op k = 20) → wX_nextReal_2 Q ct ms gv (nI n) dp ch cv bs rc mz ls tc rd pc ps tk wa sp ip op tg fi se hz lt lq ik kv sa ve vf vs vt vc ll lh la lu bg en ro hq mo mt mf mq pv ce fn va rg (d + 1) (nI q) := by
    intro d
    induction d with
    | zero =>
      intro q hq hpq hs
      obtain rfl : q = n := by omega
      exact br_t (nI_le (Nat.le_refl _) (by omega)) (H q hpq (Nat.le_refl _) hs (fun h => by omega))
    | succ d ih =>
      intro q hq hpq hs
      have hc : (nI q).toNatClampNeg = q := nI_clamp (by omega)
      have hin : vp_in (nI q) 512 := vp_in_nI (by omega) (by decide)
      have ext : (op q = 0 ∨ op q = 20) → ∀ k, p ≤ k → k < q + 1 → op k = 0 ∨ op k = 20 := by
        intro hq2 k h1 h2
        by_cases e : k = q
        · rw [e]; exact hq2
        · exact hs k h1 (by omega)
      refine br_f (nI_ge (by omega) (by omega)) ?_
      rw [hc]
      refine ⟨hin, br_c (fun e => nm_r (nI_1 q) (ih (q + 1) (by omega) (by omega) (ext (Or.inl e)))) (fun n0 => ⟨hin, br_c (fun e => nm_r (nI_1 q) (ih (q + 1) (by omega) (by omega) (ext (Or.inr e)))) (fun n20 => ?_)⟩)⟩
      exact H q hpq (by omega) hs (fun _ => ⟨n0, n20⟩)
  unfold wpX_nextReal
  exact ⟨n - p + 1, lp (n - p) p (by omega) (Nat.le_refl _) (fun k h1 h2 => by omega)⟩
end
/-! atoms as Good -> Good -/
section
variable {g : Nat} {I : ty_V} {R : ty_R} {D0 : ty_D} {n i : Nat} {op tg fi se hz : ty_V}
theorem zj_wf0 (hwf : zq_wf n op tg fi se hz) (hu : op i = 20 → ∀ p, p < n → zq_jp (op p) → ¬ tg p = tg i) : zq_wf n (upd op i 0) tg (upd fi i 0) (upd se i 0) (upd hz i 0) := by
  obtain ⟨w1, w2, w3, w4⟩ := hwf
  have o20 : ∀ q, upd op i 0 q = 20 → op q = 20 ∧ q ≠ i := by
    intro q h
    by_cases e : q = i
    · subst e; rw [zq_us] at h; exact absurd h (by decide)
    · rw [zq_un e] at h; exact ⟨h, e⟩
  refine ⟨w1, ?_, ?_, ?_⟩
  · intro j hj
    by_cases e : j = i
    · subst e
      rw [zq_us, zq_us, zq_us, zq_us]
      exact ⟨by decide, (w2 j hj).2.1, fun q => absurd q (by decide), fun q => absurd q (by decide), by decide, Or.inl rfl⟩
    · rw [zq_un e, zq_un e, zq_un e, zq_un e]; exact w2 j hj
  · intro j hj hp
    by_cases e : j = i
    · subst e; rw [zq_us] at hp; exact absurd hp (by decide)
    · rw [zq_un e] at hp
      obtain ⟨q, a1, a2, a3⟩ := w3 j hj hp
      refine ⟨q, a1, ?_, a3⟩
      rw [zq_un]
      · exact a2
      · intro e2
        subst e2
        exact hu a2 j hj hp a3.symm
  · intro p q hp hq h1 h2 h3
    exact w4 p q hp hq (o20 p h1).1 (o20 q h2).1 h3
theorem zj_hm0 {p : Nat} {V : ty_V} {D : ty_D} (h : zq_hm g op fi se hz p V D) : zq_hm g (upd op i 0) (upd fi i 0) (upd se i 0) (upd hz i 0) p V D := by
  unfold zq_hm
  by_cases e : p = i
  · subst e; intro _; exact zq_nope (Or.inl zq_us)
  · rw [zq_un e, zq_un e, zq_un e, zq_un e]; exact h
/-- an unused label -/
theorem zj_label (hG : zq_gd g I R D0 n op tg fi se hz) (hl : op i = 20) (hu : ∀ p, p < n → zq_jp (op p) → ¬ tg p = tg i) : zq_gd g I R D0 n (upd op i 0) tg (upd fi i 0) (upd se i 0) (upd hz i 0) := by
  refine ⟨zj_wf0 hG.1 (fun _ => hu), ?_⟩
  obtain ⟨m, h⟩ := hG.2
  refine ⟨m, zq_swap ?_ ?_ m 99 0 _ D0 h⟩
  · intro p V D hp hA
    refine ⟨zj_hm0 hA, ?_⟩
    by_cases e : p = i
    · subst e
      intro J T N q
      rw [zq_us]
      exact (zq_nop (Or.inl rfl)).mpr ((zq_nop (Or.inr hl)).mp q)
    · rw [zq_un e, zq_un e, zq_un e]; exact fun J T N q => q
  · intro p q hp hq hj h20 ht
    refine ⟨?_, rfl⟩
    rw [zq_un]
    · exact h20
    · intro e; subst e; exact hu p hp hj ht.symm
/-- what is not reached -/
theorem zj_unr {j : Nat} (hG : zq_gd g I R D0 n op tg fi se hz) (hji : j < i) (hj : op j = 16 ∨ op j = 21) (hs : ∀ k, j < k → k < i → op k = 0) (hl : ¬ op i = 20) :
    zq_gd g I R D0 n (upd op i 0) tg (upd fi i 0) (upd se i 0) (upd hz i 0) := by
  refine ⟨zj_wf0 hG.1 (fun q => absurd q hl), ?_⟩
  obtain ⟨m, h⟩ := hG.2
  refine ⟨m, zq_unr (U := fun p => j < p ∧ p ≤ i) ?_ ?_ ?_ (fun p V D _ _ hA => zj_hm0 hA) m 99 0 _ D0 (by omega) h⟩
  · intro p hp
    by_cases e : p = j
    · subst e; exact Or.inr hj
    · exact Or.inl ⟨by omega, by omega⟩
  · intro q hq h20
    by_cases e : q = i
    · subst e; exact hl h20
    · rw [hs q hq.1 (by omega)] at h20; exact absurd h20 (by decide)
  · intro p _ hU
    have e : p ≠ i := fun e => hU (by omega)
    rw [zq_un e, zq_un e, zq_un e]; exact ⟨rfl, rfl, rfl, rfl⟩
/-- a jump that goes on -/
theorem zj_thread {L to : Nat} (hG : zq_gd g I R D0 n op tg fi se hz) (hi : i < n) (hj : zq_jp (op i)) (hLn : L < n) (hL : op L = 20) (hLt : tg L = tg i) (hle : L ≤ to) (hto : to < n)
    (hs : ∀ k, L ≤ k → k < to → op k = 0 ∨ op k = 20) (ho : op to = 16) : zq_gd g I R D0 n op (upd tg i (tg to)) fi se hz := by
  obtain ⟨⟨w1, w2, w3, w4⟩, m, h⟩ := hG
  have n20 : ∀ q, op q = 20 → q ≠ i := by
    intro q hq e; rw [e] at hq; rw [hq] at hj; exact absurd hj (by decide)
  refine ⟨⟨w1, ?_, ?_, ?_⟩, m, ?_⟩
  · intro k hk
    by_cases e : k = i
    · subst e
      rw [zq_us]
      obtain ⟨a1, a2, a3, a4, a5, a6⟩ := w2 k hk
      exact ⟨a1, (w2 to hto).2.1, fun q => absurd hj (zq_wrj q), a4, a5, a6⟩
    · rw [zq_un e]; exact w2 k hk
  · intro k hk hp
    by_cases e : k = i
    · subst e
      rw [zq_us]
      obtain ⟨q, a1, a2, a3⟩ := w3 to hto (by rw [ho]; decide)
      exact ⟨q, a1, a2, by rw [zq_un (n20 q a2)]; exact a3⟩
    · rw [zq_un e]
      obtain ⟨q, a1, a2, a3⟩ := w3 k hk hp
      exact ⟨q, a1, a2, by rw [zq_un (n20 q a2)]; exact a3⟩
  · intro p q hp hq h1 h2 h3
    rw [zq_un (n20 p h1), zq_un (n20 q h2)] at h3
    exact w4 p q hp hq h1 h2 h3
  · exact zq_thread hj hle hs ho (fun q hq h20 ht => w4 q L hq hLn h20 hL (ht.trans hLt.symm)) (m + 1) m (by omega) 99 0 _ D0 h
/-- a jump to what comes next anyway -/
theorem zj_drop {L goal : Nat} (hG : zq_gd g I R D0 n op tg fi se hz) (hj : zq_jp (op i)) (hLn : L < n) (hL : op L = 20) (hLt : tg L = tg i) (hiL : i < L) (hle : L ≤ goal)
    (hs : ∀ k, i < k → k < goal → op k = 0 ∨ op k = 20) : zq_gd g I R D0 n (upd op i 0) tg (upd fi i 0) (upd se i 0) (upd hz i 0) := by
  refine ⟨zj_wf0 hG.1 (fun q => by rw [q] at hj; exact absurd hj (by decide)), ?_⟩
  obtain ⟨⟨w1, w2, w3, w4⟩, m, h⟩ := hG
  exact zq_dropj hj hiL hle hs (fun q hq h20 ht => w4 q L hq hLn h20 hL (ht.trans hLt.symm)) (m + 1) m (by omega) 99 0 _ D0 h
end
end
section
/-! shorten, improveJumps -/
section
variable {ct ms gv sz dp ch cv bs rc mz ls tc rd pc ps : Int32} {tk wa sp ip op tg fi se hz lt lq ik kv sa ve vf vs vt vc la lu bg en ro hq mo mt mf mq pv ce fn va rg : Nat → Int32} {ll lh : Nat → Int64}
variable {post : SX → Prop} {g : Nat} {I : ty_V} {R : ty_R} {D0 : ty_D} {n i : Nat}
theorem zx_shorten (hG : zq_gd g I R D0 n op tg fi se hz) (hi : i < n) (hj : zq_jp (op i)) (hla : zj_la n op tg la) (hlu : zj_lu n op tg lu)
    (H : ∀ op' tg' fi' se' hz' ch', zq_gd g I R D0 n op' tg' fi' se' hz' → zj_la n op' tg' la → zj_lu n op' tg' lu → post (ct, ms, gv, nI n, dp, ch', cv, bs, rc, mz, ls, tc, rd, pc, ps, tk, wa, sp, ip, op', tg', fi', se', hz', lt, lq, ik, kv, sa, ve, vf, vs, vt, vc, ll, lh, la, lu, bg, en, ro, hq, mo, mt, mf, mq, pv, ce, fn, va, rg)) :
    wpX_shorten post (ct, ms, gv, nI n, dp, ch, cv, bs, rc, mz, ls, tc, rd, pc, ps, tk, wa, sp, ip, op, tg, fi, se, hz, lt, lq, ik, kv, sa, ve, vf, vs, vt, vc, ll, lh, la, lu, bg, en, ro, hq, mo, mt, mf, mq, pv, ce, fn, va, rg) (nI i) := by
  have w1 := hG.1.1
  have hc : (nI i).toNatClampNeg = i := nI_clamp (by omega)
  have hin : vp_in (nI i) 512 := vp_in_nI (by omega) (by decide)
  have n20 : ∀ q, op q = 20 → q ≠ i := by
    intro q hq e; rw [e] at hq; rw [hq] at hj; exact absurd hj (by decide)
  -- the second half
  have k72 : ∀ (tg' : ty_V) ch', zq_gd g I R D0 n op tg' fi se hz → zj_la n op tg' la → zj_lu n op tg' lu → wX_shorten_72 post (nI i) ct ms gv (nI n) dp ch' cv bs rc mz ls tc rd pc ps tk wa sp ip op tg' fi se hz lt lq ik kv sa ve vf vs vt vc ll lh la lu bg en ro hq mo mt mf mq pv ce fn va rg := by
    intro tg' ch' hG' hla' hlu'
    obtain ⟨L, l1, l2, l3⟩ := hG'.1.2.2.1 i hi hj
    have hlaL : la (tg' i).toNatClampNeg = nI L := by rw [← l3]; exact hla' L l1 l2
    have ht := zk_vp (hG'.1.2.1 i hi).2.1
    have h0 := H op tg' fi se hz ch' hG' hla' hlu'
    unfold wX_shorten_72
    rw [hc, nI_1, hlaL]
    refine zx_nextReal (p := i + 1) (by omega) (by omega) (fun q1 a1 a2 a3 a4 => ⟨hin, ht, zx_nextReal (p := L) (by omega) (by omega) (fun q2 b1 b2 b3 b4 => ?_)⟩)
    refine pk_eq q1 q2 (fun e => ⟨hin, ht, pk_le L i (fun _ => h0) (fun hiL => zx_replace (by omega) (by decide) (H _ _ _ _ _ _ ?_ ?_ ?_))⟩) (fun _ => h0)
    · subst e
      exact zj_drop (L := L) (goal := q1) hG' hj l1 l2 l3 hiL b1 (fun k h1 h2 => a3 k (by omega) h2)
    · intro q hq h20
      have e2 : q ≠ i := by intro e2; subst e2; rw [zq_us] at h20; exact absurd h20 (by decide)
      rw [zq_un e2] at h20
      exact hla' q hq h20
    · intro p hp hjp
      have e2 : p ≠ i := by intro e2; subst e2; rw [zq_us] at hjp; exact absurd hjp (by decide)
      rw [zq_un e2] at hjp
      exact hlu' p hp hjp
  obtain ⟨L, l1, l2, l3⟩ := hG.1.2.2.1 i hi hj
  have hlaL : la (tg i).toNatClampNeg = nI L := by rw [← l3]; exact hla L l1 l2
  have ht := zk_vp (hG.1.2.1 i hi).2.1
  have k0 := fun c => k72 tg c hG hla hlu
  unfold wpX_shorten
  dsimp only
  rw [hc, hlaL]
  refine ⟨hin, ht, zx_nextReal (p := L) (by omega) (by omega) (fun to b1 b2 b3 b4 => pk_le n to (fun _ => k0 ch) (fun hto => ?_))⟩
  have hct : (nI to).toNatClampNeg = to := nI_clamp (by omega)
  have hit : vp_in (nI to) 512 := vp_in_nI (by omega) (by decide)
  rw [hct]
  refine ⟨hit, br_c (fun e16 => ⟨hit, hin, br_c (fun _ => k0 ch) (fun ne => pk_eq to i (fun _ => k0 ch) (fun hne => ⟨hit, hin, nm_r (e' := upd tg i (tg to)) ?_ (k72 _ 1 ?_ ?_ ?_)⟩))⟩) (fun _ => k0 ch)⟩
  · have := (hG.1.2.1 to hto).2.1
    rw [vp_nar_short, zn_s (Int32.le_trans (by decide) this.1) (Int32.le_trans (Int32.le_of_lt this.2) (by decide))]
  · exact zj_thread hG hi hj l1 l2 l3 b1 hto b3 e16
  · intro q hq h20
    rw [zq_un (n20 q h20)]; exact hla q hq h20
  · intro p hp hjp
    by_cases e : p = i
    · subst e; rw [zq_us]; exact hlu to hto (by rw [e16]; decide)
    · rw [zq_un e]; exact hlu p hp hjp
theorem zx_ij89 (H : ∀ op' tg' fi' se' hz' ch' la' lu', zq_gd g I R D0 n op' tg' fi' se' hz' → post (ct, ms, gv, nI n, dp, ch', cv, bs, rc, mz, ls, tc, rd, pc, ps, tk, wa, sp, ip, op', tg', fi', se', hz', lt, lq, ik, kv, sa, ve, vf, vs, vt, vc, ll, lh, la', lu', bg, en, ro, hq, mo, mt, mf, mq, pv, ce, fn, va, rg)) :
    ∀ d i op tg fi se hz ch la lu, i + d = n → zq_gd g I R D0 n op tg fi se hz → zj_la n op tg la → zj_lu n op tg lu →
      wX_improveJumps_89 post (d + 1) (nI i) ct ms gv (nI n) dp ch cv bs rc mz ls tc rd pc ps tk wa sp ip op tg fi se hz lt lq ik kv sa ve vf vs vt vc ll lh la lu bg en ro hq mo mt mf mq pv ce fn va rg := by
  intro d
  induction d with
  | zero =>
    intro i op tg fi se hz ch la lu hi hG hla hlu
    have w1 := hG.1.1
    exact br_t (nI_le (by omega) (by omega)) (H _ _ _ _ _ _ _ _ hG)
  | succ d ih =>
    intro i op tg fi se hz ch la lu hi hG hla hlu
    have w1 := hG.1.1
    have hc : (nI i).toNatClampNeg = i := nI_clamp (by omega)
    have hin : vp_in (nI i) 512 := vp_in_nI (by omega) (by decide)
    have ht := zk_vp (hG.1.2.1 i (by omega)).2.1
    have k0 := ih (i + 1) op tg fi se hz ch la lu (by omega) hG hla hlu
    refine br_f (nI_ge (by omega) (by omega)) ?_
    rw [hc]
    refine ⟨hin, zx_isJump (zb_br (fun nj => ⟨hin, br_c (fun e20 => ⟨hin, ht, br_c (fun eu => zx_replace (by omega) (by decide) (nm_r (nI_1 i) (ih (i + 1) _ _ _ _ _ _ _ _ (by omega) ?_ ?_ ?_))) (fun _ => nm_r (nI_1 i) k0)⟩) (fun _ => nm_r (nI_1 i) k0)⟩) (fun j => ?_))⟩
    · refine zj_label hG e20 (fun p hp hjp e => ?_)
      have := hlu p hp hjp
      rw [e] at this
      exact this eu
    · intro q hq h20
      have e2 : q ≠ i := by intro e2; subst e2; rw [zq_us] at h20; exact absurd h20 (by decide)
      rw [zq_un e2] at h20
      exact hla q hq h20
    · intro p hp hjp
      have e2 : p ≠ i := by intro e2; subst e2; rw [zq_us] at hjp; exact absurd hjp (by decide)
      rw [zq_un e2] at hjp
      exact hlu p hp hjp
    · exact zx_shorten hG (by omega) j hla hlu (fun op' tg' fi' se' hz' ch' a b c => nm_r (nI_1 i) (ih (i + 1) _ _ _ _ _ _ _ _ (by omega) a b c))
theorem zx_ij4 (H : ∀ op' tg' fi' se' hz' ch' la' lu', zq_gd g I R D0 n op' tg' fi' se' hz' → post (ct, ms, gv, nI n, dp, ch', cv, bs, rc, mz, ls, tc, rd, pc, ps, tk, wa, sp, ip, op', tg', fi', se', hz', lt, lq, ik, kv, sa, ve, vf, vs, vt, vc, ll, lh, la', lu', bg, en, ro, hq, mo, mt, mf, mq, pv, ce, fn, va, rg)) :
    ∀ d i x1 op fi se hz ch, i + d = n → zq_gd g I R D0 n op tg fi se hz → (x1 = 0 → ∃ j, j < i ∧ (op j = 16 ∨ op j = 21) ∧ ∀ k, j < k → k < i → op k = 0) →
      wX_improveJumps_4 post (d + 1) x1 (nI i) ct ms gv (nI n) dp ch cv bs rc mz ls tc rd pc ps tk wa sp ip op tg fi se hz lt lq ik kv sa ve vf vs vt vc ll lh la lu bg en ro hq mo mt mf mq pv ce fn va rg := by
  intro d
  induction d with
  | zero =>
    intro i x1 op fi se hz ch hi hG hr
    have w1 := hG.1.1
    refine br_t (nI_le (by omega) (by omega)) (zx_findLabels hG.1 (fun la' lu' a b => ⟨n + 1, ?_⟩))
    exact zx_ij89 H n 0 _ _ _ _ _ _ _ _ (by omega) hG a b
  | succ d ih =>
    intro i x1 op fi se hz ch hi hG hr
    have w1 := hG.1.1
    have hc : (nI i).toNatClampNeg = i := nI_clamp (by omega)
    have hin : vp_in (nI i) 512 := vp_in_nI (by omega) (by decide)
    have k53 : ∀ (op fi se hz : ty_V) (ch z : Int32), zq_gd g I R D0 n op tg fi se hz → (z = 0 → ∃ j, j < i ∧ (op j = 16 ∨ op j = 21) ∧ ∀ k, j < k → k < i + 1 → op k = 0) →
        wX_improveJumps_53 post (wX_improveJumps_4 post (d + 1)) z (nI i) ct ms gv (nI n) dp ch cv bs rc mz ls tc rd pc ps tk wa sp ip op tg fi se hz lt lq ik kv sa ve vf vs vt vc ll lh la lu bg en ro hq mo mt mf mq pv ce fn va rg := by
      intro op fi se hz ch z hG hz0
      have k16 : (op i = 16 ∨ op i = 21) → wX_improveJumps_4 post (d + 1) 0 (nI (i + 1)) ct ms gv (nI n) dp ch cv bs rc mz ls tc rd pc ps tk wa sp ip op tg fi se hz lt lq ik kv sa ve vf vs vt vc ll lh la lu bg en ro hq mo mt mf mq pv ce fn va rg := by
        intro ho
        exact ih (i + 1) 0 op fi se hz ch (by omega) hG (fun _ => ⟨i, by omega, ho, fun k h1 h2 => by omega⟩)
      unfold wX_improveJumps_53
      rw [hc]
      refine ⟨hin, br_c (fun e => nm_r (nI_1 i) (k16 (Or.inl e))) (fun _ => ⟨hin, br_c (fun e => nm_r (nI_1 i) (k16 (Or.inr e))) (fun _ => nm_r (nI_1 i) (ih (i + 1) z op fi se hz ch (by omega) hG (fun q => ?_)))⟩)⟩
      obtain ⟨j, a1, a2, a3⟩ := hz0 q
      exact ⟨j, by omega, a2, a3⟩
    have k27 : wX_improveJumps_27 post (wX_improveJumps_4 post (d + 1)) (nI i) ct ms gv (nI n) dp ch cv bs rc mz ls tc rd pc ps tk wa sp ip op tg fi se hz lt lq ik kv sa ve vf vs vt vc ll lh la lu bg en ro hq mo mt mf mq pv ce fn va rg := by
      unfold wX_improveJumps_27 wX_improveJumps_32
      exact br_f (by decide) (k53 op fi se hz ch 1 hG (fun q => absurd q (by decide)))
    refine br_f (nI_ge (by omega) (by omega)) (br_c (fun e1 => ?_) (fun _ => k27))
    rw [hc]
    refine ⟨hin, br_c (fun _ => k27) (fun n20 => ?_)⟩
    obtain ⟨j, a1, a2, a3⟩ := hr e1
    unfold wX_improveJumps_32
    rw [hc]
    refine br_t rfl ⟨hin, br_c (fun e0 => k53 op fi se hz ch 0 hG (fun _ => ⟨j, a1, a2, fun k h1 h2 => ?_⟩)) (fun n0 => zx_replace (by omega) (by decide) (k53 _ _ _ _ _ 0 (zj_unr hG a1 a2 a3 n20) (fun _ => ⟨j, a1, ?_, fun k h1 h2 => ?_⟩)))⟩
    · by_cases e : k = i
      · rw [e]; exact e0
      · exact a3 k h1 (by omega)
    · rw [zq_un (by omega)]; exact a2
    · by_cases e : k = i
      · rw [e, zq_us]
      · rw [zq_un e]; exact a3 k h1 (by omega)
theorem zx_improveJumps (hG : zq_gd g I R D0 n op tg fi se hz)
    (H : ∀ op' tg' fi' se' hz' ch' la' lu', zq_gd g I R D0 n op' tg' fi' se' hz' → post (ct, ms, gv, nI n, dp, ch', cv, bs, rc, mz, ls, tc, rd, pc, ps, tk, wa, sp, ip, op', tg', fi', se', hz', lt, lq, ik, kv, sa, ve, vf, vs, vt, vc, ll, lh, la', lu', bg, en, ro, hq, mo, mt, mf, mq, pv, ce, fn, va, rg)) :
    wpX_improveJumps post (ct, ms, gv, nI n, dp, ch, cv, bs, rc, mz, ls, tc, rd, pc, ps, tk, wa, sp, ip, op, tg, fi, se, hz, lt, lq, ik, kv, sa, ve, vf, vs, vt, vc, ll, lh, la, lu, bg, en, ro, hq, mo, mt, mf, mq, pv, ce, fn, va, rg) := by
  unfold wpX_improveJumps
  exact ⟨n + 1, zx_ij4 H n 0 1 op fi se hz ch (by omega) hG (fun q => absurd q (by decide))⟩
end
end
section
/-! close -/
theorem zc_sur {op : ty_V} : ∀ n k, k < zq_rk op n → ∃ p, p < n ∧ ¬ op p = 0 ∧ zq_rk op p = k := by
  intro n
  induction n with
  | zero => intro k hk; exact absurd hk (by simp [zq_rk])
  | succ n ih =>
    intro k hk
    simp only [zq_rk] at hk
    by_cases e : op n = 0
    · rw [if_pos e] at hk
      obtain ⟨p, a, b, c⟩ := ih k hk
      exact ⟨p, by omega, b, c⟩
    · rw [if_neg e] at hk
      by_cases e2 : k = zq_rk op n
      · exact ⟨n, by omega, e, e2.symm⟩
      · obtain ⟨p, a, b, c⟩ := ih k (by omega)
        exact ⟨p, by omega, b, c⟩
theorem zc_rkn {op : ty_V} : ∀ n, zq_rk op n ≤ n := by
  intro n
  induction n with
  | zero => exact Nat.le_refl _
  | succ n ih => simp only [zq_rk]; split <;> omega
theorem zc_gd {g : Nat} {I : ty_V} {R : ty_R} {D0 : ty_D} {n : Nat} {op tg fi se hz op1 tg1 fi1 se1 hz1 : ty_V} (hG : zq_gd g I R D0 n op tg fi se hz)
    (hc : ∀ p, p < n → ¬ op p = 0 → op1 (zq_rk op p) = op p ∧ tg1 (zq_rk op p) = tg p ∧ fi1 (zq_rk op p) = fi p ∧ se1 (zq_rk op p) = se p ∧ hz1 (zq_rk op p) = hz p) :
    zq_gd g I R D0 (zq_rk op n) op1 tg1 fi1 se1 hz1 := by
  obtain ⟨⟨w1, w2, w3, w4⟩, m, h⟩ := hG
  have hrn := zc_rkn (op := op) n
  refine ⟨⟨by omega, ?_, ?_, ?_⟩, m, ?_⟩
  · intro k hk
    obtain ⟨p, a, b, rfl⟩ := zc_sur n k hk
    obtain ⟨e1, e2, e3, e4, e5⟩ := hc p a b
    rw [e1, e2, e3, e4, e5]; exact w2 p a
  · intro k hk hj
    obtain ⟨p, a, b, rfl⟩ := zc_sur n k hk
    obtain ⟨e1, e2, e3, e4, e5⟩ := hc p a b
    rw [e1] at hj
    obtain ⟨q, q1, q2, q3⟩ := w3 p a hj
    have q0 : ¬ op q = 0 := by rw [q2]; decide
    obtain ⟨d1, d2, _⟩ := hc q q1 q0
    exact ⟨zq_rk op q, zq_rk_lt q1 q0, d1.trans q2, by rw [d2, e2]; exact q3⟩
  · intro k l hk hl h1 h2 h3
    obtain ⟨p, a, b, rfl⟩ := zc_sur n k hk
    obtain ⟨q, a', b', rfl⟩ := zc_sur n l hl
    obtain ⟨e1, e2, _⟩ := hc p a b
    obtain ⟨d1, d2, _⟩ := hc q a' b'
    rw [e1] at h1
    rw [d1] at h2
    rw [e2, d2] at h3
    rw [w4 p q a a' h1 h2 h3]
  · exact zq_close hc m 99 0 _ D0 h
section
variable {ct ms gv sz dp ch cv bs rc mz ls tc rd pc ps : Int32} {tk wa sp ip op tg fi se hz lt lq ik kv sa ve vf vs vt vc la lu bg en ro hq mo mt mf mq pv ce fn va rg : Nat → Int32} {ll lh : Nat → Int64}
variable {post : SX → Prop} {g : Nat} {I : ty_V} {R : ty_R} {D0 : ty_D} {n : Nat}
theorem zx_close (hG : zq_gd g I R D0 n op tg fi se hz)
    (H : ∀ n' op' tg' fi' se' hz', zq_gd g I R D0 n' op' tg' fi' se' hz' → post (ct, ms, gv, nI n', dp, ch, cv, bs, rc, mz, ls, tc, rd, pc, ps, tk, wa, sp, ip, op', tg', fi', se', hz', lt, lq, ik, kv, sa, ve, vf, vs, vt, vc, ll, lh, la, lu, bg, en, ro, hq, mo, mt, mf, mq, pv, ce, fn, va, rg)) : wpX_close post (ct, ms, gv, nI n, dp, ch, cv, bs, rc, mz, ls, tc, rd, pc, ps, tk, wa, sp, ip, op, tg, fi, se, hz, lt, lq, ik, kv, sa, ve, vf, vs, vt, vc, ll, lh, la, lu, bg, en, ro, hq, mo, mt, mf, mq, pv, ce, fn, va, rg) := by
  have w1 := hG.1.1
  have lp : ∀ d i op' tg' fi' se' hz', i + d = n →
      (∀ p, p < i → ¬ op p = 0 → op' (zq_rk op p) = op p ∧ tg' (zq_rk op p) = tg p ∧ fi' (zq_rk op p) = fi p ∧ se' (zq_rk op p) = se p ∧ hz' (zq_rk op p) = hz p) →
      (∀ k, i ≤ k → op' k = op k ∧ tg' k = tg k ∧ fi' k = fi k ∧ se' k = se k ∧ hz' k = hz k) →
      wX_close_4 post ct ms gv (nI n) dp ch cv bs rc mz ls tc rd pc ps (d + 1) (nI (zq_rk op i)) (nI i) tk wa sp ip op' tg' fi' se' hz' lt lq ik kv sa ve vf vs vt vc ll lh la lu bg en ro hq mo mt mf mq pv ce fn va rg := by
    intro d
    induction d with
    | zero =>
      intro i op' tg' fi' se' hz' hi a b
      obtain rfl : i = n := by omega
      exact br_t (nI_le (Nat.le_refl _) (by omega)) (H _ _ _ _ _ _ (zc_gd hG a))
    | succ d ih =>
      intro i op' tg' fi' se' hz' hi a b
      have hr := zc_rkn (op := op) i
      have hc : (nI i).toNatClampNeg = i := nI_clamp (by omega)
      have hck : (nI (zq_rk op i)).toNatClampNeg = zq_rk op i := nI_clamp (by omega)
      have hin : vp_in (nI i) 512 := vp_in_nI (by omega) (by decide)
      have hik : vp_in (nI (zq_rk op i)) 512 := vp_in_nI (by omega) (by decide)
      obtain ⟨b1, b2, b3, b4, b5⟩ := b i (Nat.le_refl _)
      obtain ⟨v1, v2, v3, v4, v5, v6⟩ := hG.1.2.1 i (by omega)
      refine br_f (nI_ge (by omega) (by omega)) ?_
      rw [hc, hck, b1, b2, b3, b4, b5]
      refine ⟨hin, br_c (fun e0 => nm_r (nI_1 i) ?_) (fun n0 => ⟨hin, hik, nm_r (e' := upd op' (zq_rk op i) (op i)) ?_ ⟨hin, hik, nm_r (e' := upd tg' (zq_rk op i) (tg i)) ?_ ⟨hin, hik, nm_r (e' := upd fi' (zq_rk op i) (fi i)) rfl
        ⟨hin, hik, nm_r (e' := upd se' (zq_rk op i) (se i)) ?_ ⟨hin, hik, nm_r (e' := upd hz' (zq_rk op i) (hz i)) ?_ (nm_r (nI_1 _) (nm_r (nI_1 i) ?_))⟩⟩⟩⟩⟩)⟩
      · have hs : zq_rk op (i + 1) = zq_rk op i := if_pos e0
        have := ih (i + 1) op' tg' fi' se' hz' (by omega) (fun p hp np => a p (by
          have : p ≠ i := fun e => np (by rw [e]; exact e0)
          omega) np) (fun k hk => b k (by omega))
        rw [hs] at this; exact this
      · rw [vp_nar_byte, zn_b (Int32.le_trans (by decide) v1.1) (Int32.le_trans v1.2 (by decide))]
      · rw [vp_nar_short, zn_s (Int32.le_trans (by decide) v2.1) (Int32.le_trans (Int32.le_of_lt v2.2) (by decide))]
      · rw [vp_nar_short, zn_s (Int32.le_trans (by decide) v5.1) (Int32.le_trans (Int32.le_of_lt v5.2) (by decide))]
      · rcases v6 with e | ⟨e, _⟩ <;> rw [e] <;> rfl
      · have hs : zq_rk op (i + 1) = zq_rk op i + 1 := if_neg n0
        have := ih (i + 1) (upd op' (zq_rk op i) (op i)) (upd tg' (zq_rk op i) (tg i)) (upd fi' (zq_rk op i) (fi i)) (upd se' (zq_rk op i) (se i)) (upd hz' (zq_rk op i) (hz i)) (by omega) ?_ ?_
        · rw [hs] at this; exact this
        · intro p hp np
          by_cases e : p = i
          · subst e; rw [zq_us, zq_us, zq_us, zq_us, zq_us]; exact ⟨rfl, rfl, rfl, rfl, rfl⟩
          · have hlt : zq_rk op p < zq_rk op i := zq_rk_lt (by omega) np
            rw [zq_un (by omega), zq_un (by omega), zq_un (by omega), zq_un (by omega), zq_un (by omega)]
            exact a p (by omega) np
        · intro k hk
          rw [zq_un (by omega), zq_un (by omega), zq_un (by omega), zq_un (by omega), zq_un (by omega)]
          exact b k (by omega)
  unfold wpX_close
  exact ⟨n + 1, lp n 0 op tg fi se hz (by omega) (fun p hp => by omega) (fun k _ => ⟨rfl, rfl, rfl, rfl, rfl⟩)⟩
end
end
section
/-! what lives -/
theorem ts_nf2 {x : Bool} (h : ¬ x = false) : x = true := by
  cases x
  · exact absurd rfl h
  · rfl
def zv_gen (op fi se hz : ty_V) (i v : Nat) : Bool := ((decide (zq_r1 (op i)) && decide (v = (fi i).toNatClampNeg)) || (decide (zq_r2 (op i)) && decide (v = (se i).toNatClampNeg))) || (decide (zq_ce (op i) (hz i)) && decide (v < 6))
def zv_kil (op tg : ty_V) (i v : Nat) : Bool := decide (zq_wr (op i)) && decide (v = (tg i).toNatClampNeg)
def zv_fa (op : ty_V) (i : Nat) : Bool := decide (¬ op i = 16) && decide (¬ op i = 21)
def zv_jm (op : ty_V) (i : Nat) : Bool := decide (zq_jp (op i))
def zv_lb (op tg la : ty_V) (i : Nat) : Nat := if zq_jp (op i) then (la (tg i).toNatClampNeg).toNatClampNeg else 0
abbrev zv_F (op tg fi se hz la : ty_V) (X : Nat → Nat → Bool) (i v : Nat) : Bool := zl_F (zv_gen op fi se hz) (zv_kil op tg) (zv_fa op) (zv_jm op) (zv_lb op tg la) X i v
abbrev zv_p (op tg fi se hz la : ty_V) (n r i v : Nat) : Bool := zl_p (zv_gen op fi se hz) (zv_kil op tg) (zv_fa op) (zv_jm op) (zv_lb op tg la) n r i v
abbrev zv_L (ll lh : Nat → Int64) (i v : Nat) : Bool := zl_b (ll i) (lh i) v
section
variable {ct ms gv sz dp ch cv bs rc mz ls tc rd pc ps : Int32} {tk wa sp ip op tg fi se hz lt lq ik kv sa ve vf vs vt vc la lu bg en ro hq mo mt mf mq pv ce fn va rg : Nat → Int32} {ll lh : Nat → Int64}
variable {g : Nat} {I : ty_V} {n i : Nat}
theorem zx_canEnd {P : Int32 → Prop} (hi : i < 512) (h : P (zb_i (zq_ce (op i) (hz i)))) : wpX_canEnd P (ct, ms, gv, sz, dp, ch, cv, bs, rc, mz, ls, tc, rd, pc, ps, tk, wa, sp, ip, op, tg, fi, se, hz, lt, lq, ik, kv, sa, ve, vf, vs, vt, vc, ll, lh, la, lu, bg, en, ro, hq, mo, mt, mf, mq, pv, ce, fn, va, rg) (nI i) := by
  have hc : (nI i).toNatClampNeg = i := nI_clamp (by omega)
  have hin : vp_in (nI i) 512 := vp_in_nI hi (by decide)
  have k25 : (op i = 6 ∨ op i = 7 ∨ op i = 12) → wX_canEnd_25 P (nI i) (op i) ct ms gv sz dp ch cv bs rc mz ls tc rd pc ps tk wa sp ip op tg fi se hz lt lq ik kv sa ve vf vs vt vc ll lh la lu bg en ro hq mo mt mf mq pv ce fn va rg := by
    intro ho
    unfold wX_canEnd_25 wX_canEnd_30
    rw [hc]
    refine br_f (by decide) ⟨hin, br_c (fun e => ?_) (fun ne => ?_)⟩
    · rw [zb_t (p := zq_ce (op i) (hz i)) (Or.inl ⟨ho, e⟩)] at h; exact h
    · rw [zb_f (p := zq_ce (op i) (hz i))] at h
      · exact h
      · rintro (q | q | q | q)
        · exact ne q.2
        · rcases ho with e | e | e <;> rw [e] at q <;> exact absurd q (by decide)
        · rcases ho with e | e | e <;> rw [e] at q <;> exact absurd q (by decide)
        · rcases ho with e | e | e <;> rw [e] at q <;> exact absurd q (by decide)
  unfold wpX_canEnd
  rw [hc]
  refine ⟨hin, nm_r (e' := op i) rfl (br_c (fun e => k25 (Or.inl e)) (fun n6 => br_c (fun e => k25 (Or.inr (Or.inl e))) (fun n7 => br_c (fun e => k25 (Or.inr (Or.inr e))) (fun n12 => ?_))))⟩
  have hn : ¬ ((op i = 6 ∨ op i = 7 ∨ op i = 12) ∧ hz i = 0) := fun q => q.1.elim n6 (fun q => q.elim n7 n12)
  have k62 : ¬ (13 ≤ op i ∧ op i ≤ 15) → wX_canEnd_62 P (op i) ct ms gv sz dp ch cv bs rc mz ls tc rd pc ps tk wa sp ip op tg fi se hz lt lq ik kv sa ve vf vs vt vc ll lh la lu bg en ro hq mo mt mf mq pv ce fn va rg := by
    intro nr
    unfold wX_canEnd_62
    refine br_c (fun e => ?_) (fun n19 => br_c (fun e => ?_) (fun n21 => ?_))
    · rw [zb_t (p := zq_ce (op i) (hz i)) (Or.inr (Or.inr (Or.inl e)))] at h; exact h
    · rw [zb_t (p := zq_ce (op i) (hz i)) (Or.inr (Or.inr (Or.inr e)))] at h; exact h
    · rw [zb_f (p := zq_ce (op i) (hz i)) (fun q => q.elim hn (fun q => q.elim nr (fun q => q.elim n19 n21)))] at h; exact h
  unfold wX_canEnd_30
  refine br_t rfl (br_c (fun g13 => k62 (fun q => absurd q.1 (Int32.not_le.mpr g13))) (fun g13 => br_c (fun g15 => ?_) (fun g15 => k62 (fun q => g15 q.2))))
  rw [zb_t (p := zq_ce (op i) (hz i)) (Or.inr (Or.inl ⟨Int32.not_lt.mp g13, g15⟩))] at h; exact h
theorem zx_livesBefore {P : Int32 → Prop} {k : Nat} (hi : i ≤ 512) (hk : k < 128) (h : P (zb_i (zv_L ll lh i k = true))) : wpX_livesBefore P (ct, ms, gv, sz, dp, ch, cv, bs, rc, mz, ls, tc, rd, pc, ps, tk, wa, sp, ip, op, tg, fi, se, hz, lt, lq, ik, kv, sa, ve, vf, vs, vt, vc, ll, lh, la, lu, bg, en, ro, hq, mo, mt, mf, mq, pv, ce, fn, va, rg) (nI i) (nI k) := by
  have hc : (nI i).toNatClampNeg = i := nI_clamp (by omega)
  have hin : vp_in (nI i) 513 := vp_in_nI (by omega) (by decide)
  unfold wpX_livesBefore
  rw [hc]
  refine ⟨hin, zl_xlo hk ?_⟩
  unfold zl_lo
  by_cases h64 : k < 64
  · rw [if_pos h64]
    refine br_c (fun e => ⟨hin, zl_xhi hk ?_⟩) (fun ne => ?_)
    · rw [zl_and0 h64] at e
      rw [zb_f (p := zv_L ll lh i k = true)] at h
      · unfold zl_hi
        rw [if_pos h64]
        exact br_t (Int64.and_zero) h
      · show ¬ zl_b (ll i) (lh i) k = true
        unfold zl_b
        rw [if_pos h64, e]; decide
    · rw [zl_and0 h64] at ne
      rw [zb_t (p := zv_L ll lh i k = true)] at h
      · exact h
      · show zl_b (ll i) (lh i) k = true
        unfold zl_b
        rw [if_pos h64]; exact ts_nf2 ne
  · rw [if_neg h64]
    refine br_t (Int64.and_zero) ⟨hin, zl_xhi hk ?_⟩
    unfold zl_hi
    rw [if_neg h64]
    refine br_c (fun e => ?_) (fun ne => ?_)
    · rw [zl_and0 (by omega)] at e
      rw [zb_f (p := zv_L ll lh i k = true)] at h
      · exact h
      · show ¬ zl_b (ll i) (lh i) k = true
        unfold zl_b
        rw [if_neg h64, e]; decide
    · rw [zl_and0 (by omega)] at ne
      rw [zb_t (p := zv_L ll lh i k = true)] at h
      · exact h
      · show zl_b (ll i) (lh i) k = true
        unfold zl_b
        rw [if_neg h64]; exact ts_nf2 ne
theorem zx_liveAt {P : Int32 → SX → Prop} (hwf : zq_wf n op tg fi se hz) (hi : i < n) (hla : zj_la n op tg la)
    (H : ∀ w z r, (∀ v, v < 128 → zl_b w z v = zv_F op tg fi se hz la (zv_L ll lh) i v) → ((r = 0 ∧ w = ll i ∧ z = lh i) ∨ r = 1) → P r (ct, ms, gv, nI n, dp, ch, cv, bs, rc, mz, ls, tc, rd, pc, ps, tk, wa, sp, ip, op, tg, fi, se, hz, lt, lq, ik, kv, sa, ve, vf, vs, vt, vc, vp_updL ll i w, vp_updL lh i z, la, lu, bg, en, ro, hq, mo, mt, mf, mq, pv, ce, fn, va, rg)) :
    wpX_liveAt P (ct, ms, gv, nI n, dp, ch, cv, bs, rc, mz, ls, tc, rd, pc, ps, tk, wa, sp, ip, op, tg, fi, se, hz, lt, lq, ik, kv, sa, ve, vf, vs, vt, vc, ll, lh, la, lu, bg, en, ro, hq, mo, mt, mf, mq, pv, ce, fn, va, rg) (nI i) := by
  have w1 := hwf.1
  have hc : (nI i).toNatClampNeg = i := nI_clamp (by omega)
  have hc1 : (nI (i + 1)).toNatClampNeg = i + 1 := nI_clamp (by omega)
  have hin : vp_in (nI i) 512 := vp_in_nI (by omega) (by decide)
  have hin3 : vp_in (nI i) 513 := vp_in_nI (by omega) (by decide)
  have hin1 : vp_in (nI (i + 1)) 513 := vp_in_nI (by omega) (by decide)
  obtain ⟨v1, v2, v3, v4, v5, v6⟩ := hwf.2.1 i hi
  have nf : ∀ x : Int32, 0 ≤ x → nI x.toNatClampNeg = x := fun x hx => by
    obtain ⟨j, hj, rfl⟩ := nI_of (Int32.not_lt.mpr hx)
    rw [nI_clamp hj]
  have k267 : ∀ w z r, (∀ v, v < 128 → zl_b w z v = zv_F op tg fi se hz la (zv_L ll lh) i v) → ((r = 0 ∧ w = ll i ∧ z = lh i) ∨ r = 1) → wX_liveAt_267 P (nI i) w z r ct ms gv (nI n) dp ch cv bs rc mz ls tc rd pc ps tk wa sp ip op tg fi se hz lt lq ik kv sa ve vf vs vt vc ll lh la lu bg en ro hq mo mt mf mq pv ce fn va rg := by
    intro w z r a b
    unfold wX_liveAt_267
    rw [hc]
    refine ⟨hin3, nm_e ⟨hin3, nm_e ⟨?_, H w z r a b⟩⟩⟩
    rcases b with b | b
    · rw [b.1]; rfl
    · rw [b]; rfl
  have k235 : ∀ w z c, (∀ v, v < 128 → zl_b (w ||| c) z v = zv_F op tg fi se hz la (zv_L ll lh) i v) → wX_liveAt_235 P (nI i) z c w ct ms gv (nI n) dp ch cv bs rc mz ls tc rd pc ps tk wa sp ip op tg fi se hz lt lq ik kv sa ve vf vs vt vc ll lh la lu bg en ro hq mo mt mf mq pv ce fn va rg := by
    intro w z c a
    unfold wX_liveAt_235 wX_liveAt_262
    rw [hc]
    exact nm_e ⟨hin3, br_c (fun e => ⟨hin3, br_c (fun e2 => k267 _ z 0 a (Or.inl ⟨rfl, e, e2⟩)) (fun _ => k267 _ z 1 a (Or.inr rfl))⟩) (fun _ => k267 _ z 1 a (Or.inr rfl))⟩
  have k218 : ∀ w z (β : Nat → Bool), (∀ v, v < 128 → zl_b w z v = β v) → (∀ v, v < 128 → (β v || (decide (zq_ce (op i) (hz i)) && decide (v < 6))) = zv_F op tg fi se hz la (zv_L ll lh) i v) →
      wX_liveAt_218 P (nI i) w z ct ms gv (nI n) dp ch cv bs rc mz ls tc rd pc ps tk wa sp ip op tg fi se hz lt lq ik kv sa ve vf vs vt vc ll lh la lu bg en ro hq mo mt mf mq pv ce fn va rg := by
    intro w z β a b
    unfold wX_liveAt_218
    refine zx_canEnd (by omega) (zb_br (fun ne => k235 w z 0 (fun v hv => ?_)) (fun e => k235 w z 63 (fun v hv => ?_)))
    · have := b v hv
      rw [decide_eq_false ne, Bool.false_and, Bool.or_false] at this
      rw [Int64.or_zero, a v hv]; exact this
    · have := b v hv
      rw [decide_eq_true e, Bool.true_and] at this
      rw [zl_b6, a v hv]; exact this
  have k183 : ∀ w z (β : Nat → Bool), (∀ v, v < 128 → zl_b w z v = β v) →
      (∀ v, v < 128 → ((β v || (decide (zq_r2 (op i)) && decide (v = (se i).toNatClampNeg))) || (decide (zq_ce (op i) (hz i)) && decide (v < 6))) = zv_F op tg fi se hz la (zv_L ll lh) i v) →
      wX_liveAt_183 P (nI i) (op i) w z ct ms gv (nI n) dp ch cv bs rc mz ls tc rd pc ps tk wa sp ip op tg fi se hz lt lq ik kv sa ve vf vs vt vc ll lh la lu bg en ro hq mo mt mf mq pv ce fn va rg := by
    intro w z β a b
    unfold wX_liveAt_183
    rw [hc]
    have hs := zk_clin v5.1 v5.2
    refine zx_readsSecond (zb_br (fun ne => k218 w z β a (fun v hv => ?_)) (fun e => ⟨hin, ?_⟩))
    · have := b v hv
      rw [decide_eq_false ne, Bool.false_and, Bool.or_false] at this; exact this
    · rw [← nf (se i) v5.1]
      refine zl_xlo (by omega) (nm_e ⟨hin, zl_xhi (by omega) (nm_e (k218 _ _ (fun v => β v || decide (v = (se i).toNatClampNeg)) (fun v hv => ?_) (fun v hv => ?_)))⟩)
      · rw [zl_bor (by omega) hv, a v hv]
      · have := b v hv
        rw [decide_eq_true e, Bool.true_and] at this; exact this
  have k148 : ∀ w z (β : Nat → Bool), (∀ v, v < 128 → zl_b w z v = β v) →
      (∀ v, v < 128 → (((β v || (decide (zq_r1 (op i)) && decide (v = (fi i).toNatClampNeg))) || (decide (zq_r2 (op i)) && decide (v = (se i).toNatClampNeg))) || (decide (zq_ce (op i) (hz i)) && decide (v < 6))) = zv_F op tg fi se hz la (zv_L ll lh) i v) →
      wX_liveAt_148 P (nI i) (op i) w z ct ms gv (nI n) dp ch cv bs rc mz ls tc rd pc ps tk wa sp ip op tg fi se hz lt lq ik kv sa ve vf vs vt vc ll lh la lu bg en ro hq mo mt mf mq pv ce fn va rg := by
    intro w z β a b
    unfold wX_liveAt_148
    rw [hc]
    refine zx_readsFirst (zb_br (fun ne => k183 w z β a (fun v hv => ?_)) (fun e => ⟨hin, ?_⟩))
    · have := b v hv
      rw [decide_eq_false ne, Bool.false_and, Bool.or_false] at this; exact this
    · have hs := zk_clin (v4 e).1 (v4 e).2
      rw [← nf (fi i) (v4 e).1]
      refine zl_xlo (by omega) (nm_e ⟨hin, zl_xhi (by omega) (nm_e (k183 _ _ (fun v => β v || decide (v = (fi i).toNatClampNeg)) (fun v hv => ?_) (fun v hv => ?_)))⟩)
      · rw [zl_bor (by omega) hv, a v hv]
      · have := b v hv
        rw [decide_eq_true e, Bool.true_and] at this; exact this
  have k105 : ∀ w z (β : Nat → Bool), (∀ v, v < 128 → zl_b w z v = β v) →
      (∀ v, v < 128 → ((((β v && !(zv_kil op tg i v)) || (decide (zq_r1 (op i)) && decide (v = (fi i).toNatClampNeg))) || (decide (zq_r2 (op i)) && decide (v = (se i).toNatClampNeg))) || (decide (zq_ce (op i) (hz i)) && decide (v < 6))) = zv_F op tg fi se hz la (zv_L ll lh) i v) →
      wX_liveAt_105 P (nI i) (op i) w z ct ms gv (nI n) dp ch cv bs rc mz ls tc rd pc ps tk wa sp ip op tg fi se hz lt lq ik kv sa ve vf vs vt vc ll lh la lu bg en ro hq mo mt mf mq pv ce fn va rg := by
    intro w z β a b
    unfold wX_liveAt_105
    rw [hc]
    refine zx_writes (zb_br (fun ne => k148 w z β a (fun v hv => ?_)) (fun e => ⟨hin, ?_⟩))
    · have := b v hv
      unfold zv_kil at this
      rw [decide_eq_false ne, Bool.false_and, Bool.not_false, Bool.and_true] at this; exact this
    · have hs := zk_clin v2.1 (v3 e)
      rw [← nf (tg i) v2.1]
      refine zl_xlo (by omega) (nm_e ⟨hin, zl_xhi (by omega) (nm_e (k148 _ _ (fun v => β v && !(decide (v = (tg i).toNatClampNeg))) (fun v hv => ?_) (fun v hv => ?_)))⟩)
      · rw [zl_ban (by omega) hv, a v hv]
      · have := b v hv
        unfold zv_kil at this
        rw [decide_eq_true e, Bool.true_and] at this; exact this
  have fin : ∀ (x y : Bool) v, (x || y) = ((zv_fa op i && zv_L ll lh (i + 1) v) || (zv_jm op i && zv_L ll lh (zv_lb op tg la i) v)) →
      (((((x || y) && !(zv_kil op tg i v)) || (decide (zq_r1 (op i)) && decide (v = (fi i).toNatClampNeg))) || (decide (zq_r2 (op i)) && decide (v = (se i).toNatClampNeg))) || (decide (zq_ce (op i) (hz i)) && decide (v < 6))) = zv_F op tg fi se hz la (zv_L ll lh) i v := by
    intro x y v e
    rw [e]
    show _ = zl_F _ _ _ _ _ _ i v
    unfold zl_F zv_gen
    generalize (decide (zq_r1 (op i)) && decide (v = (fi i).toNatClampNeg)) = q1
    generalize (decide (zq_r2 (op i)) && decide (v = (se i).toNatClampNeg)) = q2
    generalize (decide (zq_ce (op i) (hz i)) && decide (v < 6)) = q3
    generalize zv_kil op tg i v = q4
    generalize ((zv_fa op i && zv_L ll lh (i + 1) v) || (zv_jm op i && zv_L ll lh (zv_lb op tg la i) v)) = q5
    cases q1 <;> cases q2 <;> cases q3 <;> cases q4 <;> cases q5 <;> rfl
  have k59 : ∀ w z (β : Nat → Bool), (∀ v, v < 128 → zl_b w z v = β v) → (∀ v, v < 128 → β v = (zv_fa op i && zv_L ll lh (i + 1) v)) → wX_liveAt_59 P (nI i) (op i) w z ct ms gv (nI n) dp ch cv bs rc mz ls tc rd pc ps tk wa sp ip op tg fi se hz lt lq ik kv sa ve vf vs vt vc ll lh la lu bg en ro hq mo mt mf mq pv ce fn va rg := by
    intro w z β a b
    unfold wX_liveAt_59
    rw [hc]
    refine zx_isJump (zb_br (fun ne => k105 w z β a (fun v hv => ?_)) (fun e => ?_))
    · have := fin (β v) false v (by rw [b v hv]; unfold zv_jm; rw [decide_eq_false ne, Bool.false_and])
      rw [Bool.or_false] at this; exact this
    · obtain ⟨q, q1, q2, q3⟩ := hwf.2.2.1 i hi e
      have hq : la (tg i).toNatClampNeg = nI q := by rw [← q3]; exact hla q q1 q2
      have hcq : (nI q).toNatClampNeg = q := nI_clamp (by omega)
      have hlb : zv_lb op tg la i = q := by unfold zv_lb; rw [if_pos e, hq, hcq]
      have hiq : vp_in (nI q) 513 := vp_in_nI (by omega) (by decide)
      refine ⟨hin, zk_vp v2, nm_r hq ?_⟩
      rw [hcq]
      refine ⟨hiq, nm_e ⟨hiq, nm_e (k105 _ _ (fun v => β v || zv_L ll lh q v) (fun v hv => ?_) (fun v hv => ?_))⟩⟩
      · rw [zl_bo, a v hv]
      · refine fin (β v) (zv_L ll lh q v) v ?_
        rw [b v hv, hlb]; unfold zv_jm; rw [decide_eq_true e, Bool.true_and]
  have k24 : ∀ z0 : Int32, (z0 = 0 → zv_fa op i = false) → (¬ z0 = 0 → zv_fa op i = true) → wX_liveAt_24 P (nI i) (op i) z0 ct ms gv (nI n) dp ch cv bs rc mz ls tc rd pc ps tk wa sp ip op tg fi se hz lt lq ik kv sa ve vf vs vt vc ll lh la lu bg en ro hq mo mt mf mq pv ce fn va rg := by
    intro z0 a b
    unfold wX_liveAt_24 wX_liveAt_41
    rw [nI_1, hc1]
    refine br_c (fun e => br_t e (k59 0 0 (fun _ => false) (fun v _ => zl_b0) (fun v _ => ?_))) (fun ne => ⟨hin1, br_f ne ⟨hin1, k59 _ _ (fun v => zv_L ll lh (i + 1) v) (fun v _ => rfl) (fun v _ => ?_)⟩⟩)
    · rw [a e, Bool.false_and]
    · rw [b ne, Bool.true_and]
  have z0 : ∀ {Q : Prop}, ¬ (0 : Int32) = 0 → Q := fun q => absurd rfl q
  unfold wpX_liveAt wX_liveAt_23
  rw [hc]
  refine ⟨hin, nm_r (e' := op i) rfl (br_c (fun e => k24 0 (fun _ => ?_) z0) (fun n16 => br_c (fun e => k24 0 (fun _ => ?_) z0) (fun n21 => k24 1 (fun q => absurd q (by decide)) (fun _ => ?_))))⟩
  · unfold zv_fa; rw [decide_eq_false (fun q => q e), Bool.false_and]
  · unfold zv_fa; rw [decide_eq_false (p := ¬ op i = 21) (fun q => q e), Bool.and_false]
  · unfold zv_fa; rw [decide_eq_true n16, decide_eq_true n21]; rfl
end
end
section
section
variable {ct ms gv sz dp ch cv bs rc mz ls tc rd pc ps : Int32} {tk wa sp ip op tg fi se hz lt lq ik kv sa ve vf vs vt vc la lu bg en ro hq mo mt mf mq pv ce fn va rg : Nat → Int32} {ll lh : Nat → Int64}
variable {post : SX → Prop} {n : Nat}
theorem zv_updLs {f : Nat → Int64} {k : Nat} : vp_updL f k (f k) = f := by
  funext j
  unfold vp_updL
  by_cases e : j = k
  · rw [if_pos e, e]
  · rw [if_neg e]
theorem zv_lbn (hwf : zq_wf n op tg fi se hz) (hla : zj_la n op tg la) {i : Nat} (hi : i < n) : zv_lb op tg la i ≤ n := by
  unfold zv_lb
  by_cases h : zq_jp (op i)
  · rw [if_pos h]
    obtain ⟨q, q1, q2, q3⟩ := hwf.2.2.1 i hi h
    have w1 := hwf.1
    rw [← q3, hla q q1 q2, nI_clamp (by omega)]; omega
  · rw [if_neg h]; omega
theorem zv_LP (hwf : zq_wf n op tg fi se hz) (hla : zj_la n op tg la) (h : ∀ i v, v < 128 → i < n → zv_L ll lh i v = zv_F op tg fi se hz la (zv_L ll lh) i v) :
    zq_LP n op tg fi se hz (fun i v => v < 128 ∧ zv_L ll lh i v = true) := by
  intro i hi
  obtain ⟨v1, v2, v3, v4, v5, v6⟩ := hwf.2.1 i hi
  have gen : ∀ v, v < 128 → zv_gen op fi se hz i v = true → zv_L ll lh i v = true := by
    intro v hv hg
    rw [h i v hv hi]
    show zl_F _ _ _ _ _ _ i v = true
    unfold zl_F
    rw [hg, Bool.true_or]
  have flw : ∀ v, v < 128 → zv_kil op tg i v = false → ((zv_fa op i && zv_L ll lh (i + 1) v) || (zv_jm op i && zv_L ll lh (zv_lb op tg la i) v)) = true → zv_L ll lh i v = true := by
    intro v hv hk hf
    rw [h i v hv hi]
    show zl_F _ _ _ _ _ _ i v = true
    unfold zl_F
    rw [hk, hf]; simp
  refine ⟨?_, ?_, ?_, ?_, ?_⟩
  · intro n16 n21 v hv
    by_cases hk : zq_wr (op i) ∧ v = (tg i).toNatClampNeg
    · exact Or.inl hk
    · refine Or.inr ⟨hv.1, flw v hv.1 ?_ ?_⟩
      · unfold zv_kil
        by_cases a : zq_wr (op i)
        · rw [decide_eq_false (p := v = (tg i).toNatClampNeg) (fun b => hk ⟨a, b⟩), Bool.and_false]
        · rw [decide_eq_false a, Bool.false_and]
      · unfold zv_fa
        rw [decide_eq_true n16, decide_eq_true n21, hv.2]; simp
  · intro hj q hq h20 ht v hv
    refine ⟨hv.1, flw v hv.1 ?_ ?_⟩
    · unfold zv_kil
      rw [decide_eq_false (fun a => zq_wrj a hj), Bool.false_and]
    · have w1 := hwf.1
      have e : zv_lb op tg la i = q := by
        unfold zv_lb
        rw [if_pos hj, ← ht, hla q hq h20, nI_clamp (by omega)]
      unfold zv_jm
      rw [decide_eq_true hj, e, hv.2]; simp
  · intro r1
    have := zk_clin (v4 r1).1 (v4 r1).2
    refine ⟨by omega, gen _ (by omega) ?_⟩
    unfold zv_gen
    rw [decide_eq_true r1, decide_eq_true (p := (fi i).toNatClampNeg = (fi i).toNatClampNeg) rfl]; simp
  · intro r2
    have := zk_clin v5.1 v5.2
    refine ⟨by omega, gen _ (by omega) ?_⟩
    unfold zv_gen
    rw [decide_eq_true r2, decide_eq_true (p := (se i).toNatClampNeg = (se i).toNatClampNeg) rfl]; simp
  · intro hce v hv
    refine ⟨by omega, gen v (by omega) ?_⟩
    unfold zv_gen
    rw [decide_eq_true hce, decide_eq_true hv]; simp
def zv_I (n r k : Nat) (op tg fi se hz la : ty_V) (ll lh : Nat → Int64) (mv : Int32) : Prop :=
  (∀ i v, v < 128 → k ≤ i → zv_p op tg fi se hz la n (r + 1) i v = true → zv_L ll lh i v = true) ∧
  (∀ i v, v < 128 → zv_p op tg fi se hz la n r i v = true → zv_L ll lh i v = true) ∧
  (∀ i v, v < 128 → i ≤ n → zv_L ll lh i v = true → zv_p op tg fi se hz la n n i v = true) ∧
  (mv = 0 ∨ mv = 1) ∧ (mv = 0 → ∀ i v, v < 128 → k ≤ i → i < n → zv_L ll lh i v = zv_F op tg fi se hz la (zv_L ll lh) i v)
theorem zv_next {r k : Nat} {mv r1 : Int32} {w z : Int64} (hwf : zq_wf n op tg fi se hz) (hla : zj_la n op tg la) (hk : k < n) (hI : zv_I n r (k + 1) op tg fi se hz la ll lh mv)
    (h1 : ∀ v, v < 128 → zl_b w z v = zv_F op tg fi se hz la (zv_L ll lh) k v) (h2 : (r1 = 0 ∧ w = ll k ∧ z = lh k) ∨ r1 = 1) :
    zv_I n r k op tg fi se hz la (vp_updL ll k w) (vp_updL lh k z) (mv ||| r1) := by
  obtain ⟨a1, a2, a3, a4, a5⟩ := hI
  have hLk : ∀ v, v < 128 → zv_L (vp_updL ll k w) (vp_updL lh k z) k v = zv_F op tg fi se hz la (zv_L ll lh) k v := by
    intro v hv
    show zl_b (vp_updL ll k w k) (vp_updL lh k z k) v = _
    rw [pk_uLs, pk_uLs]; exact h1 v hv
  have hLn : ∀ i v, i ≠ k → zv_L (vp_updL ll k w) (vp_updL lh k z) i v = zv_L ll lh i v := by
    intro i v e
    show zl_b (vp_updL ll k w i) (vp_updL lh k z i) v = _
    rw [pk_uLn e, pk_uLn e]
  have hlb := zv_lbn hwf hla hk
  refine ⟨?_, ?_, ?_, ?_, ?_⟩
  · intro i v hv hi hp
    by_cases e : i = k
    · subst e
      rw [hLk v hv]
      exact zl_up _ _ _ _ _ (a2 _ v hv) (a2 _ v hv) hp
    · rw [hLn i v e]; exact a1 i v hv (by omega) hp
  · intro i v hv hp
    by_cases e : i = k
    · subst e
      rw [hLk v hv]
      exact zl_up _ _ _ _ _ (a2 _ v hv) (a2 _ v hv) (zl_ps _ _ _ _ _ _ _ _ hp)
    · rw [hLn i v e]; exact a2 i v hv hp
  · intro i v hv hi hp
    by_cases e : i = k
    · subst e
      rw [hLk v hv] at hp
      exact zl_dn _ _ _ _ _ hk (a3 _ v hv (by omega)) (a3 _ v hv hlb) hp
    · rw [hLn i v e] at hp; exact a3 i v hv hi hp
  · rcases h2 with ⟨e, _⟩ | e <;> rcases a4 with e2 | e2 <;> rw [e, e2] <;> decide
  · intro hm
    rcases h2 with ⟨e, e1, e2⟩ | e
    · subst e1 e2
      rw [zv_updLs, zv_updLs]
      have hm0 : mv = 0 := by
        rcases a4 with q | q
        · exact q
        · rw [q, e] at hm; exact absurd hm (by decide)
      intro i v hv hi hin
      by_cases e3 : i = k
      · subst e3; exact h1 v hv
      · exact a5 hm0 i v hv (by omega) hin
    · rcases a4 with q | q <;> rw [q, e] at hm <;> exact absurd hm (by decide)
theorem zx_fl58 {r : Nat} {J : Int32 → Int32 → Int32 → Int32 → Int32 → Int32 → Int32 → Int32 → Int32 → Int32 → Int32 → Int32 → Int32 → Int32 → Int32 → Int32 → Int32 → (Nat → Int32) → (Nat → Int32) → (Nat → Int32) → (Nat → Int32) → (Nat → Int32) → (Nat → Int32) → (Nat → Int32) → (Nat → Int32) → (Nat → Int32) → (Nat → Int32) → (Nat → Int32) → (Nat → Int32) → (Nat → Int32) → (Nat → Int32) → (Nat → Int32) → (Nat → Int32) → (Nat → Int32) → (Nat → Int32) → (Nat → Int32) → (Nat → Int64) → (Nat → Int64) → (Nat → Int32) → (Nat → Int32) → (Nat → Int32) → (Nat → Int32) → (Nat → Int32) → (Nat → Int32) → (Nat → Int32) → (Nat → Int32) → (Nat → Int32) → (Nat → Int32) → (Nat → Int32) → (Nat → Int32) → (Nat → Int32) → (Nat → Int32) → (Nat → Int32) → Prop}
    (hwf : zq_wf n op tg fi se hz) (hla : zj_la n op tg la) (H : ∀ ll' lh' mv, zv_I n r 0 op tg fi se hz la ll' lh' mv → J mv (nI (r + 1)) ct ms gv (nI n) dp ch cv bs rc mz ls tc rd pc ps tk wa sp ip op tg fi se hz lt lq ik kv sa ve vf vs vt vc ll' lh' la lu bg en ro hq mo mt mf mq pv ce fn va rg) :
    ∀ k ll lh mv, k ≤ n → zv_I n r k op tg fi se hz la ll lh mv → wX_findLiving_58 post J (nI r) (k + 1) mv (nI k + (-1)) ct ms gv (nI n) dp ch cv bs rc mz ls tc rd pc ps tk wa sp ip op tg fi se hz lt lq ik kv sa ve vf vs vt vc ll lh la lu bg en ro hq mo mt mf mq pv ce fn va rg := by
  have w1 := hwf.1
  intro k
  induction k with
  | zero =>
    intro ll lh mv _ hI
    exact br_t (by decide) (nm_r (nI_1 r) (H ll lh mv hI))
  | succ k ih =>
    intro ll lh mv hk hI
    rw [pk_m1]
    refine br_f (nI_pos (by omega)) (zx_liveAt hwf (by omega) hla (fun w z r1 a b => nm_e (nm_e (ih _ _ _ (by omega) (zv_next hwf hla (by omega) hI a b)))))
theorem zx_fl38 (hwf : zq_wf n op tg fi se hz) (hla : zj_la n op tg la)
    (H : ∀ ll' lh', zq_LP n op tg fi se hz (fun i v => v < 128 ∧ zv_L ll' lh' i v = true) → post (ct, ms, gv, nI n, dp, ch, cv, bs, rc, mz, ls, tc, rd, pc, ps, tk, wa, sp, ip, op, tg, fi, se, hz, lt, lq, ik, kv, sa, ve, vf, vs, vt, vc, ll', lh', la, lu, bg, en, ro, hq, mo, mt, mf, mq, pv, ce, fn, va, rg)) :
    ∀ d r ll lh mv, r + d = 512 → (∀ i v, v < 128 → zv_p op tg fi se hz la n r i v = true → zv_L ll lh i v = true) →
      (∀ i v, v < 128 → i ≤ n → zv_L ll lh i v = true → zv_p op tg fi se hz la n n i v = true) →
      (mv = 0 → ∀ i v, v < 128 → i < n → zv_L ll lh i v = zv_F op tg fi se hz la (zv_L ll lh) i v) → wX_findLiving_38 post (d + 1) mv (nI r) ct ms gv (nI n) dp ch cv bs rc mz ls tc rd pc ps tk wa sp ip op tg fi se hz lt lq ik kv sa ve vf vs vt vc ll lh la lu bg en ro hq mo mt mf mq pv ce fn va rg := by
  have w1 := hwf.1
  intro d
  induction d with
  | zero =>
    intro r ll lh mv hr a b c
    obtain rfl : r = 512 := by omega
    refine br_t (by decide) (H ll lh (zv_LP hwf hla ?_))
    have eqT : ∀ i v, v < 128 → i ≤ n → zv_L ll lh i v = zv_p op tg fi se hz la n n i v := by
      intro i v hv hi
      rw [Bool.eq_iff_iff]
      exact ⟨b i v hv hi, fun q => a i v hv (zl_pup _ _ _ _ _ n 512 i v (by omega) q)⟩
    intro i v hv hi
    rw [eqT i v hv (by omega)]
    show zl_p _ _ _ _ _ n n i v = _
    rw [← zl_FT _ _ _ _ _ hi]
    show zl_F _ _ _ _ _ _ i v = zl_F _ _ _ _ _ _ i v
    unfold zl_F
    rw [eqT (i + 1) v hv (by omega), eqT _ v hv (zv_lbn hwf hla hi)]
  | succ d ih =>
    intro r ll lh mv hr a b c
    refine br_f (nI_ge (b := 512) (by omega) (by decide)) (br_c (fun e => H ll lh (zv_LP hwf hla (c e))) (fun ne => nm_r (zk_sm1 _) ⟨n + 1, ?_⟩))
    refine zx_fl58 hwf hla (fun ll' lh' mv' hI => ih (r + 1) ll' lh' mv' (by omega) (fun i v hv hp => hI.1 i v hv (Nat.zero_le _) hp) hI.2.2.1 (fun q i v hv hi => hI.2.2.2.2 q i v hv (Nat.zero_le _) hi)) n ll lh 0 (Nat.le_refl _) ?_
    refine ⟨fun i v hv hi hp => ?_, a, b, Or.inl rfl, fun _ i v hv h1 h2 => by omega⟩
    have := zl_pin _ _ _ _ _ hp
    omega
theorem zx_findLiving (hwf : zq_wf n op tg fi se hz)
    (H : ∀ la' lu' ll' lh', zj_la n op tg la' → zj_lu n op tg lu' → zq_LP n op tg fi se hz (fun i v => v < 128 ∧ zv_L ll' lh' i v = true) → post (ct, ms, gv, nI n, dp, ch, cv, bs, rc, mz, ls, tc, rd, pc, ps, tk, wa, sp, ip, op, tg, fi, se, hz, lt, lq, ik, kv, sa, ve, vf, vs, vt, vc, ll', lh', la', lu', bg, en, ro, hq, mo, mt, mf, mq, pv, ce, fn, va, rg)) :
    wpX_findLiving post (ct, ms, gv, nI n, dp, ch, cv, bs, rc, mz, ls, tc, rd, pc, ps, tk, wa, sp, ip, op, tg, fi, se, hz, lt, lq, ik, kv, sa, ve, vf, vs, vt, vc, ll, lh, la, lu, bg, en, ro, hq, mo, mt, mf, mq, pv, ce, fn, va, rg) := by
  have w1 := hwf.1
  unfold wpX_findLiving
  refine zx_findLabels hwf (fun la' lu' hla hlu => ⟨n + 2, ?_⟩)
  have lp : ∀ d i ll lh, i + d = n + 1 → (∀ k, k < i → ll k = 0 ∧ lh k = 0) → wX_findLiving_6 post ct ms gv (nI n) dp ch cv bs rc mz ls tc rd pc ps (d + 1) (nI i) tk wa sp ip op tg fi se hz lt lq ik kv sa ve vf vs vt vc ll lh la' lu' bg en ro hq mo mt mf mq pv ce fn va rg := by
    intro d
    induction d with
    | zero =>
      intro i ll lh hi h0
      obtain rfl : i = n + 1 := by omega
      have hL : ∀ k v, k ≤ n → zv_L ll lh k v = false := by
        intro k v hk
        show zl_b (ll k) (lh k) v = false
        rw [(h0 k (by omega)).1, (h0 k (by omega)).2]; exact zl_b0
      refine br_t (nI_lt (by omega) (by omega)) ⟨513, zx_fl38 hwf hla (fun ll' lh' h => H la' lu' ll' lh' hla hlu h) 512 0 ll lh 1 rfl (fun i v _ hp => absurd (show false = true from hp) (by decide)) (fun i v _ hi hp => ?_) (fun q => absurd q (by decide))⟩
      rw [hL i v hi] at hp; exact absurd hp (by decide)
    | succ d ih =>
      intro i ll lh hi h0
      have hin : vp_in (nI i) 513 := vp_in_nI (by omega) (by decide)
      have hc : (nI i).toNatClampNeg = i := nI_clamp (by omega)
      refine br_f (nI_nlt (by omega) (by omega)) ?_
      rw [hc]
      refine ⟨hin, nm_e ⟨hin, nm_e (nm_r (nI_1 i) (ih (i + 1) _ _ (by omega) (fun k hk => ?_)))⟩⟩
      by_cases e : k = i
      · subst e; rw [pk_uLs, pk_uLs]; exact ⟨rfl, rfl⟩
      · rw [pk_uLn e, pk_uLn e]; exact h0 k (by omega)
  exact lp (n + 1) 0 ll lh (by omega) (fun k hk => by omega)
end
end
section
/-! dropIdle, joinMoves, improve -/
section
variable {g : Nat} {I : ty_V} {R : ty_R} {D0 : ty_D} {n i : Nat} {op tg fi se hz : ty_V} {L : Nat → Nat → Prop}
theorem zj_LP0 (hLP : zq_LP n op tg fi se hz L) (h : ∀ v, L (i + 1) v → L i v) : zq_LP n (upd op i 0) tg (upd fi i 0) (upd se i 0) (upd hz i 0) L := by
  intro p hp
  obtain ⟨a, b, c, d, e⟩ := hLP p hp
  have o20 : ∀ q, upd op i 0 q = 20 → op q = 20 := by
    intro q h
    by_cases e : q = i
    · subst e; rw [zq_us] at h; exact absurd h (by decide)
    · rw [zq_un e] at h; exact h
  by_cases ep : p = i
  · subst ep
    rw [zq_us, zq_us, zq_us, zq_us]
    exact ⟨fun _ _ v hv => Or.inr (h v hv), fun q => absurd q (by decide), fun q => absurd q (by decide), fun q => absurd q (by decide), fun q => absurd q (by decide)⟩
  · rw [zq_un ep, zq_un ep, zq_un ep, zq_un ep]
    exact ⟨a, fun hj q hq h20 => b hj q hq (o20 q h20), c, d, e⟩
theorem zj_dead (hG : zq_gd g I R D0 n op tg fi se hz) (hLP : zq_LP n op tg fi se hz L) (hi : i < n) (hw : zq_wr (op i)) (hpu : zq_pu (op i) ∨ ¬ hz i = 0) (hd : ¬ L (i + 1) (tg i).toNatClampNeg) :
    zq_gd g I R D0 n (upd op i 0) tg (upd fi i 0) (upd se i 0) (upd hz i 0) ∧ zq_LP n (upd op i 0) tg (upd fi i 0) (upd se i 0) (upd hz i 0) L := by
  have n16 : ¬ op i = 16 := fun e => by rw [e] at hw; exact absurd hw (by decide)
  have n21 : ¬ op i = 21 := fun e => by rw [e] at hw; exact absurd hw (by decide)
  have n20 : ¬ op i = 20 := fun e => by rw [e] at hw; exact absurd hw (by decide)
  refine ⟨⟨zj_wf0 hG.1 (fun q => absurd q n20), ?_⟩, zj_LP0 hLP (fun v hv => ?_)⟩
  · obtain ⟨m, h⟩ := hG.2
    refine ⟨m, zq_dead hLP hw ?_ hd m 99 0 _ _ D0 (fun v _ => rfl) h⟩
    rcases hpu with q | q
    · exact Or.inl q
    · refine Or.inr ⟨q, ?_⟩
      rcases (hG.1.2.1 i hi).2.2.2.2.2 with e | e
      · exact absurd e q
      · exact e.2
  · rcases (hLP i hi).1 n16 n21 v hv with q | q
    · rw [q.2] at hv; exact absurd hv hd
    · exact q
theorem zj_self (hG : zq_gd g I R D0 n op tg fi se hz) (hLP : zq_LP n op tg fi se hz L) (hi : i < n) (h2 : op i = 2) (hf : fi i = tg i) :
    zq_gd g I R D0 n (upd op i 0) tg (upd fi i 0) (upd se i 0) (upd hz i 0) ∧ zq_LP n (upd op i 0) tg (upd fi i 0) (upd se i 0) (upd hz i 0) L := by
  refine ⟨⟨zj_wf0 hG.1 (fun q => by rw [h2] at q; exact absurd q (by decide)), ?_⟩, zj_LP0 hLP (fun v hv => ?_)⟩
  · obtain ⟨m, h⟩ := hG.2
    refine ⟨m, zq_swap ?_ ?_ m 99 0 _ D0 h⟩
    · intro p V D hp hA
      refine ⟨zj_hm0 hA, ?_⟩
      by_cases e : p = i
      · subst e
        intro J T N q
        rw [zq_us]
        refine (zq_nop (Or.inl rfl)).mpr ?_
        have q2 := (q.2 (fun h => absurd (zq_tkj h) (by rw [h2]; decide))).2 (by rw [h2]; simp [zq_end])
        rw [h2] at q2
        have hx : zq_x 2 (fi p) V = V (tg p).toNatClampNeg := by rw [zq_x, if_pos (by decide), hf]
        have er : ∀ x y, zq_res I 2 x y D = x := by intro x y; simp [zq_res, zq_val]
        have ee : ∀ x y, zq_eff 2 x y D = D := by intro x y; simp [zq_eff]
        rw [er, ee, hx, zq_w, if_pos (by decide), zq_uself] at q2
        exact q2
      · rw [zq_un e, zq_un e, zq_un e]; exact fun J T N q => q
    · intro p q hp hq hj h20 ht
      refine ⟨?_, rfl⟩
      rw [zq_un]
      · exact h20
      · intro e; rw [e, h2] at h20; exact absurd h20 (by decide)
  · rcases (hLP i hi).1 (by rw [h2]; decide) (by rw [h2]; decide) v hv with q | q
    · rw [q.2, ← hf]; exact (hLP i hi).2.2.1 (by rw [h2]; decide)
    · exact q
theorem zj_join (hG : zq_gd g I R D0 n op tg fi se hz) (hLP : zq_LP n op tg fi se hz L) (hi : i + 1 < n) (hw : zq_wr (op i)) (h2 : op (i + 1) = 2) (hf : fi (i + 1) = tg i) (hne : ¬ tg (i + 1) = tg i)
    (hd : ¬ L (i + 2) (tg i).toNatClampNeg) :
    zq_gd g I R D0 n (upd op (i + 1) 0) (upd tg i (tg (i + 1))) (upd fi (i + 1) 0) (upd se (i + 1) 0) (upd hz (i + 1) 0) ∧
    zq_LP n (upd op (i + 1) 0) (upd tg i (tg (i + 1))) (upd fi (i + 1) 0) (upd se (i + 1) 0) (upd hz (i + 1) 0) (fun p v => if p = i + 1 then L (i + 2) v else L p v) := by
  have wi := hG.1.2.1 i (by omega)
  have wi1 := hG.1.2.1 (i + 1) hi
  have hne2 : (tg (i + 1)).toNatClampNeg ≠ (tg i).toNatClampNeg := fun e => hne (zk_clinj wi1.2.1.1 wi.2.1.1 e)
  have n16 : ¬ op i = 16 := fun e => by rw [e] at hw; exact absurd hw (by decide)
  have n21 : ¬ op i = 21 := fun e => by rw [e] at hw; exact absurd hw (by decide)
  have n20 : ¬ op i = 20 := fun e => by rw [e] at hw; exact absurd hw (by decide)
  have nj : ¬ zq_jp (op i) := zq_wrj hw
  have o20 : ∀ q, upd op (i + 1) 0 q = 20 → op q = 20 ∧ q ≠ i + 1 ∧ q ≠ i := by
    intro q h
    by_cases e : q = i + 1
    · subst e; rw [zq_us] at h; exact absurd h (by decide)
    · rw [zq_un e] at h; exact ⟨h, e, fun e2 => n20 (e2 ▸ h)⟩
  have hwf0 := zj_wf0 (i := i + 1) hG.1 (fun q => by rw [h2] at q; exact absurd q (by decide))
  refine ⟨⟨⟨hwf0.1, ?_, ?_, ?_⟩, ?_⟩, ?_⟩
  · intro j hj
    by_cases e : j = i
    · subst e
      rw [zq_us]
      obtain ⟨a1, a2, a3, a4, a5, a6⟩ := hwf0.2.1 j hj
      exact ⟨a1, wi1.2.1, fun _ => wi1.2.2.1 (by rw [h2]; decide), a4, a5, a6⟩
    · rw [zq_un e]; exact hwf0.2.1 j hj
  · intro j hj hp
    have e : j ≠ i := by
      intro e; subst e; rw [zq_un (by omega)] at hp; exact nj hp
    obtain ⟨q, a1, a2, a3⟩ := hwf0.2.2.1 j hj hp
    refine ⟨q, a1, a2, ?_⟩
    rw [zq_un e, zq_un (o20 q a2).2.2]; exact a3
  · intro p q hp hq h1 h3 h4
    rw [zq_un (o20 p h1).2.2, zq_un (o20 q h3).2.2] at h4
    exact hwf0.2.2.2 p q hp hq h1 h3 h4
  · obtain ⟨m, h⟩ := hG.2
    exact ⟨m, zq_join hLP hi hw h2 hf hne2 hd m 99 0 _ _ D0 (fun q => by omega) (fun _ v _ => rfl) h⟩
  · intro p hp
    obtain ⟨a, b, c, d, e⟩ := hLP p hp
    by_cases ep : p = i + 1
    · subst ep
      rw [zq_us, zq_us, zq_us, zq_us]
      refine ⟨fun _ _ v hv => Or.inr ?_, fun q => absurd q (by decide), fun q => absurd q (by decide), fun q => absurd q (by decide), fun q => absurd q (by decide)⟩
      dsimp only at hv ⊢
      rw [if_neg (by omega)] at hv
      rw [if_pos rfl]; exact hv
    · rw [zq_un ep, zq_un ep, zq_un ep, zq_un ep]
      dsimp only
      refine ⟨?_, ?_, ?_, ?_, ?_⟩
      · intro m16 m21 v hv
        by_cases epi : p = i
        · subst epi
          rw [if_pos rfl] at hv
          rw [zq_us, if_neg (by omega)]
          by_cases ev : v = (tg (p + 1)).toNatClampNeg
          · exact Or.inl ⟨hw, ev⟩
          · have k1 : L (p + 1) v := by
              rcases (hLP (p + 1) hi).1 (by rw [h2]; decide) (by rw [h2]; decide) v hv with q | q
              · exact absurd q.2 ev
              · exact q
            rcases a m16 m21 v k1 with q | q
            · rw [q.2] at hv; exact absurd hv hd
            · exact Or.inr q
        · rw [if_neg (by omega)] at hv
          rw [zq_un epi, if_neg ep]
          exact a m16 m21 v hv
      · intro hj q hq h20 ht v hv
        obtain ⟨c1, c2, c3⟩ := o20 q h20
        have epi : p ≠ i := fun e => nj (e ▸ hj)
        rw [zq_un c3, zq_un epi] at ht
        rw [if_neg c2] at hv
        rw [if_neg ep]
        exact b hj q hq c1 ht v hv
      · intro q; rw [if_neg ep]; exact c q
      · intro q; rw [if_neg ep]; exact d q
      · intro q v hv; rw [if_neg ep]; exact e q v hv
end
section
variable {ct ms gv sz dp ch cv bs rc mz ls tc rd pc ps : Int32} {tk wa sp ip op tg fi se hz lt lq ik kv sa ve vf vs vt vc la lu bg en ro hq mo mt mf mq pv ce fn va rg : Nat → Int32} {ll lh : Nat → Int64}
variable {post : SX → Prop} {g : Nat} {I : ty_V} {R : ty_R} {D0 : ty_D} {n : Nat}
theorem zx_nf {x : Int32} (h : 0 ≤ x ∧ x < 96) : ∃ k, k < 96 ∧ x = nI k ∧ x.toNatClampNeg = k := by
  have h2 := zk_clin h.1 h.2
  obtain ⟨j, hj, rfl⟩ := nI_of (Int32.not_lt.mpr h.1)
  rw [nI_clamp hj] at h2 ⊢
  exact ⟨j, h2, rfl, rfl⟩
theorem zx_di6 (H : ∀ op' fi' se' hz' ch', zq_gd g I R D0 n op' tg fi' se' hz' → post (ct, ms, gv, nI n, dp, ch', cv, bs, rc, mz, ls, tc, rd, pc, ps, tk, wa, sp, ip, op', tg, fi', se', hz', lt, lq, ik, kv, sa, ve, vf, vs, vt, vc, ll, lh, la, lu, bg, en, ro, hq, mo, mt, mf, mq, pv, ce, fn, va, rg)) :
    ∀ d i op fi se hz ch, i + d = n → zq_gd g I R D0 n op tg fi se hz → zq_LP n op tg fi se hz (fun i v => v < 128 ∧ zv_L ll lh i v = true) → wX_dropIdle_6 post (d + 1) (nI i) ct ms gv (nI n) dp ch cv bs rc mz ls tc rd pc ps tk wa sp ip op tg fi se hz lt lq ik kv sa ve vf vs vt vc ll lh la lu bg en ro hq mo mt mf mq pv ce fn va rg := by
  intro d
  induction d with
  | zero =>
    intro i op fi se hz ch hi hG hLP
    have w1 := hG.1.1
    exact br_t (nI_le (by omega) (by omega)) (H _ _ _ _ _ hG)
  | succ d ih =>
    intro i op fi se hz ch hi hG hLP
    have w1 := hG.1.1
    have hc : (nI i).toNatClampNeg = i := nI_clamp (by omega)
    have hin : vp_in (nI i) 512 := vp_in_nI (by omega) (by decide)
    obtain ⟨v1, v2, v3, v4, v5, v6⟩ := hG.1.2.1 i (by omega)
    have nx := ih (i + 1) op fi se hz ch (by omega) hG hLP
    have k102 : (zq_gd g I R D0 n (upd op i 0) tg (upd fi i 0) (upd se i 0) (upd hz i 0) ∧ zq_LP n (upd op i 0) tg (upd fi i 0) (upd se i 0) (upd hz i 0) (fun i v => v < 128 ∧ zv_L ll lh i v = true)) →
        wX_dropIdle_102 post (wX_dropIdle_6 post (d + 1)) (nI i) ct ms gv (nI n) dp ch cv bs rc mz ls tc rd pc ps tk wa sp ip op tg fi se hz lt lq ik kv sa ve vf vs vt vc ll lh la lu bg en ro hq mo mt mf mq pv ce fn va rg := by
      intro q
      unfold wX_dropIdle_102
      exact zx_replace (by omega) (by decide) (nm_r (nI_1 i) (ih (i + 1) _ _ _ _ _ (by omega) q.1 q.2))
    have k74 : wX_dropIdle_74 post (wX_dropIdle_6 post (d + 1)) (nI i) (op i) ct ms gv (nI n) dp ch cv bs rc mz ls tc rd pc ps tk wa sp ip op tg fi se hz lt lq ik kv sa ve vf vs vt vc ll lh la lu bg en ro hq mo mt mf mq pv ce fn va rg := by
      unfold wX_dropIdle_74 wX_dropIdle_75
      rw [hc]
      exact br_t rfl (br_c (fun e2 => ⟨hin, hin, br_c (fun e => k102 (zj_self hG hLP (by omega) e2 e)) (fun _ => nm_r (nI_1 i) nx)⟩) (fun _ => nm_r (nI_1 i) nx))
    have k42 : ∀ z : Int32, (¬ z = 0 → zq_pu (op i) ∨ ¬ hz i = 0) → wX_dropIdle_42 post (wX_dropIdle_6 post (d + 1)) (nI i) (op i) z ct ms gv (nI n) dp ch cv bs rc mz ls tc rd pc ps tk wa sp ip op tg fi se hz lt lq ik kv sa ve vf vs vt vc ll lh la lu bg en ro hq mo mt mf mq pv ce fn va rg := by
      intro z hz0
      unfold wX_dropIdle_42
      rw [hc, nI_1]
      refine zx_writes (zb_br (fun _ => k74) (fun w => br_c (fun _ => k74) (fun nz => ⟨hin, ?_⟩)))
      obtain ⟨k, hk, ek, ek2⟩ := zx_nf ⟨v2.1, v3 w⟩
      rw [ek]
      refine zx_livesBefore (by omega) (by omega) (zb_br (fun nl => ?_) (fun _ => k74))
      unfold wX_dropIdle_75
      refine br_f (by decide) (k102 (zj_dead hG hLP (by omega) w (hz0 nz) ?_))
      rw [ek2]
      exact fun q => nl q.2
    refine br_f (nI_ge (by omega) (by omega)) ?_
    rw [hc]
    unfold wX_dropIdle_37
    exact ⟨hin, nm_r (e' := op i) rfl (zx_isPure (zb_br (fun _ => ⟨hin, br_c (fun _ => k42 0 (fun q => absurd rfl q)) (fun nz => k42 1 (fun _ => Or.inr nz))⟩) (fun pu => k42 1 (fun _ => Or.inl pu))))⟩
theorem zx_dropIdle (hG : zq_gd g I R D0 n op tg fi se hz)
    (H : ∀ op' fi' se' hz' ch' la' lu' ll' lh', zq_gd g I R D0 n op' tg fi' se' hz' → post (ct, ms, gv, nI n, dp, ch', cv, bs, rc, mz, ls, tc, rd, pc, ps, tk, wa, sp, ip, op', tg, fi', se', hz', lt, lq, ik, kv, sa, ve, vf, vs, vt, vc, ll', lh', la', lu', bg, en, ro, hq, mo, mt, mf, mq, pv, ce, fn, va, rg)) : wpX_dropIdle post (ct, ms, gv, nI n, dp, ch, cv, bs, rc, mz, ls, tc, rd, pc, ps, tk, wa, sp, ip, op, tg, fi, se, hz, lt, lq, ik, kv, sa, ve, vf, vs, vt, vc, ll, lh, la, lu, bg, en, ro, hq, mo, mt, mf, mq, pv, ce, fn, va, rg) := by
  unfold wpX_dropIdle
  refine zx_findLiving hG.1 (fun la' lu' ll' lh' _ _ hLP => ⟨n + 1, ?_⟩)
  exact zx_di6 (fun op' fi' se' hz' ch' h => H _ _ _ _ _ _ _ _ _ h) n 0 op fi se hz ch (by omega) hG hLP
theorem zx_jm6 (H : ∀ op' tg' fi' se' hz' ch', zq_gd g I R D0 n op' tg' fi' se' hz' → post (ct, ms, gv, nI n, dp, ch', cv, bs, rc, mz, ls, tc, rd, pc, ps, tk, wa, sp, ip, op', tg', fi', se', hz', lt, lq, ik, kv, sa, ve, vf, vs, vt, vc, ll, lh, la, lu, bg, en, ro, hq, mo, mt, mf, mq, pv, ce, fn, va, rg)) :
    ∀ d i op tg fi se hz ch, n ≤ i + d → i ≤ n + 1 → zq_gd g I R D0 n op tg fi se hz → (∃ L : Nat → Nat → Prop, zq_LP n op tg fi se hz L ∧ ∀ k v, i + 1 ≤ k → L k v → v < 128 ∧ zv_L ll lh k v = true) →
      wX_joinMoves_6 post (d + 1) (nI i) ct ms gv (nI n) dp ch cv bs rc mz ls tc rd pc ps tk wa sp ip op tg fi se hz lt lq ik kv sa ve vf vs vt vc ll lh la lu bg en ro hq mo mt mf mq pv ce fn va rg := by
  intro d
  induction d with
  | zero =>
    intro i op tg fi se hz ch hi hi2 hG hL
    have w1 := hG.1.1
    refine br_t ?_ (H _ _ _ _ _ _ hG)
    rw [nI_1]
    exact nI_le (by omega) (by omega)
  | succ d ih =>
    intro i op tg fi se hz ch hi hi2 hG hL
    have w1 := hG.1.1
    have hc : (nI i).toNatClampNeg = i := nI_clamp (by omega)
    have hc1 : (nI (i + 1)).toNatClampNeg = i + 1 := nI_clamp (by omega)
    rw [wX_joinMoves_6]
    dsimp only
    rw [nI_1, hc1, hc]
    by_cases hend : n ≤ i + 1
    · exact br_t (nI_le hend (by omega)) (H _ _ _ _ _ _ hG)
    · have hin : vp_in (nI i) 512 := vp_in_nI (by omega) (by decide)
      have hin1 : vp_in (nI (i + 1)) 512 := vp_in_nI (by omega) (by decide)
      obtain ⟨v1, v2, v3, v4, v5, v6⟩ := hG.1.2.1 i (by omega)
      obtain ⟨u1, u2, u3, u4, u5, u6⟩ := hG.1.2.1 (i + 1) (by omega)
      obtain ⟨L, hLP, hLe⟩ := hL
      have nx := ih (i + 1) op tg fi se hz ch (by omega) (by omega) hG ⟨L, hLP, fun k v hk => hLe k v (by omega)⟩
      have k69 : wX_joinMoves_69 post (wX_joinMoves_6 post (d + 1)) (nI i) (tg i) ct ms gv (nI n) dp ch cv bs rc mz ls tc rd pc ps tk wa sp ip op tg fi se hz lt lq ik kv sa ve vf vs vt vc ll lh la lu bg en ro hq mo mt mf mq pv ce fn va rg := by
        unfold wX_joinMoves_69 wX_joinMoves_70
        exact br_t rfl (nm_r (nI_1 i) nx)
      refine br_f (nI_ge (by omega) (by omega)) ⟨hin, nm_r (e' := tg i) rfl ⟨hin1, br_c (fun e2 => ⟨hin1, br_c (fun ef => ⟨hin, zx_writes (zb_br (fun _ => k69) (fun w => br_c (fun _ => k69) (fun _ => ?_)))⟩) (fun _ => k69)⟩) (fun _ => k69)⟩⟩
      unfold wX_joinMoves_70
      have hi2 : nI i + 2 = nI (i + 2) := by
        show nI i + nI 2 = _
        rw [nI_add]
      rw [nI_1, hc1, hc, hi2]
      obtain ⟨k, hk, ek, ek2⟩ := zx_nf ⟨v2.1, v3 w⟩
      refine br_f (by decide) ?_
      rw [show wpX_livesBefore _ _ (nI (i + 2)) (tg i) = wpX_livesBefore _ _ (nI (i + 2)) (nI k) from by rw [ek]]
      refine zx_livesBefore (by omega) (by omega) (zb_br (fun nl => ⟨hin1, br_c (fun _ => nm_e nx) (fun ne => ⟨hin1, hin, nm_r (e' := upd tg i (tg (i + 1))) ?_ (zx_replace (by omega) (by decide) (nm_e (nm_r (nI_1 (i + 1)) ?_)))⟩)⟩) (fun _ => nm_e nx))
      · rw [vp_nar_short, zn_s (Int32.le_trans (by decide) u2.1) (Int32.le_trans (Int32.le_of_lt u2.2) (by decide))]
      · have hj := zj_join hG hLP (by omega) w e2 ef (fun q => ne (q.trans ek)) (by rw [ek2]; exact fun q => nl (hLe (i + 2) k (by omega) q).2)
        refine ih (i + 2) _ _ _ _ _ _ (by omega) (by omega) hj.1 ⟨_, hj.2, fun k v hk hv => ?_⟩
        rw [if_neg (by omega)] at hv
        exact hLe k v (by omega) hv
theorem zx_joinMoves (hG : zq_gd g I R D0 n op tg fi se hz)
    (H : ∀ op' tg' fi' se' hz' ch' la' lu' ll' lh', zq_gd g I R D0 n op' tg' fi' se' hz' → post (ct, ms, gv, nI n, dp, ch', cv, bs, rc, mz, ls, tc, rd, pc, ps, tk, wa, sp, ip, op', tg', fi', se', hz', lt, lq, ik, kv, sa, ve, vf, vs, vt, vc, ll', lh', la', lu', bg, en, ro, hq, mo, mt, mf, mq, pv, ce, fn, va, rg)) : wpX_joinMoves post (ct, ms, gv, nI n, dp, ch, cv, bs, rc, mz, ls, tc, rd, pc, ps, tk, wa, sp, ip, op, tg, fi, se, hz, lt, lq, ik, kv, sa, ve, vf, vs, vt, vc, ll, lh, la, lu, bg, en, ro, hq, mo, mt, mf, mq, pv, ce, fn, va, rg) := by
  unfold wpX_joinMoves
  refine zx_findLiving hG.1 (fun la' lu' ll' lh' _ _ hLP => ⟨n + 1, ?_⟩)
  exact zx_jm6 (fun op' tg' fi' se' hz' ch' h => H _ _ _ _ _ _ _ _ _ _ h) n 0 op tg fi se hz ch (by omega) (by omega) hG ⟨_, hLP, fun k v _ h => h⟩
theorem zx_imp7 (H : ∀ n' op' tg' fi' se' hz' ch' cv' bs' ik' kv' sa' ve' vf' vs' vt' vc' la' lu' ll' lh', zq_gd g I R D0 n' op' tg' fi' se' hz' →
      post (ct, ms, gv, nI n', dp, ch', cv', bs', rc, mz, ls, tc, rd, pc, ps, tk, wa, sp, ip, op', tg', fi', se', hz', lt, lq, ik', kv', sa', ve', vf', vs', vt', vc', ll', lh', la', lu', bg, en, ro, hq, mo, mt, mf, mq, pv, ce, fn, va, rg)) :
    ∀ d r n op tg fi se hz ch cv bs ik kv sa ve vf vs vt vc la lu ll lh, r + d = 24 → zq_gd g I R D0 n op tg fi se hz → wX_improve_7 post (d + 1) (nI r) ct ms gv (nI n) dp ch cv bs rc mz ls tc rd pc ps tk wa sp ip op tg fi se hz lt lq ik kv sa ve vf vs vt vc ll lh la lu bg en ro hq mo mt mf mq pv ce fn va rg := by
  intro d
  induction d with
  | zero =>
    intro r n op tg fi se hz ch cv bs ik kv sa ve vf vs vt vc la lu ll lh hr hG
    obtain rfl : r = 24 := by omega
    exact br_t (by decide) (H _ _ _ _ _ _ _ _ _ _ _ _ _ _ _ _ _ _ _ _ _ hG)
  | succ d ih =>
    intro r n op tg fi se hz ch cv bs ik kv sa ve vf vs vt vc la lu ll lh hr hG
    refine br_f (nI_ge (b := 24) (by omega) (by decide)) (br_c (fun _ => H _ _ _ _ _ _ _ _ _ _ _ _ _ _ _ _ _ _ _ _ _ hG) (fun _ => ?_))
    refine zx_improveBlocks hG (fun op1 fi1 se1 hz1 ch1 cv1 bs1 ik1 kv1 sa1 ve1 vf1 vs1 vt1 vc1 hG1 => ?_)
    refine zx_improveJumps hG1 (fun op2 tg2 fi2 se2 hz2 ch2 la2 lu2 hG2 => ?_)
    refine zx_close hG2 (fun n3 op3 tg3 fi3 se3 hz3 hG3 => ?_)
    refine zx_dropIdle hG3 (fun op4 fi4 se4 hz4 ch4 la4 lu4 ll4 lh4 hG4 => ?_)
    refine zx_close hG4 (fun n5 op5 tg5 fi5 se5 hz5 hG5 => ?_)
    refine zx_joinMoves hG5 (fun op6 tg6 fi6 se6 hz6 ch6 la6 lu6 ll6 lh6 hG6 => ?_)
    refine zx_close hG6 (fun n7 op7 tg7 fi7 se7 hz7 hG7 => nm_r (nI_1 r) ?_)
    exact ih (r + 1) _ _ _ _ _ _ _ _ _ _ _ _ _ _ _ _ _ _ _ _ _ (by omega) hG7
theorem zx_improve (hG : zq_gd g I R D0 n op tg fi se hz)
    (H : ∀ n' op' tg' fi' se' hz' ch' cv' bs' ik' kv' sa' ve' vf' vs' vt' vc' la' lu' ll' lh', zq_gd g I R D0 n' op' tg' fi' se' hz' →
      post (ct, ms, gv, nI n', dp, ch', cv', bs', rc, mz, ls, tc, rd, pc, ps, tk, wa, sp, ip, op', tg', fi', se', hz', lt, lq, ik', kv', sa', ve', vf', vs', vt', vc', ll', lh', la', lu', bg, en, ro, hq, mo, mt, mf, mq, pv, ce, fn, va, rg)) : wpX_improve post (ct, ms, gv, nI n, dp, ch, cv, bs, rc, mz, ls, tc, rd, pc, ps, tk, wa, sp, ip, op, tg, fi, se, hz, lt, lq, ik, kv, sa, ve, vf, vs, vt, vc, ll, lh, la, lu, bg, en, ro, hq, mo, mt, mf, mq, pv, ce, fn, va, rg) := by
  unfold wpX_improve
  exact ⟨25, zx_imp7 H 24 0 n op tg fi se hz 1 _ _ _ _ _ _ _ _ _ _ _ _ _ _ rfl hG⟩
end
end
section
/-! lowering: measure, part, emissions -/
def zo_ag (a : Nat) (op tg fi se op' tg' fi' se' : ty_V) : Prop := ∀ i, i < a → op' i = op i ∧ tg' i = tg i ∧ fi' i = fi i ∧ se' i = se i
def zo_T (tk sp : ty_V) (c : Nat) (e : Nat → Nat) : Prop := zt_tr tk c e 0 ∧ (∀ k, k < c → zt_ok (tk k)) ∧ c ≤ 90 ∧ ∀ k, k < c → sp k = nI (e k - k)
theorem zo_agt {a a' : Nat} {op tg fi se op1 tg1 fi1 se1 op2 tg2 fi2 se2 : ty_V} (h1 : zo_ag a op tg fi se op1 tg1 fi1 se1) (h2 : zo_ag a' op1 tg1 fi1 se1 op2 tg2 fi2 se2) (h : a ≤ a') :
    zo_ag a op tg fi se op2 tg2 fi2 se2 := by
  intro i hi
  obtain ⟨a1, a2, a3, a4⟩ := h1 i hi
  obtain ⟨b1, b2, b3, b4⟩ := h2 i (by omega)
  exact ⟨b1.trans a1, b2.trans a2, b3.trans a3, b4.trans a4⟩
theorem zo_agr {a : Nat} {op tg fi se : ty_V} : zo_ag a op tg fi se op tg fi se := fun _ _ => ⟨rfl, rfl, rfl, rfl⟩
theorem zo_ins {a i : Nat} {o t f s : Int32} {op tg fi se op1 tg1 fi1 se1 : ty_V} (h : zo_ag a op tg fi se op1 tg1 fi1 se1) (hi : i < a) (hx : zc_ins op tg fi se i o t f s) : zc_ins op1 tg1 fi1 se1 i o t f s :=
  zc_insm (h i hi) hx
theorem zo_lay {tk : ty_V} {e : Nat → Nat} {a m p b f f' : Nat} {op tg fi se op1 tg1 fi1 se1 : ty_V} (h : zo_ag a op tg fi se op1 tg1 fi1 se1) (hb : b ≤ a) (hf : f ≤ f') (hx : zc_lay tk e op tg fi se f m p b) :
    zc_lay tk e op1 tg1 fi1 se1 f' m p b := zc_mono _ _ _ _ _ hf (fun i hi => h i (by omega)) hx
theorem zo_chl {tk : ty_V} {c : Nat} {e : Nat → Nat} (hT : zt_tr tk c e 0) {m : Nat} (hm : m < c) : ∀ k, k ≤ zt_pt (tk m) → m < zt_ch e m k ∧ zt_ch e m k ≤ e m := by
  obtain ⟨e1, e2, e3, e4⟩ := hT m (Nat.zero_le _) hm
  have up : ∀ k, k ≤ zt_pt (tk m) → m < zt_ch e m k := by
    intro k
    induction k with
    | zero => intro _; show m < m + 1; omega
    | succ k ih =>
      intro hk
      have h1 := ih (by omega)
      have h2 := (hT _ (Nat.zero_le _) (e4 k (by omega)).1).1
      show m < e (zt_ch e m k)
      omega
  have dn : ∀ j, j ≤ zt_pt (tk m) → zt_ch e m (zt_pt (tk m) - j) ≤ e m := by
    intro j
    induction j with
    | zero => intro _; rw [Nat.sub_zero, ← e3]; omega
    | succ j ih =>
      intro hj
      have h1 := ih (by omega)
      have h2 := (hT _ (Nat.zero_le _) (e4 (zt_pt (tk m) - (j + 1)) (by omega)).1).1
      rw [show zt_pt (tk m) - j = (zt_pt (tk m) - (j + 1)) + 1 by omega] at h1
      have h3 : zt_ch e m (zt_pt (tk m) - (j + 1) + 1) = e (zt_ch e m (zt_pt (tk m) - (j + 1))) := rfl
      omega
  intro k hk
  refine ⟨up k hk, ?_⟩
  have := dn (zt_pt (tk m) - k) (by omega)
  rw [show zt_pt (tk m) - (zt_pt (tk m) - k) = k by omega] at this
  exact this
section
variable {ct ms gv sz dp ch cv bs rc mz ls tc rd pc ps : Int32} {tk wa sp ip op tg fi se hz lt lq ik kv sa ve vf vs vt vc la lu bg en ro hq mo mt mf mq pv ce fn va rg : Nat → Int32} {ll lh : Nat → Int64}
variable {post : SX → Prop} {c : Nat} {e : Nat → Nat}
theorem zo_measure (hT : zt_tr tk c e 0) (hok : ∀ k, k < c → zt_ok (tk k)) (hc : c ≤ 90) (H : ∀ sp', (∀ k, k < c → sp' k = nI (e k - k)) → post (nI c, ms, gv, sz, dp, ch, cv, bs, rc, mz, ls, tc, rd, pc, ps, tk, wa, sp', ip, op, tg, fi, se, hz, lt, lq, ik, kv, sa, ve, vf, vs, vt, vc, ll, lh, la, lu, bg, en, ro, hq, mo, mt, mf, mq, pv, ce, fn, va, rg)) : wpX_measure post (nI c, ms, gv, sz, dp, ch, cv, bs, rc, mz, ls, tc, rd, pc, ps, tk, wa, sp, ip, op, tg, fi, se, hz, lt, lq, ik, kv, sa, ve, vf, vs, vt, vc, ll, lh, la, lu, bg, en, ro, hq, mo, mt, mf, mq, pv, ce, fn, va, rg) := by
  have k7 : ∀ i sp', i ≤ c → (∀ k, i ≤ k → k < c → sp' k = nI (e k - k)) → wX_measure_7 post (nI c) ms gv sz dp ch cv bs rc mz ls tc rd pc ps (i + 1) (nI i + (-1)) tk wa sp' ip op tg fi se hz lt lq ik kv sa ve vf vs vt vc ll lh la lu bg en ro hq mo mt mf mq pv ce fn va rg := by
    intro i
    induction i with
    | zero =>
      intro sp' _ hs
      exact br_t (by decide) (H sp' (fun k hk => hs k (Nat.zero_le _) hk))
    | succ i ih =>
      intro sp' hi hs
      rw [pk_m1]
      have hci : (nI i).toNatClampNeg = i := nI_clamp (by omega)
      obtain ⟨e1, e2, e3, e4⟩ := hT i (Nat.zero_le _) (by omega)
      have h3 := zt_p3 (tk i)
      refine br_f (nI_pos (by omega)) ?_
      rw [hci]
      refine ⟨vp_in_nI (by omega) (by decide), zx_parts (hok i (by omega)) ⟨zt_pt (tk i) + 1, ?_⟩⟩
      have k26 : ∀ d j, j + d = zt_pt (tk i) → wX_measure_26 post (wX_measure_7 post (nI c) ms gv sz dp ch cv bs rc mz ls tc rd pc ps (i + 1)) (nI i) (nI (zt_pt (tk i))) (nI c) ms gv sz dp ch cv bs rc mz ls tc rd pc ps tk wa sp' ip op tg fi se hz lt lq ik kv sa ve vf vs vt vc ll lh la lu bg en ro hq mo mt mf mq pv ce fn va rg (d + 1) (nI (zt_ch e i j - i)) (nI j) := by
        intro d
        induction d with
        | zero =>
          intro j hj
          obtain rfl : j = zt_pt (tk i) := by omega
          refine br_t (nI_le (Nat.le_refl _) (by omega)) ?_
          rw [hci, ← e3]
          refine ⟨vp_in_nI (by omega) (by decide), nm_r (e' := upd sp' i (nI (e i - i))) (by rw [pk_vb, zn_bN (by omega)]) (nm_e (ih _ (by omega) (fun k h1 h2 => ?_)))⟩
          by_cases ek : k = i
          · subst ek; rw [zq_us]
          · rw [zq_un ek]; exact hs k (by omega) h2
        | succ d ihd =>
          intro j hj
          have c1 := e4 j (by omega)
          have c2 := zo_chl hT (show i < c by omega) j (by omega)
          have c3 := (hT _ (Nat.zero_le _) c1.1)
          have ex : nI i + nI (zt_ch e i j - i) = nI (zt_ch e i j) := by rw [nI_add]; congr 1; omega
          refine br_f (nI_ge (by omega) (by omega)) ?_
          rw [ex, nI_clamp (by omega)]
          refine ⟨vp_in_nI (by omega) (by decide), nm_r (e' := nI (zt_ch e i (j + 1) - i)) ?_ (nm_r (nI_1 j) (ihd (j + 1) (by omega)))⟩
          rw [hs _ (by omega) c1.1, nI_add]
          congr 1
          show _ = e (zt_ch e i j) - i
          omega
      have := k26 (zt_pt (tk i)) 0 (by omega)
      have e0 : zt_ch e i 0 - i = 1 := by show i + 1 - i = 1; omega
      rw [e0] at this
      exact this
  unfold wpX_measure
  exact nm_r (zk_sm1 _) ⟨c + 1, k7 c sp (Nat.le_refl _) (fun k h1 h2 => by omega)⟩
theorem zo_part {P : Int32 → Prop} {m k : Nat} (hT : zo_T tk sp c e) (hm : m < c) (hk : k ≤ zt_pt (tk m)) (h : P (nI (zt_ch e m k))) : wpX_part P (ct, ms, gv, sz, dp, ch, cv, bs, rc, mz, ls, tc, rd, pc, ps, tk, wa, sp, ip, op, tg, fi, se, hz, lt, lq, ik, kv, sa, ve, vf, vs, vt, vc, ll, lh, la, lu, bg, en, ro, hq, mo, mt, mf, mq, pv, ce, fn, va, rg) (nI m) (nI k) := by
  have h3 := zt_p3 (tk m)
  have hc := hT.2.2.1
  unfold wpX_part
  refine nm_r (nI_1 m) ⟨k + 1, ?_⟩
  have lp : ∀ d j, j + d = k → wX_part_7 P (nI k) ct ms gv sz dp ch cv bs rc mz ls tc rd pc ps tk wa sp ip op tg fi se hz lt lq ik kv sa ve vf vs vt vc ll lh la lu bg en ro hq mo mt mf mq pv ce fn va rg (d + 1) (nI (zt_ch e m j)) (nI j) := by
    intro d
    induction d with
    | zero => intro j hj; obtain rfl : j = k := by omega
              exact br_t (nI_le (Nat.le_refl _) (by omega)) h
    | succ d ih =>
      intro j hj
      have e4 := ((hT.1 m (Nat.zero_le _) hm).2.2.2 j (by omega)).1
      have e5 := hT.1 _ (Nat.zero_le _) e4
      refine br_f (nI_ge (by omega) (by omega)) ?_
      rw [nI_clamp (by omega)]
      refine ⟨vp_in_nI (by omega) (by decide), nm_r (e' := nI (zt_ch e m (j + 1))) ?_ (nm_r (nI_1 j) (ih (j + 1) (by omega)))⟩
      rw [hT.2.2.2 _ e4, nI_add]
      congr 1
      show _ = e (zt_ch e m j)
      omega
  exact lp k 0 (by omega)
theorem zo_em1 {n : Nat} {o t f s : Int32} (hn : n < 512) (ho : 0 ≤ o ∧ o ≤ 127) (ht : 0 ≤ t ∧ t ≤ 32767) (hs : 0 ≤ s ∧ s ≤ 32767) (hz0 : ∀ i, i < n → hz i = 0)
    (H : ∀ op' tg' fi' se' hz', zo_ag n op tg fi se op' tg' fi' se' → zc_ins op' tg' fi' se' n o t f s → (∀ i, i < n + 1 → hz' i = 0) → post (ct, ms, gv, nI (n + 1), dp, ch, cv, bs, rc, mz, ls, tc, rd, pc, ps, tk, wa, sp, ip, op', tg', fi', se', hz', lt, lq, ik, kv, sa, ve, vf, vs, vt, vc, ll, lh, la, lu, bg, en, ro, hq, mo, mt, mf, mq, pv, ce, fn, va, rg)) : wpX_emit post (ct, ms, gv, nI n, dp, ch, cv, bs, rc, mz, ls, tc, rd, pc, ps, tk, wa, sp, ip, op, tg, fi, se, hz, lt, lq, ik, kv, sa, ve, vf, vs, vt, vc, ll, lh, la, lu, bg, en, ro, hq, mo, mt, mf, mq, pv, ce, fn, va, rg) o t f s := by
  refine zx_emit hn ho ht hs (H _ _ _ _ _ (fun i hi => ?_) ⟨zq_us, zq_us, zq_us, zq_us⟩ (fun i hi => ?_))
  · have : i ≠ n := by omega
    rw [zq_un this, zq_un this, zq_un this, zq_un this]; exact ⟨rfl, rfl, rfl, rfl⟩
  · by_cases e : i = n
    · rw [e, zq_us]
    · rw [zq_un e]; exact hz0 i (by omega)
theorem zo_em2 {n : Nat} {o t f s o2 t2 f2 s2 : Int32} (hn : n + 1 < 512) (ho : 0 ≤ o ∧ o ≤ 127) (ht : 0 ≤ t ∧ t ≤ 32767) (hs : 0 ≤ s ∧ s ≤ 32767) (ho2 : 0 ≤ o2 ∧ o2 ≤ 127) (ht2 : 0 ≤ t2 ∧ t2 ≤ 32767) (hs2 : 0 ≤ s2 ∧ s2 ≤ 32767) (hz0 : ∀ i, i < n → hz i = 0)
    (H : ∀ op' tg' fi' se' hz', zo_ag n op tg fi se op' tg' fi' se' → zc_ins op' tg' fi' se' n o t f s → zc_ins op' tg' fi' se' (n + 1) o2 t2 f2 s2 → (∀ i, i < n + 2 → hz' i = 0) → post (ct, ms, gv, nI (n + 2), dp, ch, cv, bs, rc, mz, ls, tc, rd, pc, ps, tk, wa, sp, ip, op', tg', fi', se', hz', lt, lq, ik, kv, sa, ve, vf, vs, vt, vc, ll, lh, la, lu, bg, en, ro, hq, mo, mt, mf, mq, pv, ce, fn, va, rg)) :
    wpX_emit (fun u => wpX_emit post u o2 t2 f2 s2) (ct, ms, gv, nI n, dp, ch, cv, bs, rc, mz, ls, tc, rd, pc, ps, tk, wa, sp, ip, op, tg, fi, se, hz, lt, lq, ik, kv, sa, ve, vf, vs, vt, vc, ll, lh, la, lu, bg, en, ro, hq, mo, mt, mf, mq, pv, ce, fn, va, rg) o t f s := by
  refine zo_em1 (by omega) ho ht hs hz0 (fun op1 tg1 fi1 se1 hz1 a1 i1 z1 => ?_)
  refine zo_em1 (n := n + 1) hn ho2 ht2 hs2 z1 (fun op2 tg2 fi2 se2 hz2 a2 i2 z2 => H _ _ _ _ _ (zo_agt a1 a2 (by omega)) (zo_ins a2 (by omega) i1) i2 z2)
theorem zo_enter {d k : Nat} (hd : d < 96) (hk : k < 128) (h : post (ct, ms, gv, sz, nI (d + 1), ch, cv, bs, rc, mz, ls, tc, rd, pc, ps, tk, wa, sp, ip, op, tg, fi, se, hz, upd lt d (nI k), upd lq d 0, ik, kv, sa, ve, vf, vs, vt, vc, ll, lh, la, lu, bg, en, ro, hq, mo, mt, mf, mq, pv, ce, fn, va, rg)) : wpX_enter post (ct, ms, gv, sz, nI d, ch, cv, bs, rc, mz, ls, tc, rd, pc, ps, tk, wa, sp, ip, op, tg, fi, se, hz, lt, lq, ik, kv, sa, ve, vf, vs, vt, vc, ll, lh, la, lu, bg, en, ro, hq, mo, mt, mf, mq, pv, ce, fn, va, rg) (nI k) := by
  have hc : (nI d).toNatClampNeg = d := nI_clamp (by omega)
  have hin : vp_in (nI d) 96 := vp_in_nI hd (by decide)
  unfold wpX_enter
  dsimp only
  rw [hc]
  exact ⟨hin, nm_r (e' := upd lt d (nI k)) (by rw [pk_vb, zn_bN hk]) ⟨hin, nm_r (e' := upd lq d 0) rfl (nm_r (nI_1 d) h)⟩⟩
theorem zo_enterPart {d m k : Nat} (hT : zo_T tk sp c e) (hm : m < c) (hk : k < zt_pt (tk m)) (hd : d < 96) (h : post (ct, ms, gv, sz, nI (d + 1), ch, cv, bs, rc, mz, ls, tc, rd, pc, ps, tk, wa, sp, ip, op, tg, fi, se, hz, upd lt d (nI (zt_ch e m k)), upd lq d 0, ik, kv, sa, ve, vf, vs, vt, vc, ll, lh, la, lu, bg, en, ro, hq, mo, mt, mf, mq, pv, ce, fn, va, rg)) : wpX_enterPart post (ct, ms, gv, sz, nI d, ch, cv, bs, rc, mz, ls, tc, rd, pc, ps, tk, wa, sp, ip, op, tg, fi, se, hz, lt, lq, ik, kv, sa, ve, vf, vs, vt, vc, ll, lh, la, lu, bg, en, ro, hq, mo, mt, mf, mq, pv, ce, fn, va, rg) (nI m) (nI k) := by
  have hc := hT.2.2.1
  have e4 := ((hT.1 m (Nat.zero_le _) hm).2.2.2 k hk).1
  unfold wpX_enterPart
  exact zo_part hT hm (by omega) (zo_enter hd (by omega) h)
end
end
section
/-! what comes before and behind parts -/
theorem zo_r0 {n : Nat} (h : n < 30000) : 0 ≤ nI n ∧ nI n ≤ 32767 := ⟨nI_pos' (by omega), nI_le (b := 32767) (by omega) (by decide)⟩
theorem zo_2m (m : Nat) : 2 * nI m = nI (2 * m) := by
  show nI 2 * nI m = _
  rw [pk_mul]
theorem zo_2m1 (m : Nat) : 2 * nI m + 1 = nI (2 * m + 1) := by rw [zo_2m, nI_1]
theorem zo_6 (m : Nat) : 6 + nI m = nI (6 + m) := by
  show nI 6 + nI m = _
  rw [nI_add]
theorem zo_rt {t : Int32} (h : 0 ≤ t ∧ t < 180) : 0 ≤ t ∧ t ≤ 32767 := ⟨h.1, Int32.le_trans (Int32.le_of_lt h.2) (by decide)⟩
theorem zo_pl1 : ∀ k, k < 121 → zs_pl (nI k) = true → (0 ≤ zc_op (nI k) ∧ zc_op (nI k) ≤ 127) := by decide +kernel
section
variable {ct ms gv sz dp ch cv bs rc mz ls tc rd pc ps : Int32} {tk wa sp ip op tg fi se hz lt lq ik kv sa ve vf vs vt vc la lu bg en ro hq mo mt mf mq pv ce fn va rg : Nat → Int32} {ll lh : Nat → Int64}
variable {post : SX → Prop} {c m n : Nat} {e : Nat → Nat}
theorem zo_if1 (hT : zo_T tk sp c e) (hm : m < c) (hn : n + 1 < 512) (ht : tk m = 2) (hz0 : ∀ i, i < n → hz i = 0)
    (H : ∀ op' tg' fi' se' hz', zo_ag n op tg fi se op' tg' fi' se' → zc_ins op' tg' fi' se' n 17 (nI (2 * m)) (nI (6 + (m + 1))) 0 → (∀ i, i < n + 1 → hz' i = 0) → post (ct, ms, gv, nI (n + 1), dp, ch, cv, bs, rc, mz, ls, tc, rd, pc, ps, tk, wa, sp, ip, op', tg', fi', se', hz', lt, lq, ik, kv, sa, ve, vf, vs, vt, vc, ll, lh, la, lu, bg, en, ro, hq, mo, mt, mf, mq, pv, ce, fn, va, rg)) :
    wpX_lowerAt post (ct, ms, gv, nI n, dp, ch, cv, bs, rc, mz, ls, tc, rd, pc, ps, tk, wa, sp, ip, op, tg, fi, se, hz, lt, lq, ik, kv, sa, ve, vf, vs, vt, vc, ll, lh, la, lu, bg, en, ro, hq, mo, mt, mf, mq, pv, ce, fn, va, rg) (nI m) 2 (nI 1) := by
  have hc := hT.2.2.1
  unfold wpX_lowerAt
  refine br_t rfl ?_
  unfold wpX_lowerIf
  refine br_t rfl (zo_part (k := 0) hT hm (Nat.zero_le _) (nm_r (zo_6 _) ?_))
  rw [zo_2m]
  exact zo_em1 (by omega) (by decide) (zo_r0 (by omega)) (by decide) hz0 H
theorem zo_if2 (hc : m < 90) (hn : n + 1 < 512) (hz0 : ∀ i, i < n → hz i = 0)
    (H : ∀ op' tg' fi' se' hz', zo_ag n op tg fi se op' tg' fi' se' → zc_ins op' tg' fi' se' n 16 (nI (2 * m + 1)) 0 0 → zc_ins op' tg' fi' se' (n + 1) 20 (nI (2 * m)) 0 0 → (∀ i, i < n + 2 → hz' i = 0) → post (ct, ms, gv, nI (n + 2), dp, ch, cv, bs, rc, mz, ls, tc, rd, pc, ps, tk, wa, sp, ip, op', tg', fi', se', hz', lt, lq, ik, kv, sa, ve, vf, vs, vt, vc, ll, lh, la, lu, bg, en, ro, hq, mo, mt, mf, mq, pv, ce, fn, va, rg)) :
    wpX_lowerAt post (ct, ms, gv, nI n, dp, ch, cv, bs, rc, mz, ls, tc, rd, pc, ps, tk, wa, sp, ip, op, tg, fi, se, hz, lt, lq, ik, kv, sa, ve, vf, vs, vt, vc, ll, lh, la, lu, bg, en, ro, hq, mo, mt, mf, mq, pv, ce, fn, va, rg) (nI m) 2 (nI 2) := by
  unfold wpX_lowerAt
  refine br_t rfl ?_
  unfold wpX_lowerIf
  refine br_f (by decide) (br_t rfl ?_)
  rw [zo_2m1, zo_2m]
  exact zo_em2 hn (by decide) (zo_r0 (by omega)) (by decide) (by decide) (zo_r0 (by omega)) (by decide) hz0 H
theorem zo_if3 (hc : m < 90) (hn : n + 1 < 512) (hz0 : ∀ i, i < n → hz i = 0)
    (H : ∀ op' tg' fi' se' hz', zo_ag n op tg fi se op' tg' fi' se' → zc_ins op' tg' fi' se' n 20 (nI (2 * m + 1)) 0 0 → (∀ i, i < n + 1 → hz' i = 0) → post (ct, ms, gv, nI (n + 1), dp, ch, cv, bs, rc, mz, ls, tc, rd, pc, ps, tk, wa, sp, ip, op', tg', fi', se', hz', lt, lq, ik, kv, sa, ve, vf, vs, vt, vc, ll, lh, la, lu, bg, en, ro, hq, mo, mt, mf, mq, pv, ce, fn, va, rg)) :
    wpX_lowerAt post (ct, ms, gv, nI n, dp, ch, cv, bs, rc, mz, ls, tc, rd, pc, ps, tk, wa, sp, ip, op, tg, fi, se, hz, lt, lq, ik, kv, sa, ve, vf, vs, vt, vc, ll, lh, la, lu, bg, en, ro, hq, mo, mt, mf, mq, pv, ce, fn, va, rg) (nI m) 2 (nI 3) := by
  unfold wpX_lowerAt
  refine br_t rfl ?_
  unfold wpX_lowerIf
  refine br_f (by decide) (br_f (by decide) (br_t rfl ?_))
  rw [zo_2m1]
  exact zo_em1 (by omega) (by decide) (zo_r0 (by omega)) (by decide) hz0 H
theorem zo_if0 (H : post (ct, ms, gv, sz, dp, ch, cv, bs, rc, mz, ls, tc, rd, pc, ps, tk, wa, sp, ip, op, tg, fi, se, hz, lt, lq, ik, kv, sa, ve, vf, vs, vt, vc, ll, lh, la, lu, bg, en, ro, hq, mo, mt, mf, mq, pv, ce, fn, va, rg)) : wpX_lowerAt post (ct, ms, gv, sz, dp, ch, cv, bs, rc, mz, ls, tc, rd, pc, ps, tk, wa, sp, ip, op, tg, fi, se, hz, lt, lq, ik, kv, sa, ve, vf, vs, vt, vc, ll, lh, la, lu, bg, en, ro, hq, mo, mt, mf, mq, pv, ce, fn, va, rg) (nI m) 2 (nI 0) := by
  unfold wpX_lowerAt
  refine br_t rfl ?_
  unfold wpX_lowerIf
  exact br_f (by decide) (br_f (by decide) (br_f (by decide) H))
theorem zo_wh0 (hc : m < 90) (hn : n + 1 < 512) (hz0 : ∀ i, i < n → hz i = 0)
    (H : ∀ op' tg' fi' se' hz', zo_ag n op tg fi se op' tg' fi' se' → zc_ins op' tg' fi' se' n 20 (nI (2 * m)) 0 0 → (∀ i, i < n + 1 → hz' i = 0) → post (ct, ms, gv, nI (n + 1), dp, ch, cv, bs, rc, mz, ls, tc, rd, pc, ps, tk, wa, sp, ip, op', tg', fi', se', hz', lt, lq, ik, kv, sa, ve, vf, vs, vt, vc, ll, lh, la, lu, bg, en, ro, hq, mo, mt, mf, mq, pv, ce, fn, va, rg)) :
    wpX_lowerAt post (ct, ms, gv, nI n, dp, ch, cv, bs, rc, mz, ls, tc, rd, pc, ps, tk, wa, sp, ip, op, tg, fi, se, hz, lt, lq, ik, kv, sa, ve, vf, vs, vt, vc, ll, lh, la, lu, bg, en, ro, hq, mo, mt, mf, mq, pv, ce, fn, va, rg) (nI m) 3 (nI 0) := by
  unfold wpX_lowerAt
  refine br_f (by decide) (br_t rfl ?_)
  unfold wpX_lowerWhile
  refine br_t rfl ?_
  rw [zo_2m]
  exact zo_em1 (by omega) (by decide) (zo_r0 (by omega)) (by decide) hz0 H
theorem zo_wh1 (hT : zo_T tk sp c e) (hm : m < c) (hn : n + 1 < 512) (hz0 : ∀ i, i < n → hz i = 0)
    (H : ∀ op' tg' fi' se' hz', zo_ag n op tg fi se op' tg' fi' se' → zc_ins op' tg' fi' se' n 17 (nI (2 * m + 1)) (nI (6 + (m + 1))) 0 → zc_ins op' tg' fi' se' (n + 1) 19 0 0 0 → (∀ i, i < n + 2 → hz' i = 0) → post (ct, ms, gv, nI (n + 2), dp, ch, cv, bs, rc, mz, ls, tc, rd, pc, ps, tk, wa, sp, ip, op', tg', fi', se', hz', lt, lq, ik, kv, sa, ve, vf, vs, vt, vc, ll, lh, la, lu, bg, en, ro, hq, mo, mt, mf, mq, pv, ce, fn, va, rg)) :
    wpX_lowerAt post (ct, ms, gv, nI n, dp, ch, cv, bs, rc, mz, ls, tc, rd, pc, ps, tk, wa, sp, ip, op, tg, fi, se, hz, lt, lq, ik, kv, sa, ve, vf, vs, vt, vc, ll, lh, la, lu, bg, en, ro, hq, mo, mt, mf, mq, pv, ce, fn, va, rg) (nI m) 3 (nI 1) := by
  have hc := hT.2.2.1
  unfold wpX_lowerAt
  refine br_f (by decide) (br_t rfl ?_)
  unfold wpX_lowerWhile
  refine br_f (by decide) (br_t rfl (zo_part (k := 0) hT hm (Nat.zero_le _) (nm_r (zo_6 _) ?_)))
  rw [zo_2m1]
  exact zo_em2 hn (by decide) (zo_r0 (by omega)) (by decide) (by decide) (by decide) (by decide) hz0 H
theorem zo_wh2 (hc : m < 90) (hn : n + 1 < 512) (hz0 : ∀ i, i < n → hz i = 0)
    (H : ∀ op' tg' fi' se' hz', zo_ag n op tg fi se op' tg' fi' se' → zc_ins op' tg' fi' se' n 16 (nI (2 * m)) 0 0 → zc_ins op' tg' fi' se' (n + 1) 20 (nI (2 * m + 1)) 0 0 → (∀ i, i < n + 2 → hz' i = 0) → post (ct, ms, gv, nI (n + 2), dp, ch, cv, bs, rc, mz, ls, tc, rd, pc, ps, tk, wa, sp, ip, op', tg', fi', se', hz', lt, lq, ik, kv, sa, ve, vf, vs, vt, vc, ll, lh, la, lu, bg, en, ro, hq, mo, mt, mf, mq, pv, ce, fn, va, rg)) :
    wpX_lowerAt post (ct, ms, gv, nI n, dp, ch, cv, bs, rc, mz, ls, tc, rd, pc, ps, tk, wa, sp, ip, op, tg, fi, se, hz, lt, lq, ik, kv, sa, ve, vf, vs, vt, vc, ll, lh, la, lu, bg, en, ro, hq, mo, mt, mf, mq, pv, ce, fn, va, rg) (nI m) 3 (nI 2) := by
  unfold wpX_lowerAt
  refine br_f (by decide) (br_t rfl ?_)
  unfold wpX_lowerWhile
  refine br_f (by decide) (br_f (by decide) ?_)
  rw [zo_2m1, zo_2m]
  exact zo_em2 hn (by decide) (zo_r0 (by omega)) (by decide) (by decide) (zo_r0 (by omega)) (by decide) hz0 H
theorem zo_shs {t p : Int32} (ht : t = 68 ∨ t = 69) (h : ∀ z : Int32, (t = 68 → z = 1) → (t = 69 → z = 0) → wX_lowerShort_11 post (nI m) z p (zc_jo t) ct ms gv sz dp ch cv bs rc mz ls tc rd pc ps tk wa sp ip op tg fi se hz lt lq ik kv sa ve vf vs vt vc ll lh la lu bg en ro hq mo mt mf mq pv ce fn va rg) : wpX_lowerAt post (ct, ms, gv, sz, dp, ch, cv, bs, rc, mz, ls, tc, rd, pc, ps, tk, wa, sp, ip, op, tg, fi, se, hz, lt, lq, ik, kv, sa, ve, vf, vs, vt, vc, ll, lh, la, lu, bg, en, ro, hq, mo, mt, mf, mq, pv, ce, fn, va, rg) (nI m) t p := by
  unfold wpX_lowerAt wX_lowerAt_40 wX_lowerAt_53
  rcases ht with rfl | rfl
  · refine br_f (by decide) (br_f (by decide) (br_t rfl (br_t rfl ?_)))
    unfold wpX_lowerShort
    exact br_f (by decide) (h 1 (fun _ => rfl) (fun q => absurd q (by decide)))
  · refine br_f (by decide) (br_f (by decide) (br_f (by decide) (br_t rfl (br_f (by decide) ?_))))
    unfold wpX_lowerShort
    exact br_t rfl (h 0 (fun q => absurd q (by decide)) (fun _ => rfl))
theorem zo_sh0 {t : Int32} (ht : t = 68 ∨ t = 69) (H : post (ct, ms, gv, sz, dp, ch, cv, bs, rc, mz, ls, tc, rd, pc, ps, tk, wa, sp, ip, op, tg, fi, se, hz, lt, lq, ik, kv, sa, ve, vf, vs, vt, vc, ll, lh, la, lu, bg, en, ro, hq, mo, mt, mf, mq, pv, ce, fn, va, rg)) : wpX_lowerAt post (ct, ms, gv, sz, dp, ch, cv, bs, rc, mz, ls, tc, rd, pc, ps, tk, wa, sp, ip, op, tg, fi, se, hz, lt, lq, ik, kv, sa, ve, vf, vs, vt, vc, ll, lh, la, lu, bg, en, ro, hq, mo, mt, mf, mq, pv, ce, fn, va, rg) (nI m) t (nI 0) := by
  refine zo_shs ht (fun z _ _ => ?_)
  unfold wX_lowerShort_11
  exact nm_e (br_f (by decide) (br_f (by decide) H))
theorem zo_sh1 {t : Int32} (hT : zo_T tk sp c e) (hm : m < c) (hn : n + 1 < 512) (ht : t = 68 ∨ t = 69) (hz0 : ∀ i, i < n → hz i = 0)
    (H : ∀ op' tg' fi' se' hz', zo_ag n op tg fi se op' tg' fi' se' → zc_ins op' tg' fi' se' n 1 (nI (6 + m)) (zc_v1 t) 0 → zc_ins op' tg' fi' se' (n + 1) (zc_jo t) (nI (2 * m)) (nI (6 + (m + 1))) 0 → (∀ i, i < n + 2 → hz' i = 0) → post (ct, ms, gv, nI (n + 2), dp, ch, cv, bs, rc, mz, ls, tc, rd, pc, ps, tk, wa, sp, ip, op', tg', fi', se', hz', lt, lq, ik, kv, sa, ve, vf, vs, vt, vc, ll, lh, la, lu, bg, en, ro, hq, mo, mt, mf, mq, pv, ce, fn, va, rg)) :
    wpX_lowerAt post (ct, ms, gv, nI n, dp, ch, cv, bs, rc, mz, ls, tc, rd, pc, ps, tk, wa, sp, ip, op, tg, fi, se, hz, lt, lq, ik, kv, sa, ve, vf, vs, vt, vc, ll, lh, la, lu, bg, en, ro, hq, mo, mt, mf, mq, pv, ce, fn, va, rg) (nI m) t (nI 1) := by
  have hc := hT.2.2.1
  have hj : 0 ≤ zc_jo t ∧ zc_jo t ≤ 127 := by rcases ht with rfl | rfl <;> decide
  refine zo_shs ht (fun z h1 h2 => ?_)
  unfold wX_lowerShort_11
  have key := zo_em2 (post := post) (n := n) (o := 1) (t := nI (6 + m)) (f := zc_v1 t) (s := 0) (o2 := zc_jo t) (t2 := nI (2 * m)) (f2 := nI (6 + (m + 1))) (s2 := 0) (op := op) (tg := tg) (fi := fi) (se := se) (hz := hz) hn (by decide) (zo_r0 (by omega)) (by decide) hj (zo_r0 (by omega)) (by decide) hz0 H
  refine nm_r (zo_6 m) (br_t rfl (zo_part (k := 0) hT hm (Nat.zero_le _) (nm_r (zo_6 _) (br_c (fun e0 => ?_) (fun n0 => ?_)))))
  · unfold wX_lowerShort_48
    rw [zo_2m]
    rcases ht with rfl | rfl
    · rw [h1 rfl] at e0; exact absurd e0 (by decide)
    · exact key
  · unfold wX_lowerShort_48
    rw [zo_2m]
    rcases ht with rfl | rfl
    · exact key
    · exact absurd (h2 rfl) n0
theorem zo_sh2 {t : Int32} (hT : zo_T tk sp c e) (hm : m < c) (hn : n + 2 < 512) (hp : 1 ≤ zt_pt (tk m)) (ht : t = 68 ∨ t = 69) (hz0 : ∀ i, i < n → hz i = 0)
    (H : ∀ op' tg' fi' se' hz', zo_ag n op tg fi se op' tg' fi' se' → zc_ins op' tg' fi' se' n (zc_jo t) (nI (2 * m)) (nI (6 + e (m + 1))) 0 → zc_ins op' tg' fi' se' (n + 1) 1 (nI (6 + m)) (zc_v2 t) 0 →
      zc_ins op' tg' fi' se' (n + 2) 20 (nI (2 * m)) 0 0 → (∀ i, i < n + 3 → hz' i = 0) → post (ct, ms, gv, nI (n + 3), dp, ch, cv, bs, rc, mz, ls, tc, rd, pc, ps, tk, wa, sp, ip, op', tg', fi', se', hz', lt, lq, ik, kv, sa, ve, vf, vs, vt, vc, ll, lh, la, lu, bg, en, ro, hq, mo, mt, mf, mq, pv, ce, fn, va, rg)) :
    wpX_lowerAt post (ct, ms, gv, nI n, dp, ch, cv, bs, rc, mz, ls, tc, rd, pc, ps, tk, wa, sp, ip, op, tg, fi, se, hz, lt, lq, ik, kv, sa, ve, vf, vs, vt, vc, ll, lh, la, lu, bg, en, ro, hq, mo, mt, mf, mq, pv, ce, fn, va, rg) (nI m) t (nI 2) := by
  have hc := hT.2.2.1
  have hj : 0 ≤ zc_jo t ∧ zc_jo t ≤ 127 := by rcases ht with rfl | rfl <;> decide
  refine zo_shs ht (fun z h1 h2 => ?_)
  unfold wX_lowerShort_11
  refine nm_r (zo_6 m) (br_f (by decide) (br_t rfl (zo_part (k := 1) hT hm hp (nm_r (zo_6 _) ?_))))
  rw [zo_2m]
  refine zo_em1 (by omega) hj (zo_r0 (by omega)) (by decide) hz0 (fun op1 tg1 fi1 se1 hz1 a1 i1 z1 => ?_)
  have key := zo_em2 (post := post) (n := n + 1) (o := 1) (t := nI (6 + m)) (f := zc_v2 t) (s := 0) (o2 := 20) (t2 := nI (2 * m)) (f2 := 0) (s2 := 0) (op := op1) (tg := tg1) (fi := fi1) (se := se1) (hz := hz1) (by omega) (by decide) (zo_r0 (by omega)) (by decide) (by decide) (zo_r0 (by omega)) (by decide) z1
    (fun op2 tg2 fi2 se2 hz2 a2 i2 i3 z2 => H _ _ _ _ _ (zo_agt a1 a2 (by omega)) (zo_ins a2 (by omega) i1) i2 i3 z2)
  refine br_c (fun e0 => ?_) (fun n0 => ?_)
  · unfold wX_lowerShort_108
    rw [zo_2m]
    rcases ht with rfl | rfl
    · rw [h1 rfl] at e0; exact absurd e0 (by decide)
    · exact key
  · unfold wX_lowerShort_108
    rw [zo_2m]
    rcases ht with rfl | rfl
    · exact key
    · exact absurd (h2 rfl) n0
theorem zo_pl0 {p : Nat} (hok : zt_ok (tk m)) (h2 : ¬ tk m = 2) (h3 : ¬ tk m = 3) (h68 : ¬ tk m = 68) (h69 : ¬ tk m = 69) (hp : p < zt_pt (tk m)) (H : post (ct, ms, gv, sz, dp, ch, cv, bs, rc, mz, ls, tc, rd, pc, ps, tk, wa, sp, ip, op, tg, fi, se, hz, lt, lq, ik, kv, sa, ve, vf, vs, vt, vc, ll, lh, la, lu, bg, en, ro, hq, mo, mt, mf, mq, pv, ce, fn, va, rg)) : wpX_lowerAt post (ct, ms, gv, sz, dp, ch, cv, bs, rc, mz, ls, tc, rd, pc, ps, tk, wa, sp, ip, op, tg, fi, se, hz, lt, lq, ik, kv, sa, ve, vf, vs, vt, vc, ll, lh, la, lu, bg, en, ro, hq, mo, mt, mf, mq, pv, ce, fn, va, rg) (nI m) (tk m) (nI p) := by
  have h4 := zt_p3 (tk m)
  unfold wpX_lowerAt
  exact br_f h2 (br_f h3 (br_f h68 (br_f h69 (zx_parts hok (br_f (fun q => absurd ((nI_eq (by omega) (by omega)).mp q) (by omega)) H)))))
/-- the plain tokens' own instruction -/
theorem zo_pl (hT : zo_T tk sp c e) (hm : m < c) (hn : n + 1 < 512) (h2 : ¬ tk m = 2) (h3 : ¬ tk m = 3) (h68 : ¬ tk m = 68) (h69 : ¬ tk m = 69) (hz0 : ∀ i, i < n → hz i = 0)
    (H0 : (tk m = 0 ∨ tk m = 1) → post (ct, ms, gv, nI n, dp, ch, cv, bs, rc, mz, ls, tc, rd, pc, ps, tk, wa, sp, ip, op, tg, fi, se, hz, lt, lq, ik, kv, sa, ve, vf, vs, vt, vc, ll, lh, la, lu, bg, en, ro, hq, mo, mt, mf, mq, pv, ce, fn, va, rg))
    (H : ¬ tk m = 0 → ¬ tk m = 1 → ∀ op' tg' fi' se' hz', zo_ag n op tg fi se op' tg' fi' se' → zc_ins op' tg' fi' se' n (zc_op (tk m)) (zc_tg (tk m) m) (zc_fi (tk m) (m + 1)) (zc_se (tk m) (e (m + 1))) → (∀ i, i < n + 1 → hz' i = 0) → post (ct, ms, gv, nI (n + 1), dp, ch, cv, bs, rc, mz, ls, tc, rd, pc, ps, tk, wa, sp, ip, op', tg', fi', se', hz', lt, lq, ik, kv, sa, ve, vf, vs, vt, vc, ll, lh, la, lu, bg, en, ro, hq, mo, mt, mf, mq, pv, ce, fn, va, rg)) :
    wpX_lowerAt post (ct, ms, gv, nI n, dp, ch, cv, bs, rc, mz, ls, tc, rd, pc, ps, tk, wa, sp, ip, op, tg, fi, se, hz, lt, lq, ik, kv, sa, ve, vf, vs, vt, vc, ll, lh, la, lu, bg, en, ro, hq, mo, mt, mf, mq, pv, ce, fn, va, rg) (nI m) (tk m) (nI (zt_pt (tk m))) := by
  have hc := hT.2.2.1
  have hok := hT.2.1 m hm
  have hT' := hT.1 m (Nat.zero_le _) hm
  unfold wpX_lowerAt
  refine br_f h2 (br_f h3 (br_f h68 (br_f h69 (zx_parts hok (br_t rfl ?_)))))
  unfold wpX_lowerPlain
  refine zx_parts hok (nm_r (zo_6 m) ?_)
  have hch : 1 < zt_pt (tk m) → e (m + 1) < 90 := by
    intro h
    have := (hT'.2.2.2 1 h).1
    have h5 : zt_ch e m 1 = e (m + 1) := rfl
    omega
  -- the last step
  have k48 : ∀ a b : Int32, (0 < zt_pt (tk m) → a = nI (6 + (m + 1))) → (1 < zt_pt (tk m) → b = nI (6 + e (m + 1))) → (¬ 1 < zt_pt (tk m) → b = 0) → wX_lowerPlain_48 post (tk m) (nI (6 + m)) a b ct ms gv (nI n) dp ch cv bs rc mz ls tc rd pc ps tk wa sp ip op tg fi se hz lt lq ik kv sa ve vf vs vt vc ll lh la lu bg en ro hq mo mt mf mq pv ce fn va rg := by
    intro a b qa qb qb0
    have hbr : 0 ≤ b ∧ b ≤ 32767 := by
      by_cases q : 1 < zt_pt (tk m)
      · rw [qb q]; have := hch q; exact zo_r0 (by omega)
      · rw [qb0 q]; decide
    by_cases e0 : tk m = 0
    · unfold wX_lowerPlain_48
      rw [e0]
      exact br_t (by decide) (br_t (by decide) (br_t (by decide) (br_t (by decide) (br_t (by decide) (br_t (by decide) (br_f (by decide) (br_f (by decide) (H0 (Or.inl e0)))))))))
    by_cases e1 : tk m = 1
    · unfold wX_lowerPlain_48
      rw [e1]
      exact br_t (by decide) (br_t (by decide) (br_t (by decide) (br_t (by decide) (br_t (by decide) (br_t (by decide) (br_f (by decide) (br_f (by decide) (H0 (Or.inr e1)))))))))
    obtain ⟨k, hk, ek⟩ := zs_okn hok
    have hpl := zs_pli hok h2 h3 h68 h69 e0 e1
    have ha := zs_ta k hk (ek ▸ hok) (ek ▸ h2) (ek ▸ h3) (ek ▸ h68) (ek ▸ h69) (ek ▸ e0) (ek ▸ e1)
    have htb := zs_tb k hk (ek ▸ hok) (ek ▸ h2) (ek ▸ h3) (ek ▸ h68) (ek ▸ h69) (ek ▸ e0) (ek ▸ e1)
    have hop := zo_pl1 k hk (ek ▸ hpl)
    have htd := zs_td k hk (ek ▸ hok)
    rw [← ek] at ha htb hop htd
    have em : ∀ o t f s, o = zc_op (tk m) → t = zc_tg (tk m) m → f = zc_fi (tk m) (m + 1) → s = zc_se (tk m) (e (m + 1)) → (0 ≤ t ∧ t ≤ 32767) → (0 ≤ s ∧ s ≤ 32767) → wpX_emit post (ct, ms, gv, nI n, dp, ch, cv, bs, rc, mz, ls, tc, rd, pc, ps, tk, wa, sp, ip, op, tg, fi, se, hz, lt, lq, ik, kv, sa, ve, vf, vs, vt, vc, ll, lh, la, lu, bg, en, ro, hq, mo, mt, mf, mq, pv, ce, fn, va, rg) o t f s := by
      rintro o t f s rfl rfl rfl rfl r1 r2
      exact zo_em1 (by omega) hop r1 r2 hz0 (H e0 e1)
    have hse : ∀ b', (zt_pt (tk m) = 2 → b' = b) → (¬ zt_pt (tk m) = 2 → b' = 0) → b' = zc_se (tk m) (e (m + 1)) := by
      intro b' g1 g2
      unfold zc_se
      by_cases q : zt_pt (tk m) = 2
      · rw [if_pos q, g1 q]; exact qb (by omega)
      · rw [if_neg q]; exact g2 q
    have hb2 : b = zc_se (tk m) (e (m + 1)) := hse b (fun _ => rfl) (fun q => qb0 (by have := htb.1; omega))
    have rng : 0 ≤ nI (6 + m) ∧ nI (6 + m) ≤ 32767 := zo_r0 (by omega)
    have fic : ¬ zt_pt (tk m) = 0 → a = zc_fi (tk m) (m + 1) := by
      intro q
      rw [qa (by omega)]
      exact (zs_fic (ha.2.2 q).2).symm
    unfold wX_lowerPlain_48 wX_lowerPlain_101
    by_cases g80 : tk m < 80
    · refine br_t g80 ?_
      have n80 : ¬ 80 ≤ tk m := Int32.not_le.mpr g80
      by_cases g70 : tk m < 70
      · refine br_t g70 ?_
        have nn : ∀ c : Int32, 70 ≤ c → ¬ tk m = c := fun c hc h => absurd (h ▸ g70) (Int32.not_lt.mpr hc)
        by_cases g61 : tk m < 61
        · refine br_t g61 ?_
          have n61 : ¬ 61 ≤ tk m := Int32.not_le.mpr g61
          have hzo : zc_op (tk m) = if 30 ≤ tk m then 2 else if 16 ≤ tk m then 15 else if 10 ≤ tk m then 2 else if tk m = 5 then 13 else 14 := by
            unfold zc_op
            rw [if_neg n80, if_neg (nn 70 (by decide)), if_neg (nn 71 (by decide)), if_neg (nn 72 (by decide)), if_neg n61]
          have hzf : zc_fi (tk m) (m + 1) = if 30 ≤ tk m then tk m - 30 else if 16 ≤ tk m then 0 else nI (6 + (m + 1)) := by
            unfold zc_fi
            rw [if_neg n80, if_neg n61]
          by_cases g30 : tk m < 30
          · refine br_t g30 ?_
            have n30 : ¬ 30 ≤ tk m := Int32.not_le.mpr g30
            rw [if_neg n30] at hzo hzf
            by_cases g16 : tk m < 16
            · refine br_t g16 ?_
              have n16 : ¬ 16 ≤ tk m := Int32.not_le.mpr g16
              rw [if_neg n16] at hzo hzf
              have hnp : ¬ zt_pt (tk m) = 0 := by
                intro q
                rcases ha.2.1 q with h | h | h
                · exact n80 h
                · exact n30 h.1
                · exact n16 h.1
              by_cases g10 : tk m < 10
              · refine br_t g10 ?_
                have n10 : ¬ 10 ≤ tk m := Int32.not_le.mpr g10
                rw [if_neg n10] at hzo
                have hzt : zc_tg (tk m) m = 0 := by
                  unfold zc_tg
                  rw [if_neg n30, if_neg n16, if_neg n10]
                refine br_c (fun e5 => ?_) (fun n5 => br_c (fun e4 => ?_) (fun n4 => ?_))
                · rw [if_pos e5] at hzo
                  exact em 13 0 a b hzo.symm hzt.symm (fic hnp) hb2 (by decide) hbr
                · rw [if_neg n5] at hzo
                  refine em 14 0 a 0 hzo.symm hzt.symm (fic hnp) (hse 0 (fun q => ?_) (fun _ => rfl)) (by decide) (by decide)
                  rw [e4] at q; exact absurd q (by decide)
                · exfalso
                  rcases hok with h | h | h | h | h
                  · have := zx_pt5 k hk (ek ▸ h.2)
                    rw [← ek] at this
                    rcases this with h | h | h | h | h | h
                    · exact e0 h
                    · exact e1 h
                    · exact h2 h
                    · exact h3 h
                    · exact n4 h
                    · exact n5 h
                  · exact n10 h.1
                  · exact n30 h.1
                  · exact n61 h.1
                  · exact n80 h.1
              · refine br_f g10 ?_
                have p10 : 10 ≤ tk m := Int32.not_lt.mp g10
                rw [if_pos p10] at hzo
                have hzt : zc_tg (tk m) m = tk m - 10 := by
                  unfold zc_tg
                  rw [if_neg n30, if_neg n16, if_pos p10]
                have h15 : tk m ≤ 15 := by
                  by_cases q : tk m ≤ 15
                  · exact q
                  · have := (zx_pt6 k hk).1 (ek ▸ q)
                    rw [← ek] at this; exact absurd this n16
                obtain ⟨j, hj, ej⟩ := zy_sv (a := 10) (k := 10) (by decide) (by omega) p10 h15 (by decide)
                refine em 2 (tk m - 10) a 0 hzo.symm hzt.symm (fic hnp) (hse 0 (fun q => ?_) (fun _ => rfl)) (by rw [ej]; exact zo_r0 (by omega)) (by decide)
                have := zs_tc k hk (ek ▸ hok) (ek ▸ h2) (ek ▸ h3) (ek ▸ h68) (ek ▸ h69) (ek ▸ e0) (ek ▸ e1) (ek ▸ n30)
                rw [← ek] at this
                exact absurd p10 (this.1 q).2
            · refine br_f g16 ?_
              have p16 : 16 ≤ tk m := Int32.not_lt.mp g16
              rw [if_pos p16] at hzo hzf
              have hzt : zc_tg (tk m) m = tk m - 16 := by
                unfold zc_tg
                rw [if_neg n30, if_pos p16]
              have h21 : tk m ≤ 21 := by
                rcases hok with h | h | h | h | h
                · exact absurd (Int32.le_trans p16 h.2) (by decide)
                · exact h.2
                · exact absurd h.1 n30
                · exact absurd h.1 n61
                · exact absurd h.1 n80
              obtain ⟨j, hj, ej⟩ := zy_sv (a := 16) (k := 16) (by decide) (by omega) p16 h21 (by decide)
              refine em 15 (tk m - 16) 0 0 hzo.symm hzt.symm hzf.symm (hse 0 (fun q => ?_) (fun _ => rfl)) (by rw [ej]; exact zo_r0 (by omega)) (by decide)
              have := zs_tc k hk (ek ▸ hok) (ek ▸ h2) (ek ▸ h3) (ek ▸ h68) (ek ▸ h69) (ek ▸ e0) (ek ▸ e1) (ek ▸ n30)
              rw [← ek] at this
              exact absurd (Int32.le_trans (by decide) p16) (this.1 q).2
          · refine br_f g30 ?_
            have p30 : 30 ≤ tk m := Int32.not_lt.mp g30
            rw [if_pos p30] at hzo hzf
            refine em 2 (nI (6 + m)) (tk m - 30) 0 hzo.symm (if_pos p30).symm hzf.symm (hse 0 (fun q => ?_) (fun _ => rfl)) rng (by decide)
            exfalso
            have := (ha.2.2 (by omega)).2.2
            rcases this with h | h
            · exact n61 h
            · exact h.2.1 p30
        · refine br_f g61 ?_
          have p61 : 61 ≤ tk m := Int32.not_lt.mp g61
          have p30 : 30 ≤ tk m := Int32.le_trans (by decide) p61
          have hzo : zc_op (tk m) = tk m - 58 := by
            unfold zc_op
            rw [if_neg n80, if_neg (nn 70 (by decide)), if_neg (nn 71 (by decide)), if_neg (nn 72 (by decide)), if_pos p61]
          have hnp : ¬ zt_pt (tk m) = 0 := by
            intro q
            rcases ha.2.1 q with h | h | h
            · exact n80 h
            · exact absurd (Int32.le_trans p61 h.2) (by decide)
            · exact absurd (Int32.le_trans p61 h.2) (by decide)
          exact em (tk m - 58) (nI (6 + m)) a b hzo.symm (if_pos p30).symm (fic hnp) hb2 rng hbr
      · refine br_f g70 ?_
        have p70 : 70 ≤ tk m := Int32.not_lt.mp g70
        have p30 : 30 ≤ tk m := Int32.le_trans (by decide) p70
        have hnp : ¬ zt_pt (tk m) = 0 := by
          intro q
          rcases ha.2.1 q with h | h | h
          · exact n80 h
          · exact absurd (Int32.le_trans p70 h.2) (by decide)
          · exact absurd (Int32.le_trans p70 h.2) (by decide)
        have hse0 : (0 : Int32) = zc_se (tk m) (e (m + 1)) := by
          refine hse 0 (fun q => ?_) (fun _ => rfl)
          rcases zs_pt2l hok q e1 h3 h68 h69 with h | h | h | h | h | h | h | h <;> rw [h] at p70 <;> exact absurd p70 (by decide)
        refine br_c (fun e70 => ?_) (fun n70 => br_c (fun e71 => ?_) (fun n71 => ?_))
        · exact em 10 (nI (6 + m)) a 0 (by rw [e70]; decide) (if_pos p30).symm (fic hnp) hse0 rng (by decide)
        · exact em 11 (nI (6 + m)) a 0 (by rw [e71]; decide) (if_pos p30).symm (fic hnp) hse0 rng (by decide)
        · have e72 : tk m = 72 := by
            have h1p : zt_pt (tk m) = 1 := by
              have := htb.1
              have q : ¬ zt_pt (tk m) = 2 := by
                intro q
                rcases zs_pt2l hok q e1 h3 h68 h69 with h | h | h | h | h | h | h | h <;> rw [h] at p70 <;> exact absurd p70 (by decide)
              omega
            have := zs_pt1l k hk (ek ▸ hok) (ek ▸ h1p)
            rw [← ek] at this
            rcases this with h | h | h | h | h
            · rw [h] at p70; exact absurd p70 (by decide)
            · exact absurd (Int32.le_trans p70 h.2) (by decide)
            · exact absurd h n70
            · exact absurd h n71
            · exact h
          exact em 12 (nI (6 + m)) a 0 (by rw [e72]; decide) (if_pos p30).symm (fic hnp) hse0 rng (by decide)
    · refine br_f g80 ?_
      have p80 : 80 ≤ tk m := Int32.not_lt.mp g80
      have p30 : 30 ≤ tk m := Int32.le_trans (by decide) p80
      refine em 1 (nI (6 + m)) (tk m - 100) 0 (if_pos p80).symm (if_pos p30).symm (if_pos p80).symm (hse 0 (fun q => ?_) (fun _ => rfl)) rng (by decide)
      exact absurd p80 (ha.2.2 (by omega)).2.1
  have h3' := zt_p3 (tk m)
  have k28 : ∀ a : Int32, (0 < zt_pt (tk m) → a = nI (6 + (m + 1))) → wX_lowerPlain_28 post (nI m) (tk m) (nI (zt_pt (tk m))) (nI (6 + m)) a ct ms gv (nI n) dp ch cv bs rc mz ls tc rd pc ps tk wa sp ip op tg fi se hz lt lq ik kv sa ve vf vs vt vc ll lh la lu bg en ro hq mo mt mf mq pv ce fn va rg := by
    intro a qa
    unfold wX_lowerPlain_28
    refine pk_le (zt_pt (tk m)) 1 (fun h => k48 a 0 qa (fun q => by omega) (fun _ => rfl)) (fun h => zo_part (k := 1) hT hm (by omega) ?_)
    rw [zo_6]
    exact k48 a _ qa (fun _ => rfl) (fun q => by omega)
  refine pk_le (zt_pt (tk m)) 0 (fun h => k28 0 (fun q => by omega)) (fun h => zo_part (k := 0) hT hm (Nat.zero_le _) ?_)
  rw [zo_6]
  exact k28 _ (fun _ => rfl)
end
end
section
/-! lowering: rounds and nodes -/
section
variable {ct ms gv sz dp ch cv bs rc mz ls tc rd pc ps : Int32} {tk wa sp ip op tg fi se hz lt lq ik kv sa ve vf vs vt vc la lu bg en ro hq mo mt mf mq pv ce fn va rg : Nat → Int32} {ll lh : Nat → Int64}
variable {post : SX → Prop} {c m d p x1 a : Nat} {e : Nat → Nat} {Eff : ty_V → ty_V → ty_V → ty_V → ty_V → Nat → Prop}
theorem zo_rnd (hT : zo_T tk sp c e) (hm : m < c) (hx : x1 < 360) (hd : d < 95) (hlt : lt d = nI m) (hlq : lq d = nI p) (hp : p ≤ zt_pt (tk m))
    (hE : ∀ (K : SX → Prop) (dp : Int32) (lq : ty_V), (∀ op' tg' fi' se' hz' b, Eff op' tg' fi' se' hz' b → K (nI c, ms, gv, nI b, dp, ch, cv, bs, rc, mz, ls, tc, rd, pc, ps, tk, wa, sp, ip, op', tg', fi', se', hz', lt, lq, ik, kv, sa, ve, vf, vs, vt, vc, ll, lh, la, lu, bg, en, ro, hq, mo, mt, mf, mq, pv, ce, fn, va, rg)) → wpX_lowerAt K (nI c, ms, gv, nI a, dp, ch, cv, bs, rc, mz, ls, tc, rd, pc, ps, tk, wa, sp, ip, op, tg, fi, se, hz, lt, lq, ik, kv, sa, ve, vf, vs, vt, vc, ll, lh, la, lu, bg, en, ro, hq, mo, mt, mf, mq, pv, ce, fn, va, rg) (nI m) (tk m) (nI p))
    (h1 : p = zt_pt (tk m) → ∀ op' tg' fi' se' hz' b, Eff op' tg' fi' se' hz' b → wX_lower_21 post (400 - (x1 + 1)) (nI (x1 + 1)) (nI c) ms gv (nI b) (nI d) ch cv bs rc mz ls tc rd pc ps tk wa sp ip op' tg' fi' se' hz' lt (upd lq d (nI (p + 1))) ik kv sa ve vf vs vt vc ll lh la lu bg en ro hq mo mt mf mq pv ce fn va rg)
    (h2 : p < zt_pt (tk m) → ∀ op' tg' fi' se' hz' b, Eff op' tg' fi' se' hz' b →
      wX_lower_21 post (400 - (x1 + 1)) (nI (x1 + 1)) (nI c) ms gv (nI b) (nI (d + 2)) ch cv bs rc mz ls tc rd pc ps tk wa sp ip op' tg' fi' se' hz' (upd lt (d + 1) (nI (zt_ch e m p))) (upd (upd lq d (nI (p + 1))) (d + 1) 0) ik kv sa ve vf vs vt vc ll lh la lu bg en ro hq mo mt mf mq pv ce fn va rg) :
    wX_lower_21 post (400 - x1) (nI x1) (nI c) ms gv (nI a) (nI (d + 1)) ch cv bs rc mz ls tc rd pc ps tk wa sp ip op tg fi se hz lt lq ik kv sa ve vf vs vt vc ll lh la lu bg en ro hq mo mt mf mq pv ce fn va rg := by
  have hc90 := hT.2.2.1
  have h3 := zt_p3 (tk m)
  have hcd : (nI d).toNatClampNeg = d := nI_clamp (by omega)
  have hcm : (nI m).toNatClampNeg = m := nI_clamp (by omega)
  have hin : vp_in (nI d) 96 := vp_in_nI (by omega) (by decide)
  rw [show 400 - x1 = (400 - (x1 + 1)) + 1 by omega]
  refine br_f (nI_ge (b := 360) hx (by decide)) (br_f (nI_nle (by omega) (by omega)) ?_)
  rw [nI_pred, hcd]
  refine ⟨hin, nm_r hlt ⟨hin, nm_r hlq ⟨hin, hin, nm_r (e' := upd lq d (nI (p + 1))) ?_ ⟨vp_in_nI (by omega) (by decide), nm_r (e' := tk m) (by rw [hcm]) (zx_parts (hT.2.1 m hm) ?_)⟩⟩⟩⟩
  · rw [hlq, nI_1, pk_vb, zn_bN (by omega)]
  unfold wX_lower_101 wX_lower_118
  refine pk_eq p (zt_pt (tk m)) (fun ep => br_f (by decide) (nm_r (nI_pred d) (hE _ _ _ (fun op' tg' fi' se' hz' b hEff => br_f (by decide) (nm_r (nI_1 x1) (h1 ep _ _ _ _ _ _ hEff)))))) (fun np => ?_)
  refine br_t rfl (hE _ _ _ (fun op' tg' fi' se' hz' b hEff => br_t rfl (zo_enterPart (d := d + 1) hT hm (by omega) (by omega) (nm_r (nI_1 x1) (h2 (by omega) _ _ _ _ _ _ hEff)))))
end
section
variable {ct ms gv sz dp ch cv bs rc mz ls tc rd pc ps : Int32} {tk wa sp ip op tg fi se hz lt lq ik kv sa ve vf vs vt vc la lu bg en ro hq mo mt mf mq pv ce fn va rg : Nat → Int32} {ll lh : Nat → Int64}
variable {post : SX → Prop} {c : Nat} {e : Nat → Nat}
theorem zo_node (hT : zo_T tk sp c e) : ∀ M m, e m - m ≤ M → m < c → ∀ x1 d a op tg fi se hz lt lq, lt d = nI m → lq d = 0 → d + (e m - m) ≤ 94 → a + 5 * (e m - m) ≤ 500 → x1 + 2 * (e m - m) ≤ 360 → (∀ i, i < a → hz i = 0) →
    (∀ x' op' tg' fi' se' hz' lt' lq' b, x' = x1 + (2 * (e m - m) - 1) → (∀ j, j < d → lt' j = lt j ∧ lq' j = lq j) → zo_ag a op tg fi se op' tg' fi' se' → b ≤ a + 5 * (e m - m) →
      zc_lay tk e op' tg' fi' se' (e m - m) m a b → (∀ i, i < b → hz' i = 0) → wX_lower_21 post (400 - x') (nI x') (nI c) ms gv (nI b) (nI d) ch cv bs rc mz ls tc rd pc ps tk wa sp ip op' tg' fi' se' hz' lt' lq' ik kv sa ve vf vs vt vc ll lh la lu bg en ro hq mo mt mf mq pv ce fn va rg) →
    wX_lower_21 post (400 - x1) (nI x1) (nI c) ms gv (nI a) (nI (d + 1)) ch cv bs rc mz ls tc rd pc ps tk wa sp ip op tg fi se hz lt lq ik kv sa ve vf vs vt vc ll lh la lu bg en ro hq mo mt mf mq pv ce fn va rg := by
  have hc90 := hT.2.2.1
  intro M
  induction M with
  | zero => intro m hM hm; have := (hT.1 m (Nat.zero_le _) hm).1; omega
  | succ M ih =>
    intro m hM hm x1 d a op tg fi se hz lt lq hlt hlq hd ha hx hz0 H
    obtain ⟨em1, em2, em3, em4⟩ := hT.1 m (Nat.zero_le _) hm
    have hok := hT.2.1 m hm
    obtain ⟨f, hf⟩ : ∃ f, e m - m = f + 1 := ⟨e m - m - 1, by omega⟩
    have hlq : lq d = nI 0 := hlq
    have hu : ∀ (f : ty_V) (x : Int32) j, j < d → upd f d x j = f j := fun f x j hj => zq_un (by omega)
    have hu1 : ∀ (f : ty_V) (x : Int32) j, j < d + 1 → upd f (d + 1) x j = f j := fun f x j hj => zq_un (by omega)
    by_cases t2 : tk m = 2
    · -- if
      have hp : zt_pt (tk m) = 3 := by rw [t2]; decide
      have q1 : m + 1 < c := (em4 0 (by omega)).1
      have q4 : e (m + 1) < c := (em4 1 (by omega)).1
      have q6 : e (e (m + 1)) < c := (em4 2 (by omega)).1
      have q3 : e m = e (e (e (m + 1))) := by rw [em3, hp]; rfl
      obtain ⟨s1, _, _, _⟩ := hT.1 (m + 1) (Nat.zero_le _) q1
      obtain ⟨s2, _, _, _⟩ := hT.1 (e (m + 1)) (Nat.zero_le _) q4
      obtain ⟨s3, _, _, _⟩ := hT.1 (e (e (m + 1))) (Nat.zero_le _) q6
      refine zo_rnd (p := 0) (Eff := fun op' tg' fi' se' hz' b => op = op' ∧ tg = tg' ∧ fi = fi' ∧ se = se' ∧ hz = hz' ∧ a = b) hT hm (by omega) (by omega) hlt hlq (by omega)
        (fun K dp lq h => by rw [t2]; exact zo_if0 (h _ _ _ _ _ _ ⟨rfl, rfl, rfl, rfl, rfl, rfl⟩)) (fun q => by omega) ?_
      rintro _ _ _ _ _ _ _ ⟨rfl, rfl, rfl, rfl, rfl, rfl⟩
      refine ih (m + 1) (by omega) q1 (x1 + 1) (d + 1) _ _ _ _ _ _ _ _ zq_us zq_us (by omega) (by omega) (by omega) hz0 ?_
      intro x2 op1 tg1 fi1 se1 hz1 lt1 lq1 b1 ex1 f1 ag1 bb1 l1 z1
      have le1 := zc_le _ _ _ _ l1
      refine zo_rnd (p := 1) (Eff := fun op' tg' fi' se' hz' b => zo_ag b1 op1 tg1 fi1 se1 op' tg' fi' se' ∧ zc_ins op' tg' fi' se' b1 17 (nI (2 * m)) (nI (6 + (m + 1))) 0 ∧ (∀ i, i < b1 + 1 → hz' i = 0) ∧ b = b1 + 1) hT hm (by omega) (by omega)
        (by rw [(f1 d (by omega)).1, hu1 _ _ d (by omega)]; exact hlt) (by rw [(f1 d (by omega)).2, hu1 _ _ d (by omega), zq_us]) (by omega)
        (fun K dp lq h => by rw [t2]; exact zo_if1 hT hm (by omega) t2 z1 (fun op' tg' fi' se' hz' p1 p2 p3 => h _ _ _ _ _ _ ⟨p1, p2, p3, rfl⟩)) (fun q => by omega) ?_
      rintro _ op2 tg2 fi2 se2 hz2 _ ⟨ag2, i2, z2, rfl⟩
      refine ih (e (m + 1)) (by omega) q4 (x2 + 1) (d + 1) _ _ _ _ _ _ _ _ zq_us zq_us (by omega) (by omega) (by omega) z2 ?_
      intro x3 op3 tg3 fi3 se3 hz3 lt3 lq3 b3 ex3 f3 ag3 bb3 l3 z3
      have le3 := zc_le _ _ _ _ l3
      refine zo_rnd (p := 2) (Eff := fun op' tg' fi' se' hz' b => zo_ag b3 op3 tg3 fi3 se3 op' tg' fi' se' ∧ zc_ins op' tg' fi' se' b3 16 (nI (2 * m + 1)) 0 0 ∧ zc_ins op' tg' fi' se' (b3 + 1) 20 (nI (2 * m)) 0 0 ∧ (∀ i, i < b3 + 2 → hz' i = 0) ∧ b = b3 + 2) hT hm (by omega) (by omega)
        (by rw [(f3 d (by omega)).1, hu1 _ _ d (by omega), (f1 d (by omega)).1, hu1 _ _ d (by omega)]; exact hlt) (by rw [(f3 d (by omega)).2, hu1 _ _ d (by omega), zq_us]) (by omega)
        (fun K dp lq h => by rw [t2]; exact zo_if2 (by omega) (by omega) z3 (fun op' tg' fi' se' hz' p1 p2 p3 p4 => h _ _ _ _ _ _ ⟨p1, p2, p3, p4, rfl⟩)) (fun q => by omega) ?_
      rintro _ op4 tg4 fi4 se4 hz4 _ ⟨ag4, i4, i4', z4, rfl⟩
      refine ih (e (e (m + 1))) (by omega) q6 (x3 + 1) (d + 1) _ _ _ _ _ _ _ _ zq_us zq_us (by omega) (by omega) (by omega) z4 ?_
      intro x5 op5 tg5 fi5 se5 hz5 lt5 lq5 b5 ex5 f5 ag5 bb5 l5 z5
      have le5 := zc_le _ _ _ _ l5
      refine zo_rnd (p := 3) (Eff := fun op' tg' fi' se' hz' b => zo_ag b5 op5 tg5 fi5 se5 op' tg' fi' se' ∧ zc_ins op' tg' fi' se' b5 20 (nI (2 * m + 1)) 0 0 ∧ (∀ i, i < b5 + 1 → hz' i = 0) ∧ b = b5 + 1) hT hm (by omega) (by omega)
        (by rw [(f5 d (by omega)).1, hu1 _ _ d (by omega), (f3 d (by omega)).1, hu1 _ _ d (by omega), (f1 d (by omega)).1, hu1 _ _ d (by omega)]; exact hlt) (by rw [(f5 d (by omega)).2, hu1 _ _ d (by omega), zq_us]) (by omega)
        (fun K dp lq h => by rw [t2]; exact zo_if3 (by omega) (by omega) z5 (fun op' tg' fi' se' hz' p1 p2 p3 => h _ _ _ _ _ _ ⟨p1, p2, p3, rfl⟩)) ?_ (fun q => by omega)
      rintro _ op6 tg6 fi6 se6 hz6 _ ⟨ag6, i6, z6, rfl⟩
      have A56 := zo_agt ag5 ag6 (show b3 + 2 ≤ b5 by omega)
      have A46 := zo_agt ag4 A56 (show b3 ≤ b3 + 2 by omega)
      have A36 := zo_agt ag3 A46 (show b1 + 1 ≤ b3 by omega)
      have A26 := zo_agt ag2 A36 (show b1 ≤ b1 + 1 by omega)
      have A16 := zo_agt ag1 A26 (show _ ≤ b1 by omega)
      refine H _ _ _ _ _ _ _ _ _ (by omega) ?_ A16 (by omega) ?_ z6
      · intro j hj
        constructor
        · rw [(f5 j (by omega)).1, hu1 _ _ j (by omega), (f3 j (by omega)).1, hu1 _ _ j (by omega), (f1 j (by omega)).1, hu1 _ _ j (by omega)]
        · rw [hu _ _ j hj, (f5 j (by omega)).2, hu1 _ _ j (by omega), hu _ _ j hj, (f3 j (by omega)).2, hu1 _ _ j (by omega), hu _ _ j hj, (f1 j (by omega)).2, hu1 _ _ j (by omega), hu _ _ j hj]
      · rw [hf]
        unfold zc_lay
        rw [if_neg (by rw [t2]; decide), if_neg (by rw [t2]; decide), if_pos t2]
        exact ⟨b1, b3, b5, zo_lay A26 (by omega) (by omega) l1, zo_ins A36 (by omega) i2, zo_lay A46 (by omega) (by omega) l3, zo_ins A56 (by omega) i4, zo_ins A56 (by omega) i4', zo_lay ag6 (by omega) (by omega) l5, i6, rfl⟩
    by_cases t3 : tk m = 3
    · -- while
      have hp : zt_pt (tk m) = 2 := by rw [t3]; decide
      have q1 : m + 1 < c := (em4 0 (by omega)).1
      have q4 : e (m + 1) < c := (em4 1 (by omega)).1
      have q3 : e m = e (e (m + 1)) := by rw [em3, hp]; rfl
      obtain ⟨s1, _, _, _⟩ := hT.1 (m + 1) (Nat.zero_le _) q1
      obtain ⟨s2, _, _, _⟩ := hT.1 (e (m + 1)) (Nat.zero_le _) q4
      refine zo_rnd (p := 0) (Eff := fun op' tg' fi' se' hz' b => zo_ag a op tg fi se op' tg' fi' se' ∧ zc_ins op' tg' fi' se' a 20 (nI (2 * m)) 0 0 ∧ (∀ i, i < a + 1 → hz' i = 0) ∧ b = a + 1) hT hm (by omega) (by omega) hlt hlq (by omega)
        (fun K dp lq h => by rw [t3]; exact zo_wh0 (by omega) (by omega) hz0 (fun op' tg' fi' se' hz' p1 p2 p3 => h _ _ _ _ _ _ ⟨p1, p2, p3, rfl⟩)) (fun q => by omega) ?_
      rintro _ op0 tg0 fi0 se0 hz0' _ ⟨ag0, i0, z0, rfl⟩
      refine ih (m + 1) (by omega) q1 (x1 + 1) (d + 1) _ _ _ _ _ _ _ _ zq_us zq_us (by omega) (by omega) (by omega) z0 ?_
      intro x2 op1 tg1 fi1 se1 hz1 lt1 lq1 b1 ex1 f1 ag1 bb1 l1 z1
      have le1 := zc_le _ _ _ _ l1
      refine zo_rnd (p := 1) (Eff := fun op' tg' fi' se' hz' b => zo_ag b1 op1 tg1 fi1 se1 op' tg' fi' se' ∧ zc_ins op' tg' fi' se' b1 17 (nI (2 * m + 1)) (nI (6 + (m + 1))) 0 ∧ zc_ins op' tg' fi' se' (b1 + 1) 19 0 0 0 ∧ (∀ i, i < b1 + 2 → hz' i = 0) ∧ b = b1 + 2) hT hm (by omega) (by omega)
        (by rw [(f1 d (by omega)).1, hu1 _ _ d (by omega)]; exact hlt) (by rw [(f1 d (by omega)).2, hu1 _ _ d (by omega), zq_us]) (by omega)
        (fun K dp lq h => by rw [t3]; exact zo_wh1 hT hm (by omega) z1 (fun op' tg' fi' se' hz' p1 p2 p3 p4 => h _ _ _ _ _ _ ⟨p1, p2, p3, p4, rfl⟩)) (fun q => by omega) ?_
      rintro _ op2 tg2 fi2 se2 hz2 _ ⟨ag2, i2, i2', z2, rfl⟩
      refine ih (e (m + 1)) (by omega) q4 (x2 + 1) (d + 1) _ _ _ _ _ _ _ _ zq_us zq_us (by omega) (by omega) (by omega) z2 ?_
      intro x3 op3 tg3 fi3 se3 hz3 lt3 lq3 b3 ex3 f3 ag3 bb3 l3 z3
      have le3 := zc_le _ _ _ _ l3
      refine zo_rnd (p := 2) (Eff := fun op' tg' fi' se' hz' b => zo_ag b3 op3 tg3 fi3 se3 op' tg' fi' se' ∧ zc_ins op' tg' fi' se' b3 16 (nI (2 * m)) 0 0 ∧ zc_ins op' tg' fi' se' (b3 + 1) 20 (nI (2 * m + 1)) 0 0 ∧ (∀ i, i < b3 + 2 → hz' i = 0) ∧ b = b3 + 2) hT hm (by omega) (by omega)
        (by rw [(f3 d (by omega)).1, hu1 _ _ d (by omega), (f1 d (by omega)).1, hu1 _ _ d (by omega)]; exact hlt) (by rw [(f3 d (by omega)).2, hu1 _ _ d (by omega), zq_us]) (by omega)
        (fun K dp lq h => by rw [t3]; exact zo_wh2 (by omega) (by omega) z3 (fun op' tg' fi' se' hz' p1 p2 p3 p4 => h _ _ _ _ _ _ ⟨p1, p2, p3, p4, rfl⟩)) ?_ (fun q => by omega)
      rintro _ op4 tg4 fi4 se4 hz4 _ ⟨ag4, i4, i4', z4, rfl⟩
      have A34 := zo_agt ag3 ag4 (show b1 + 2 ≤ b3 by omega)
      have A24 := zo_agt ag2 A34 (show b1 ≤ b1 + 2 by omega)
      have A14 := zo_agt ag1 A24 (show a + 1 ≤ b1 by omega)
      have A04 := zo_agt ag0 A14 (show a ≤ a + 1 by omega)
      refine H _ _ _ _ _ _ _ _ _ (by omega) ?_ A04 (by omega) ?_ z4
      · intro j hj
        constructor
        · rw [(f3 j (by omega)).1, hu1 _ _ j (by omega), (f1 j (by omega)).1, hu1 _ _ j (by omega)]
        · rw [hu _ _ j hj, (f3 j (by omega)).2, hu1 _ _ j (by omega), hu _ _ j hj, (f1 j (by omega)).2, hu1 _ _ j (by omega), hu _ _ j hj]
      · rw [hf]
        unfold zc_lay
        rw [if_neg (by rw [t3]; decide), if_neg (by rw [t3]; decide), if_neg (by rw [t3]; decide), if_pos t3]
        exact ⟨b1, b3, zo_ins A14 (by omega) i0, zo_lay A24 (by omega) (by omega) l1, zo_ins A34 (by omega) i2, zo_ins A34 (by omega) i2', zo_lay ag4 (by omega) (by omega) l3, i4, i4', rfl⟩
    by_cases tsh : tk m = 68 ∨ tk m = 69
    · -- short
      have hp : zt_pt (tk m) = 2 := by rcases tsh with t | t <;> rw [t] <;> decide
      have q1 : m + 1 < c := (em4 0 (by omega)).1
      have q4 : e (m + 1) < c := (em4 1 (by omega)).1
      have q3 : e m = e (e (m + 1)) := by rw [em3, hp]; rfl
      obtain ⟨s1, _, _, _⟩ := hT.1 (m + 1) (Nat.zero_le _) q1
      obtain ⟨s2, _, _, _⟩ := hT.1 (e (m + 1)) (Nat.zero_le _) q4
      refine zo_rnd (p := 0) (Eff := fun op' tg' fi' se' hz' b => op = op' ∧ tg = tg' ∧ fi = fi' ∧ se = se' ∧ hz = hz' ∧ a = b) hT hm (by omega) (by omega) hlt hlq (by omega)
        (fun K dp lq h => zo_sh0 tsh (h _ _ _ _ _ _ ⟨rfl, rfl, rfl, rfl, rfl, rfl⟩)) (fun q => by omega) ?_
      rintro _ _ _ _ _ _ _ ⟨rfl, rfl, rfl, rfl, rfl, rfl⟩
      refine ih (m + 1) (by omega) q1 (x1 + 1) (d + 1) _ _ _ _ _ _ _ _ zq_us zq_us (by omega) (by omega) (by omega) hz0 ?_
      intro x2 op1 tg1 fi1 se1 hz1 lt1 lq1 b1 ex1 f1 ag1 bb1 l1 z1
      have le1 := zc_le _ _ _ _ l1
      refine zo_rnd (p := 1) (Eff := fun op' tg' fi' se' hz' b => zo_ag b1 op1 tg1 fi1 se1 op' tg' fi' se' ∧ zc_ins op' tg' fi' se' b1 1 (nI (6 + m)) (zc_v1 (tk m)) 0 ∧ zc_ins op' tg' fi' se' (b1 + 1) (zc_jo (tk m)) (nI (2 * m)) (nI (6 + (m + 1))) 0 ∧ (∀ i, i < b1 + 2 → hz' i = 0) ∧ b = b1 + 2) hT hm (by omega) (by omega)
        (by rw [(f1 d (by omega)).1, hu1 _ _ d (by omega)]; exact hlt) (by rw [(f1 d (by omega)).2, hu1 _ _ d (by omega), zq_us]) (by omega)
        (fun K dp lq h => zo_sh1 hT hm (by omega) tsh z1 (fun op' tg' fi' se' hz' p1 p2 p3 p4 => h _ _ _ _ _ _ ⟨p1, p2, p3, p4, rfl⟩)) (fun q => by omega) ?_
      rintro _ op2 tg2 fi2 se2 hz2 _ ⟨ag2, i2, i2', z2, rfl⟩
      refine ih (e (m + 1)) (by omega) q4 (x2 + 1) (d + 1) _ _ _ _ _ _ _ _ zq_us zq_us (by omega) (by omega) (by omega) z2 ?_
      intro x3 op3 tg3 fi3 se3 hz3 lt3 lq3 b3 ex3 f3 ag3 bb3 l3 z3
      have le3 := zc_le _ _ _ _ l3
      refine zo_rnd (p := 2) (Eff := fun op' tg' fi' se' hz' b => zo_ag b3 op3 tg3 fi3 se3 op' tg' fi' se' ∧ zc_ins op' tg' fi' se' b3 (zc_jo (tk m)) (nI (2 * m)) (nI (6 + e (m + 1))) 0 ∧ zc_ins op' tg' fi' se' (b3 + 1) 1 (nI (6 + m)) (zc_v2 (tk m)) 0 ∧ zc_ins op' tg' fi' se' (b3 + 2) 20 (nI (2 * m)) 0 0 ∧ (∀ i, i < b3 + 3 → hz' i = 0) ∧ b = b3 + 3) hT hm (by omega) (by omega)
        (by rw [(f3 d (by omega)).1, hu1 _ _ d (by omega), (f1 d (by omega)).1, hu1 _ _ d (by omega)]; exact hlt) (by rw [(f3 d (by omega)).2, hu1 _ _ d (by omega), zq_us]) (by omega)
        (fun K dp lq h => zo_sh2 hT hm (by omega) (by omega) tsh z3 (fun op' tg' fi' se' hz' p1 p2 p3 p4 p5 => h _ _ _ _ _ _ ⟨p1, p2, p3, p4, p5, rfl⟩)) ?_ (fun q => by omega)
      rintro _ op4 tg4 fi4 se4 hz4 _ ⟨ag4, i4, i4', i4'', z4, rfl⟩
      have A34 := zo_agt ag3 ag4 (show b1 + 2 ≤ b3 by omega)
      have A24 := zo_agt ag2 A34 (show b1 ≤ b1 + 2 by omega)
      have A14 := zo_agt ag1 A24 (show _ ≤ b1 by omega)
      refine H _ _ _ _ _ _ _ _ _ (by omega) ?_ A14 (by omega) ?_ z4
      · intro j hj
        constructor
        · rw [(f3 j (by omega)).1, hu1 _ _ j (by omega), (f1 j (by omega)).1, hu1 _ _ j (by omega)]
        · rw [hu _ _ j hj, (f3 j (by omega)).2, hu1 _ _ j (by omega), hu _ _ j hj, (f1 j (by omega)).2, hu1 _ _ j (by omega), hu _ _ j hj]
      · rw [hf]
        unfold zc_lay
        rw [if_neg (by rcases tsh with t | t <;> rw [t] <;> decide), if_neg (by rcases tsh with t | t <;> rw [t] <;> decide), if_neg t2, if_neg t3, if_pos tsh]
        exact ⟨b1, b3, zo_lay A24 (by omega) (by omega) l1, zo_ins A34 (by omega) i2, zo_ins A34 (by omega) i2', zo_lay ag4 (by omega) (by omega) l3, i4, i4', i4'', rfl⟩
    -- plain
    have n68 : ¬ tk m = 68 := fun q => tsh (Or.inl q)
    have n69 : ¬ tk m = 69 := fun q => tsh (Or.inr q)
    have last : ∀ (op tg fi se hz : ty_V) (b : Nat) (K : SX → Prop) (dp : Int32) (lt lq : ty_V), b + 1 < 512 → (∀ i, i < b → hz i = 0) →
        (∀ op' tg' fi' se' hz' b', (zo_ag b op tg fi se op' tg' fi' se' ∧ (((tk m = 0 ∨ tk m = 1) ∧ b' = b) ∨ (¬ tk m = 0 ∧ ¬ tk m = 1 ∧ b' = b + 1 ∧ zc_ins op' tg' fi' se' b (zc_op (tk m)) (zc_tg (tk m) m) (zc_fi (tk m) (m + 1)) (zc_se (tk m) (e (m + 1))))) ∧ (∀ i, i < b' → hz' i = 0)) → K (nI c, ms, gv, nI b', dp, ch, cv, bs, rc, mz, ls, tc, rd, pc, ps, tk, wa, sp, ip, op', tg', fi', se', hz', lt, lq, ik, kv, sa, ve, vf, vs, vt, vc, ll, lh, la, lu, bg, en, ro, hq, mo, mt, mf, mq, pv, ce, fn, va, rg)) →
        wpX_lowerAt K (nI c, ms, gv, nI b, dp, ch, cv, bs, rc, mz, ls, tc, rd, pc, ps, tk, wa, sp, ip, op, tg, fi, se, hz, lt, lq, ik, kv, sa, ve, vf, vs, vt, vc, ll, lh, la, lu, bg, en, ro, hq, mo, mt, mf, mq, pv, ce, fn, va, rg) (nI m) (tk m) (nI (zt_pt (tk m))) := by
      intro op tg fi se hz b K dp lt lq hb z h
      refine zo_pl hT hm hb t2 t3 n68 n69 z (fun q => h _ _ _ _ _ _ ⟨zo_agr, Or.inl ⟨q, rfl⟩, z⟩) (fun q0 q1 op' tg' fi' se' hz' p1 p2 p3 => h _ _ _ _ _ _ ⟨p1, Or.inr ⟨q0, q1, rfl, p2⟩, p3⟩)
    have hp2 : zt_pt (tk m) = 0 ∨ zt_pt (tk m) = 1 ∨ zt_pt (tk m) = 2 := by
      have := zt_p3 (tk m)
      have n3 : ¬ zt_pt (tk m) = 3 := by
        intro q
        unfold zt_pt at q
        rw [if_neg t2] at q
        split at q
        · omega
        · split at q <;> omega
      omega
    rcases hp2 with hp | hp | hp
    · have t1 : ¬ tk m = 1 := by intro q; rw [q] at hp; exact absurd hp (by decide)
      refine zo_rnd (p := 0) (Eff := fun op' tg' fi' se' hz' b' => zo_ag a op tg fi se op' tg' fi' se' ∧ (((tk m = 0 ∨ tk m = 1) ∧ b' = a) ∨ (¬ tk m = 0 ∧ ¬ tk m = 1 ∧ b' = a + 1 ∧ zc_ins op' tg' fi' se' a (zc_op (tk m)) (zc_tg (tk m) m) (zc_fi (tk m) (m + 1)) (zc_se (tk m) (e (m + 1))))) ∧ (∀ i, i < b' → hz' i = 0)) hT hm (by omega) (by omega) hlt hlq (by omega)
        (fun K dp lq h => by have := last op tg fi se hz a K dp lt lq (by omega) hz0 h; rw [hp] at this; exact this) ?_ (fun q => by omega)
      rintro _ op1 tg1 fi1 se1 hz1 b1 ⟨ag1, hh, z1⟩
      have e1 : e m = m + 1 := by rw [em3, hp]; rfl
      refine H _ _ _ _ _ _ _ _ _ (by omega) (fun j hj => ⟨rfl, hu _ _ j hj⟩) ag1 (by rcases hh with h | h <;> omega) ?_ z1
      rw [hf]
      unfold zc_lay
      rcases hh with ⟨t0 | t0, eb⟩ | ⟨t0, _, eb, i1⟩
      · rw [if_pos t0]; exact eb
      · exact absurd t0 t1
      · rw [if_neg t0, if_neg t1, if_neg t2, if_neg t3, if_neg tsh, if_pos hp]; exact ⟨i1, eb⟩
    · have t1 : ¬ tk m = 1 := by intro q; rw [q] at hp; exact absurd hp (by decide)
      have t0 : ¬ tk m = 0 := by intro q; rw [q] at hp; exact absurd hp (by decide)
      have q1 : m + 1 < c := (em4 0 (by omega)).1
      have q3 : e m = e (m + 1) := by rw [em3, hp]; rfl
      obtain ⟨s1, _, _, _⟩ := hT.1 (m + 1) (Nat.zero_le _) q1
      refine zo_rnd (p := 0) (Eff := fun op' tg' fi' se' hz' b => op = op' ∧ tg = tg' ∧ fi = fi' ∧ se = se' ∧ hz = hz' ∧ a = b) hT hm (by omega) (by omega) hlt hlq (by omega)
        (fun K dp lq h => zo_pl0 hok t2 t3 n68 n69 (by omega) (h _ _ _ _ _ _ ⟨rfl, rfl, rfl, rfl, rfl, rfl⟩)) (fun q => by omega) ?_
      rintro _ _ _ _ _ _ _ ⟨rfl, rfl, rfl, rfl, rfl, rfl⟩
      refine ih (m + 1) (by omega) q1 (x1 + 1) (d + 1) _ _ _ _ _ _ _ _ zq_us zq_us (by omega) (by omega) (by omega) hz0 ?_
      intro x2 op1 tg1 fi1 se1 hz1 lt1 lq1 b1 ex1 f1 ag1 bb1 l1 z1
      have le1 := zc_le _ _ _ _ l1
      refine zo_rnd (p := 1) (Eff := fun op' tg' fi' se' hz' b' => zo_ag b1 op1 tg1 fi1 se1 op' tg' fi' se' ∧ (((tk m = 0 ∨ tk m = 1) ∧ b' = b1) ∨ (¬ tk m = 0 ∧ ¬ tk m = 1 ∧ b' = b1 + 1 ∧ zc_ins op' tg' fi' se' b1 (zc_op (tk m)) (zc_tg (tk m) m) (zc_fi (tk m) (m + 1)) (zc_se (tk m) (e (m + 1))))) ∧ (∀ i, i < b' → hz' i = 0)) hT hm (by omega) (by omega)
        (by rw [(f1 d (by omega)).1, hu1 _ _ d (by omega)]; exact hlt) (by rw [(f1 d (by omega)).2, hu1 _ _ d (by omega), zq_us]) (by omega)
        (fun K dp lq h => by have := last op1 tg1 fi1 se1 hz1 b1 K dp lt1 lq (by omega) z1 h; rw [hp] at this; exact this) ?_ (fun q => by omega)
      rintro _ op2 tg2 fi2 se2 hz2 b2 ⟨ag2, hh, z2⟩
      rcases hh with ⟨t | t, _⟩ | ⟨_, _, eb, i2⟩
      · exact absurd t t0
      · exact absurd t t1
      have A12 := zo_agt ag1 ag2 (show _ ≤ b1 by omega)
      refine H _ _ _ _ _ _ _ _ _ (by omega) ?_ A12 (by omega) ?_ z2
      · intro j hj
        constructor
        · rw [(f1 j (by omega)).1, hu1 _ _ j (by omega)]
        · rw [hu _ _ j hj, (f1 j (by omega)).2, hu1 _ _ j (by omega), hu _ _ j hj]
      · rw [hf]
        unfold zc_lay
        rw [if_neg t0, if_neg t1, if_neg t2, if_neg t3, if_neg tsh, if_neg (by omega), if_pos hp]
        exact ⟨b1, zo_lay ag2 (by omega) (by omega) l1, i2, eb⟩
    · have t0 : ¬ tk m = 0 := by intro q; rw [q] at hp; exact absurd hp (by decide)
      have q1 : m + 1 < c := (em4 0 (by omega)).1
      have q4 : e (m + 1) < c := (em4 1 (by omega)).1
      have q3 : e m = e (e (m + 1)) := by rw [em3, hp]; rfl
      obtain ⟨s1, _, _, _⟩ := hT.1 (m + 1) (Nat.zero_le _) q1
      obtain ⟨s2, _, _, _⟩ := hT.1 (e (m + 1)) (Nat.zero_le _) q4
      refine zo_rnd (p := 0) (Eff := fun op' tg' fi' se' hz' b => op = op' ∧ tg = tg' ∧ fi = fi' ∧ se = se' ∧ hz = hz' ∧ a = b) hT hm (by omega) (by omega) hlt hlq (by omega)
        (fun K dp lq h => zo_pl0 hok t2 t3 n68 n69 (by omega) (h _ _ _ _ _ _ ⟨rfl, rfl, rfl, rfl, rfl, rfl⟩)) (fun q => by omega) ?_
      rintro _ _ _ _ _ _ _ ⟨rfl, rfl, rfl, rfl, rfl, rfl⟩
      refine ih (m + 1) (by omega) q1 (x1 + 1) (d + 1) _ _ _ _ _ _ _ _ zq_us zq_us (by omega) (by omega) (by omega) hz0 ?_
      intro x2 op1 tg1 fi1 se1 hz1 lt1 lq1 b1 ex1 f1 ag1 bb1 l1 z1
      have le1 := zc_le _ _ _ _ l1
      refine zo_rnd (p := 1) (Eff := fun op' tg' fi' se' hz' b => op1 = op' ∧ tg1 = tg' ∧ fi1 = fi' ∧ se1 = se' ∧ hz1 = hz' ∧ b1 = b) hT hm (by omega) (by omega)
        (by rw [(f1 d (by omega)).1, hu1 _ _ d (by omega)]; exact hlt) (by rw [(f1 d (by omega)).2, hu1 _ _ d (by omega), zq_us]) (by omega)
        (fun K dp lq h => zo_pl0 hok t2 t3 n68 n69 (by omega) (h _ _ _ _ _ _ ⟨rfl, rfl, rfl, rfl, rfl, rfl⟩)) (fun q => by omega) ?_
      rintro _ _ _ _ _ _ _ ⟨rfl, rfl, rfl, rfl, rfl, rfl⟩
      refine ih (e (m + 1)) (by omega) q4 (x2 + 1) (d + 1) _ _ _ _ _ _ _ _ zq_us zq_us (by omega) (by omega) (by omega) z1 ?_
      intro x3 op3 tg3 fi3 se3 hz3 lt3 lq3 b3 ex3 f3 ag3 bb3 l3 z3
      have le3 := zc_le _ _ _ _ l3
      refine zo_rnd (p := 2) (Eff := fun op' tg' fi' se' hz' b' => zo_ag b3 op3 tg3 fi3 se3 op' tg' fi' se' ∧ (((tk m = 0 ∨ tk m = 1) ∧ b' = b3) ∨ (¬ tk m = 0 ∧ ¬ tk m = 1 ∧ b' = b3 + 1 ∧ zc_ins op' tg' fi' se' b3 (zc_op (tk m)) (zc_tg (tk m) m) (zc_fi (tk m) (m + 1)) (zc_se (tk m) (e (m + 1))))) ∧ (∀ i, i < b' → hz' i = 0)) hT hm (by omega) (by omega)
        (by rw [(f3 d (by omega)).1, hu1 _ _ d (by omega), (f1 d (by omega)).1, hu1 _ _ d (by omega)]; exact hlt) (by rw [(f3 d (by omega)).2, hu1 _ _ d (by omega), zq_us]) (by omega)
        (fun K dp lq h => by have := last op3 tg3 fi3 se3 hz3 b3 K dp lt3 lq (by omega) z3 h; rw [hp] at this; exact this) ?_ (fun q => by omega)
      rintro _ op4 tg4 fi4 se4 hz4 b4 ⟨ag4, hh, z4⟩
      have A34 := zo_agt ag3 ag4 (show b1 ≤ b3 by omega)
      have A14 := zo_agt ag1 A34 (show _ ≤ b1 by omega)
      refine H _ _ _ _ _ _ _ _ _ (by omega) ?_ A14 (by rcases hh with h | h <;> omega) ?_ z4
      · intro j hj
        constructor
        · rw [(f3 j (by omega)).1, hu1 _ _ j (by omega), (f1 j (by omega)).1, hu1 _ _ j (by omega)]
        · rw [hu _ _ j hj, (f3 j (by omega)).2, hu1 _ _ j (by omega), hu _ _ j hj, (f1 j (by omega)).2, hu1 _ _ j (by omega), hu _ _ j hj]
      · rw [hf]
        unfold zc_lay
        rw [if_neg t0]
        rcases hh with ⟨t | t, eb⟩ | ⟨_, t1, eb, i4⟩
        · exact absurd t t0
        · rw [if_pos t, eb]
          exact ⟨b1, zo_lay A34 (by omega) (by omega) l1, zo_lay ag4 (by omega) (by omega) l3⟩
        · rw [if_neg t1, if_neg t2, if_neg t3, if_neg tsh, if_neg (by omega), if_neg (by omega)]
          exact ⟨b1, b3, zo_lay A34 (by omega) (by omega) l1, zo_lay ag4 (by omega) (by omega) l3, i4, eb⟩
end
end
section
/-! the lowered list is well formed -/
def zg_S (op tg fi se : ty_V) (m M a b : Nat) : Prop :=
  (∀ p, a ≤ p → p < b → zq_wi (op p) (tg p) (fi p) (se p) 0) ∧
  (∀ p, a ≤ p → p < b → zq_jp (op p) → ∃ q, a ≤ q ∧ q < b ∧ op q = 20 ∧ tg q = tg p) ∧
  (∀ p, a ≤ p → p < b → op p = 20 → ∃ l, l < 200 ∧ tg p = nI l ∧ m ≤ l / 2 ∧ l / 2 < M) ∧
  (∀ p q, a ≤ p → p < b → a ≤ q → q < b → op p = 20 → op q = 20 → tg p = tg q → p = q)
theorem zg_nl {n : Nat} (h : n < 96) : 0 ≤ nI n ∧ nI n < 96 := ⟨nI_pos' (by omega), nI_lt (b := 96) h (by decide)⟩
theorem zg_nt {n : Nat} (h : n < 180) : 0 ≤ nI n ∧ nI n < 180 := ⟨nI_pos' (by omega), nI_lt (b := 180) h (by decide)⟩
theorem zg_lt {x : Int32} (h : 0 ≤ x ∧ x < 96) : 0 ≤ x ∧ x < 180 := ⟨h.1, Int32.lt_trans h.2 (by decide)⟩
theorem zg_o21 : ∀ k, k < 121 → zs_pl (nI k) = true → 0 ≤ zc_op (nI k) ∧ zc_op (nI k) ≤ 21 := by decide +kernel
theorem zg_o20 : ∀ k, k < 121 → zs_pl (nI k) = true → ¬ zc_op (nI k) = 20 := by decide +kernel
section
variable {tk op tg fi se : ty_V} {c : Nat} {e : Nat → Nat}
theorem zg_plain {m : Nat} (hT : zt_tr tk c e 0) (hok : ∀ k, k < c → zt_ok (tk k)) (hc : c ≤ 90) (hm : m < c) (h0 : ¬ tk m = 0) (h1 : ¬ tk m = 1) (h2 : ¬ tk m = 2) (h3 : ¬ tk m = 3) (h68 : ¬ tk m = 68) (h69 : ¬ tk m = 69) :
    zq_wi (zc_op (tk m)) (zc_tg (tk m) m) (zc_fi (tk m) (m + 1)) (zc_se (tk m) (e (m + 1))) 0 ∧ ¬ zq_jp (zc_op (tk m)) ∧ ¬ zc_op (tk m) = 20 := by
  have ho := hok m hm
  have hT' := hT m (Nat.zero_le _) hm
  obtain ⟨k, hk, ek⟩ := zs_okn ho
  have hpl := zs_pli ho h2 h3 h68 h69 h0 h1
  have ha := zs_ta k hk (ek ▸ ho) (ek ▸ h2) (ek ▸ h3) (ek ▸ h68) (ek ▸ h69) (ek ▸ h0) (ek ▸ h1)
  have hop := zg_o21 k hk (ek ▸ hpl)
  have hop2 := zg_o20 k hk (ek ▸ hpl)
  rw [← ek] at ha hop hop2
  have htg : 0 ≤ zc_tg (tk m) m ∧ zc_tg (tk m) m < 96 := by
    unfold zc_tg
    by_cases p30 : 30 ≤ tk m
    · rw [if_pos p30]; exact zg_nl (by omega)
    · rw [if_neg p30]
      by_cases p16 : 16 ≤ tk m
      · rw [if_pos p16]
        have h21 : tk m ≤ 21 := by
          rcases ho with h | h | h | h | h
          · exact absurd (Int32.le_trans p16 h.2) (by decide)
          · exact h.2
          · exact absurd h.1 p30
          · exact absurd (Int32.le_trans (by decide) h.1) p30
          · exact absurd (Int32.le_trans (by decide) h.1) p30
        obtain ⟨j, hj, ej⟩ := zy_sv (a := 16) (k := 16) (by decide) (by omega) p16 h21 (by decide)
        rw [ej]; exact zg_nl (by omega)
      · rw [if_neg p16]
        by_cases p10 : 10 ≤ tk m
        · rw [if_pos p10]
          have h15 : tk m ≤ 15 := by
            by_cases q : tk m ≤ 15
            · exact q
            · have := (zx_pt6 k hk).1 (ek ▸ q)
              rw [← ek] at this; exact absurd this p16
          obtain ⟨j, hj, ej⟩ := zy_sv (a := 10) (k := 10) (by decide) (by omega) p10 h15 (by decide)
          rw [ej]; exact zg_nl (by omega)
        · rw [if_neg p10]; decide
  refine ⟨⟨hop, zg_lt htg, fun _ => htg.2, fun r1 => ?_, ?_, Or.inl rfl⟩, ha.1, hop2⟩
  · by_cases hp : zt_pt (tk m) = 0
    · rcases ha.2.1 hp with h | h | h
      · exfalso
        have : zc_op (tk m) = 1 := if_pos h
        rw [this] at r1; exact absurd r1 (by decide)
      · have n80 : ¬ 80 ≤ tk m := fun q => absurd (Int32.le_trans q h.2) (by decide)
        have n61 : ¬ 61 ≤ tk m := fun q => absurd (Int32.le_trans q h.2) (by decide)
        unfold zc_fi
        rw [if_neg n80, if_neg n61, if_pos h.1]
        obtain ⟨j, hj, ej⟩ := zy_sv (a := 30) (k := 30) (by decide) (by omega) h.1 h.2 (by decide)
        rw [ej]; exact zg_nl (by omega)
      · exfalso
        have n80 : ¬ 80 ≤ tk m := fun q => absurd (Int32.le_trans q h.2) (by decide)
        have n61 : ¬ 61 ≤ tk m := fun q => absurd (Int32.le_trans q h.2) (by decide)
        have n30 : ¬ 30 ≤ tk m := fun q => absurd (Int32.le_trans q h.2) (by decide)
        have nn : ∀ c : Int32, 21 < c → ¬ tk m = c := fun c hc q => absurd (q ▸ h.2) (Int32.not_le.mpr hc)
        have : zc_op (tk m) = 15 := by
          unfold zc_op
          rw [if_neg n80, if_neg (nn 70 (by decide)), if_neg (nn 71 (by decide)), if_neg (nn 72 (by decide)), if_neg n61, if_neg n30, if_pos h.1]
        rw [this] at r1; exact absurd r1 (by decide)
    · rw [zs_fic (ha.2.2 hp).2]
      have := (hT'.2.2.2 0 (by omega)).1
      have h5 : zt_ch e m 0 = m + 1 := rfl
      exact zg_nl (by omega)
  · unfold zc_se
    by_cases hp : zt_pt (tk m) = 2
    · rw [if_pos hp]
      have := (hT'.2.2.2 1 (by omega)).1
      have h5 : zt_ch e m 1 = e (m + 1) := rfl
      exact zg_nl (by omega)
    · rw [if_neg hp]; decide
theorem zg_seg (hT : zt_tr tk c e 0) (hok : ∀ k, k < c → zt_ok (tk k)) (hc : c ≤ 90) : ∀ f m a b, m < c → zc_lay tk e op tg fi se f m a b → zg_S op tg fi se m (e m) a b := by
  intro f
  induction f with
  | zero => intro m a b _ h; exact absurd h id
  | succ f ih =>
    intro m a b hm h
    obtain ⟨em1, em2, em3, em4⟩ := hT m (Nat.zero_le _) hm
    have c0 : 0 < zt_pt (tk m) → m + 1 < c := fun q => (em4 0 q).1
    have c1 : 1 < zt_pt (tk m) → e (m + 1) < c := fun q => (em4 1 q).1
    have c2 : 2 < zt_pt (tk m) → e (e (m + 1)) < c := fun q => (em4 2 q).1
    have w17 : ∀ x y : Nat, x < 180 → y < 96 → zq_wi 17 (nI x) (nI y) 0 0 := fun x y hx hy => ⟨by decide, zg_nt hx, fun q => absurd q (by decide), fun _ => zg_nl hy, by decide, Or.inl rfl⟩
    have w18 : ∀ x y : Nat, x < 180 → y < 96 → zq_wi 18 (nI x) (nI y) 0 0 := fun x y hx hy => ⟨by decide, zg_nt hx, fun q => absurd q (by decide), fun _ => zg_nl hy, by decide, Or.inl rfl⟩
    have w16 : ∀ x : Nat, x < 180 → zq_wi 16 (nI x) 0 0 0 := fun x hx => ⟨by decide, zg_nt hx, fun q => absurd q (by decide), fun q => absurd q (by decide), by decide, Or.inl rfl⟩
    have w20 : ∀ x : Nat, x < 180 → zq_wi 20 (nI x) 0 0 0 := fun x hx => ⟨by decide, zg_nt hx, fun q => absurd q (by decide), fun q => absurd q (by decide), by decide, Or.inl rfl⟩
    have w1 : ∀ (x : Nat) (v : Int32), x < 96 → zq_wi 1 (nI x) v 0 0 := fun x v hx => ⟨by decide, zg_nt (by omega), fun _ => (zg_nl hx).2, fun q => absurd q (by decide), by decide, Or.inl rfl⟩
    have inj : ∀ x y : Nat, x < 200 → y < 200 → nI x = nI y → x = y := fun x y hx hy q => (nI_eq (by omega) (by omega)).mp q
    unfold zc_lay at h
    split at h
    · subst h
      exact ⟨fun p h1 h2 => by omega, fun p h1 h2 => by omega, fun p h1 h2 => by omega, fun p q h1 h2 => by omega⟩
    rename_i t0
    split at h
    · rename_i t1
      obtain ⟨d, l1, l2⟩ := h
      have hp : zt_pt (tk m) = 2 := by rw [t1]; decide
      have e3 : e m = e (e (m + 1)) := by rw [em3, hp]; rfl
      obtain ⟨a1, a2, a3, a4⟩ := ih _ _ _ (c0 (by omega)) l1
      obtain ⟨b1, b2, b3, b4⟩ := ih _ _ _ (c1 (by omega)) l2
      have s1 := (hT _ (Nat.zero_le _) (c0 (by omega))).1
      have s2 := (hT _ (Nat.zero_le _) (c1 (by omega))).1
      have g1 := zc_le _ _ _ _ l1
      have g2 := zc_le _ _ _ _ l2
      have lb : ∀ p, a ≤ p → p < b → op p = 20 → ∃ l, l < 200 ∧ tg p = nI l ∧ ((p < d ∧ m + 1 ≤ l / 2 ∧ l / 2 < e (m + 1)) ∨ (d ≤ p ∧ e (m + 1) ≤ l / 2 ∧ l / 2 < e (e (m + 1)))) := by
        intro p h1 h2 h20
        by_cases q : p < d
        · obtain ⟨l, x1, x2, x3, x4⟩ := a3 p h1 q h20
          exact ⟨l, x1, x2, Or.inl ⟨q, x3, x4⟩⟩
        · obtain ⟨l, x1, x2, x3, x4⟩ := b3 p (by omega) h2 h20
          exact ⟨l, x1, x2, Or.inr ⟨by omega, x3, x4⟩⟩
      refine ⟨?_, ?_, ?_, ?_⟩
      · intro p h1 h2
        by_cases q : p < d
        · exact a1 p h1 q
        · exact b1 p (by omega) h2
      · intro p h1 h2 hj
        by_cases q : p < d
        · obtain ⟨r, r1, r2, r3⟩ := a2 p h1 q hj; exact ⟨r, r1, by omega, r3⟩
        · obtain ⟨r, r1, r2, r3⟩ := b2 p (by omega) h2 hj; exact ⟨r, by omega, r2, r3⟩
      · intro p h1 h2 h20
        obtain ⟨l, x1, x2, x3⟩ := lb p h1 h2 h20
        exact ⟨l, x1, x2, by omega, by omega⟩
      · intro p q h1 h2 h3 h4 h5 h6 h7
        obtain ⟨l, x1, x2, x3⟩ := lb p h1 h2 h5
        obtain ⟨l', y1, y2, y3⟩ := lb q h3 h4 h6
        obtain rfl := inj l l' x1 y1 (by rw [← x2, ← y2]; exact h7)
        rcases x3 with x3 | x3 <;> rcases y3 with y3 | y3
        · exact a4 p q h1 x3.1 h3 y3.1 h5 h6 h7
        · omega
        · omega
        · exact b4 p q x3.1 h2 y3.1 h4 h5 h6 h7
    rename_i t1
    split at h
    · rename_i t2
      obtain ⟨d, d2, k, l1, i1, l2, i2, i3, l3, i4, rfl⟩ := h
      have hp : zt_pt (tk m) = 3 := by rw [t2]; decide
      have e3 : e m = e (e (e (m + 1))) := by rw [em3, hp]; rfl
      have k0 := c0 (by omega)
      obtain ⟨a1, a2, a3, a4⟩ := ih _ _ _ (c0 (by omega)) l1
      obtain ⟨b1, b2, b3, b4⟩ := ih _ _ _ (c1 (by omega)) l2
      obtain ⟨d1, d3, d4, d5⟩ := ih _ _ _ (c2 (by omega)) l3
      have s1 := (hT _ (Nat.zero_le _) (c0 (by omega))).1
      have s2 := (hT _ (Nat.zero_le _) (c1 (by omega))).1
      have s3 := (hT _ (Nat.zero_le _) (c2 (by omega))).1
      have g1 := zc_le _ _ _ _ l1
      have g2 := zc_le _ _ _ _ l2
      have g3 := zc_le _ _ _ _ l3
      have cov : ∀ p, a ≤ p → p < k + 1 → p < d ∨ p = d ∨ (d + 1 ≤ p ∧ p < d2) ∨ p = d2 ∨ p = d2 + 1 ∨ (d2 + 2 ≤ p ∧ p < k) ∨ p = k := by intro p h1 h2; omega
      have lb : ∀ p, a ≤ p → p < k + 1 → op p = 20 → ∃ l, l < 200 ∧ tg p = nI l ∧ ((p < d ∧ m + 1 ≤ l / 2 ∧ l / 2 < e (m + 1)) ∨ ((d + 1 ≤ p ∧ p < d2) ∧ e (m + 1) ≤ l / 2 ∧ l / 2 < e (e (m + 1))) ∨
          ((d2 + 2 ≤ p ∧ p < k) ∧ e (e (m + 1)) ≤ l / 2 ∧ l / 2 < e (e (e (m + 1)))) ∨ (p = d2 + 1 ∧ l = 2 * m) ∨ (p = k ∧ l = 2 * m + 1)) := by
        intro p h1 h2 h20
        rcases cov p h1 h2 with q | q | q | q | q | q | q
        · obtain ⟨l, x1, x2, x3, x4⟩ := a3 p h1 q h20
          exact ⟨l, x1, x2, Or.inl ⟨q, x3, x4⟩⟩
        · rw [q, i1.1] at h20; exact absurd h20 (by decide)
        · obtain ⟨l, x1, x2, x3, x4⟩ := b3 p q.1 q.2 h20
          exact ⟨l, x1, x2, Or.inr (Or.inl ⟨q, x3, x4⟩)⟩
        · rw [q, i2.1] at h20; exact absurd h20 (by decide)
        · exact ⟨2 * m, by omega, by rw [q]; exact i3.2.1, by omega⟩
        · obtain ⟨l, x1, x2, x3, x4⟩ := d4 p q.1 q.2 h20
          exact ⟨l, x1, x2, Or.inr (Or.inr (Or.inl ⟨q, x3, x4⟩))⟩
        · exact ⟨2 * m + 1, by omega, by rw [q]; exact i4.2.1, by omega⟩
      refine ⟨?_, ?_, ?_, ?_⟩
      · intro p h1 h2
        rcases cov p h1 h2 with q | q | q | q | q | q | q
        · exact a1 p h1 q
        · rw [q, i1.1, i1.2.1, i1.2.2.1, i1.2.2.2]; exact w17 _ _ (by omega) (by omega)
        · exact b1 p q.1 q.2
        · rw [q, i2.1, i2.2.1, i2.2.2.1, i2.2.2.2]; exact w16 _ (by omega)
        · rw [q, i3.1, i3.2.1, i3.2.2.1, i3.2.2.2]; exact w20 _ (by omega)
        · exact d1 p q.1 q.2
        · rw [q, i4.1, i4.2.1, i4.2.2.1, i4.2.2.2]; exact w20 _ (by omega)
      · intro p h1 h2 hj
        rcases cov p h1 h2 with q | q | q | q | q | q | q
        · obtain ⟨r, r1, r2, r3⟩ := a2 p h1 q hj; exact ⟨r, r1, by omega, r3⟩
        · exact ⟨d2 + 1, by omega, by omega, i3.1, by rw [q, i1.2.1]; exact i3.2.1⟩
        · obtain ⟨r, r1, r2, r3⟩ := b2 p q.1 q.2 hj; exact ⟨r, by omega, by omega, r3⟩
        · exact ⟨k, by omega, by omega, i4.1, by rw [q, i2.2.1]; exact i4.2.1⟩
        · rw [q, i3.1] at hj; exact absurd hj (by decide)
        · obtain ⟨r, r1, r2, r3⟩ := d3 p q.1 q.2 hj; exact ⟨r, by omega, by omega, r3⟩
        · rw [q, i4.1] at hj; exact absurd hj (by decide)
      · intro p h1 h2 h20
        obtain ⟨l, x1, x2, x3⟩ := lb p h1 h2 h20
        exact ⟨l, x1, x2, by omega, by omega⟩
      · intro p q h1 h2 h3 h4 h5 h6 h7
        obtain ⟨l, x1, x2, x3⟩ := lb p h1 h2 h5
        obtain ⟨l', y1, y2, y3⟩ := lb q h3 h4 h6
        obtain rfl := inj l l' x1 y1 (by rw [← x2, ← y2]; exact h7)
        rcases x3 with x3 | x3 | x3 | x3
        · have : q < d := by omega
          exact a4 p q h1 x3.1 h3 this h5 h6 h7
        · have : d + 1 ≤ q ∧ q < d2 := by omega
          exact b4 p q x3.1.1 x3.1.2 this.1 this.2 h5 h6 h7
        · have : d2 + 2 ≤ q ∧ q < k := by omega
          exact d5 p q x3.1.1 x3.1.2 this.1 this.2 h5 h6 h7
        · omega
    rename_i t2
    split at h
    · rename_i t3
      obtain ⟨d, d2, i0, l1, i1, i2, l2, i3, i4, rfl⟩ := h
      have hp : zt_pt (tk m) = 2 := by rw [t3]; decide
      have e3 : e m = e (e (m + 1)) := by rw [em3, hp]; rfl
      have k0 := c0 (by omega)
      obtain ⟨a1, a2, a3, a4⟩ := ih _ _ _ (c0 (by omega)) l1
      obtain ⟨b1, b2, b3, b4⟩ := ih _ _ _ (c1 (by omega)) l2
      have s1 := (hT _ (Nat.zero_le _) (c0 (by omega))).1
      have s2 := (hT _ (Nat.zero_le _) (c1 (by omega))).1
      have g1 := zc_le _ _ _ _ l1
      have g2 := zc_le _ _ _ _ l2
      have cov : ∀ p, a ≤ p → p < d2 + 2 → p = a ∨ (a + 1 ≤ p ∧ p < d) ∨ p = d ∨ p = d + 1 ∨ (d + 2 ≤ p ∧ p < d2) ∨ p = d2 ∨ p = d2 + 1 := by intro p h1 h2; omega
      have lb : ∀ p, a ≤ p → p < d2 + 2 → op p = 20 → ∃ l, l < 200 ∧ tg p = nI l ∧ (((a + 1 ≤ p ∧ p < d) ∧ m + 1 ≤ l / 2 ∧ l / 2 < e (m + 1)) ∨ ((d + 2 ≤ p ∧ p < d2) ∧ e (m + 1) ≤ l / 2 ∧ l / 2 < e (e (m + 1))) ∨
          (p = a ∧ l = 2 * m) ∨ (p = d2 + 1 ∧ l = 2 * m + 1)) := by
        intro p h1 h2 h20
        rcases cov p h1 h2 with q | q | q | q | q | q | q
        · exact ⟨2 * m, by omega, by rw [q]; exact i0.2.1, by omega⟩
        · obtain ⟨l, x1, x2, x3, x4⟩ := a3 p q.1 q.2 h20
          exact ⟨l, x1, x2, Or.inl ⟨q, x3, x4⟩⟩
        · rw [q, i1.1] at h20; exact absurd h20 (by decide)
        · rw [q, i2.1] at h20; exact absurd h20 (by decide)
        · obtain ⟨l, x1, x2, x3, x4⟩ := b3 p q.1 q.2 h20
          exact ⟨l, x1, x2, Or.inr (Or.inl ⟨q, x3, x4⟩)⟩
        · rw [q, i3.1] at h20; exact absurd h20 (by decide)
        · exact ⟨2 * m + 1, by omega, by rw [q]; exact i4.2.1, by omega⟩
      refine ⟨?_, ?_, ?_, ?_⟩
      · intro p h1 h2
        rcases cov p h1 h2 with q | q | q | q | q | q | q
        · rw [q, i0.1, i0.2.1, i0.2.2.1, i0.2.2.2]; exact w20 _ (by omega)
        · exact a1 p q.1 q.2
        · rw [q, i1.1, i1.2.1, i1.2.2.1, i1.2.2.2]; exact w17 _ _ (by omega) (by omega)
        · rw [q, i2.1, i2.2.1, i2.2.2.1, i2.2.2.2]; decide
        · exact b1 p q.1 q.2
        · rw [q, i3.1, i3.2.1, i3.2.2.1, i3.2.2.2]; exact w16 _ (by omega)
        · rw [q, i4.1, i4.2.1, i4.2.2.1, i4.2.2.2]; exact w20 _ (by omega)
      · intro p h1 h2 hj
        rcases cov p h1 h2 with q | q | q | q | q | q | q
        · rw [q, i0.1] at hj; exact absurd hj (by decide)
        · obtain ⟨r, r1, r2, r3⟩ := a2 p q.1 q.2 hj; exact ⟨r, by omega, by omega, r3⟩
        · exact ⟨d2 + 1, by omega, by omega, i4.1, by rw [q, i1.2.1]; exact i4.2.1⟩
        · rw [q, i2.1] at hj; exact absurd hj (by decide)
        · obtain ⟨r, r1, r2, r3⟩ := b2 p q.1 q.2 hj; exact ⟨r, by omega, by omega, r3⟩
        · exact ⟨a, by omega, by omega, i0.1, by rw [q, i3.2.1]; exact i0.2.1⟩
        · rw [q, i4.1] at hj; exact absurd hj (by decide)
      · intro p h1 h2 h20
        obtain ⟨l, x1, x2, x3⟩ := lb p h1 h2 h20
        exact ⟨l, x1, x2, by omega, by omega⟩
      · intro p q h1 h2 h3 h4 h5 h6 h7
        obtain ⟨l, x1, x2, x3⟩ := lb p h1 h2 h5
        obtain ⟨l', y1, y2, y3⟩ := lb q h3 h4 h6
        obtain rfl := inj l l' x1 y1 (by rw [← x2, ← y2]; exact h7)
        rcases x3 with x3 | x3 | x3
        · have : a + 1 ≤ q ∧ q < d := by omega
          exact a4 p q x3.1.1 x3.1.2 this.1 this.2 h5 h6 h7
        · have : d + 2 ≤ q ∧ q < d2 := by omega
          exact b4 p q x3.1.1 x3.1.2 this.1 this.2 h5 h6 h7
        · omega
    rename_i t3
    split at h
    · rename_i tsh
      obtain ⟨d, d2, l1, i1, i2, l2, i3, i4, i5, rfl⟩ := h
      have hp : zt_pt (tk m) = 2 := by rcases tsh with t | t <;> rw [t] <;> decide
      have e3 : e m = e (e (m + 1)) := by rw [em3, hp]; rfl
      have k0 := c0 (by omega)
      have k1 := c1 (by omega)
      have hjo : zc_jo (tk m) = 17 ∨ zc_jo (tk m) = 18 := by rcases tsh with t | t <;> rw [t] <;> decide
      have njo : ¬ zc_jo (tk m) = 20 := by rcases hjo with t | t <;> rw [t] <;> decide
      have wj : ∀ x y : Nat, x < 180 → y < 96 → zq_wi (zc_jo (tk m)) (nI x) (nI y) 0 0 := by
        intro x y hx hy
        rcases hjo with t | t
        · rw [t]; exact w17 x y hx hy
        · rw [t]; exact w18 x y hx hy
      obtain ⟨a1, a2, a3, a4⟩ := ih _ _ _ (c0 (by omega)) l1
      obtain ⟨b1, b2, b3, b4⟩ := ih _ _ _ (c1 (by omega)) l2
      have s1 := (hT _ (Nat.zero_le _) (c0 (by omega))).1
      have s2 := (hT _ (Nat.zero_le _) (c1 (by omega))).1
      have g1 := zc_le _ _ _ _ l1
      have g2 := zc_le _ _ _ _ l2
      have cov : ∀ p, a ≤ p → p < d2 + 3 → p < d ∨ p = d ∨ p = d + 1 ∨ (d + 2 ≤ p ∧ p < d2) ∨ p = d2 ∨ p = d2 + 1 ∨ p = d2 + 2 := by intro p h1 h2; omega
      have lb : ∀ p, a ≤ p → p < d2 + 3 → op p = 20 → ∃ l, l < 200 ∧ tg p = nI l ∧ ((p < d ∧ m + 1 ≤ l / 2 ∧ l / 2 < e (m + 1)) ∨ ((d + 2 ≤ p ∧ p < d2) ∧ e (m + 1) ≤ l / 2 ∧ l / 2 < e (e (m + 1))) ∨
          (p = d2 + 2 ∧ l = 2 * m)) := by
        intro p h1 h2 h20
        rcases cov p h1 h2 with q | q | q | q | q | q | q
        · obtain ⟨l, x1, x2, x3, x4⟩ := a3 p h1 q h20
          exact ⟨l, x1, x2, Or.inl ⟨q, x3, x4⟩⟩
        · rw [q, i1.1] at h20; exact absurd h20 (by decide)
        · rw [q, i2.1] at h20; exact absurd h20 njo
        · obtain ⟨l, x1, x2, x3, x4⟩ := b3 p q.1 q.2 h20
          exact ⟨l, x1, x2, Or.inr (Or.inl ⟨q, x3, x4⟩)⟩
        · rw [q, i3.1] at h20; exact absurd h20 njo
        · rw [q, i4.1] at h20; exact absurd h20 (by decide)
        · exact ⟨2 * m, by omega, by rw [q]; exact i5.2.1, by omega⟩
      refine ⟨?_, ?_, ?_, ?_⟩
      · intro p h1 h2
        rcases cov p h1 h2 with q | q | q | q | q | q | q
        · exact a1 p h1 q
        · rw [q, i1.1, i1.2.1, i1.2.2.1, i1.2.2.2]; exact w1 _ _ (by omega)
        · rw [q, i2.1, i2.2.1, i2.2.2.1, i2.2.2.2]; exact wj _ _ (by omega) (by omega)
        · exact b1 p q.1 q.2
        · rw [q, i3.1, i3.2.1, i3.2.2.1, i3.2.2.2]; exact wj _ _ (by omega) (by omega)
        · rw [q, i4.1, i4.2.1, i4.2.2.1, i4.2.2.2]; exact w1 _ _ (by omega)
        · rw [q, i5.1, i5.2.1, i5.2.2.1, i5.2.2.2]; exact w20 _ (by omega)
      · intro p h1 h2 hj
        rcases cov p h1 h2 with q | q | q | q | q | q | q
        · obtain ⟨r, r1, r2, r3⟩ := a2 p h1 q hj; exact ⟨r, by omega, by omega, r3⟩
        · rw [q, i1.1] at hj; exact absurd hj (by decide)
        · exact ⟨d2 + 2, by omega, by omega, i5.1, by rw [q, i2.2.1]; exact i5.2.1⟩
        · obtain ⟨r, r1, r2, r3⟩ := b2 p q.1 q.2 hj; exact ⟨r, by omega, by omega, r3⟩
        · exact ⟨d2 + 2, by omega, by omega, i5.1, by rw [q, i3.2.1]; exact i5.2.1⟩
        · rw [q, i4.1] at hj; exact absurd hj (by decide)
        · rw [q, i5.1] at hj; exact absurd hj (by decide)
      · intro p h1 h2 h20
        obtain ⟨l, x1, x2, x3⟩ := lb p h1 h2 h20
        exact ⟨l, x1, x2, by omega, by omega⟩
      · intro p q h1 h2 h3 h4 h5 h6 h7
        obtain ⟨l, x1, x2, x3⟩ := lb p h1 h2 h5
        obtain ⟨l', y1, y2, y3⟩ := lb q h3 h4 h6
        obtain rfl := inj l l' x1 y1 (by rw [← x2, ← y2]; exact h7)
        rcases x3 with x3 | x3 | x3
        · have : q < d := by omega
          exact a4 p q h1 x3.1 h3 this h5 h6 h7
        · have : d + 2 ≤ q ∧ q < d2 := by omega
          exact b4 p q x3.1.1 x3.1.2 this.1 this.2 h5 h6 h7
        · omega
    rename_i tsh
    obtain ⟨pw, pj, p20⟩ := zg_plain hT hok hc hm t0 t1 t2 t3 (fun q => tsh (Or.inl q)) (fun q => tsh (Or.inr q))
    split at h
    · rename_i hp
      obtain ⟨i1, rfl⟩ := h
      refine ⟨?_, ?_, ?_, ?_⟩
      · intro p h1 h2
        obtain rfl : p = a := by omega
        rw [i1.1, i1.2.1, i1.2.2.1, i1.2.2.2]; exact pw
      · intro p h1 h2 hj
        obtain rfl : p = a := by omega
        rw [i1.1] at hj; exact absurd hj pj
      · intro p h1 h2 h20
        obtain rfl : p = a := by omega
        rw [i1.1] at h20; exact absurd h20 p20
      · intro p q h1 h2 h3 h4 _ _ _; omega
    rename_i hp0
    split at h
    · rename_i hp
      obtain ⟨d, l1, i1, rfl⟩ := h
      have e3 : e m = e (m + 1) := by rw [em3, hp]; rfl
      have k0 := c0 (by omega)
      obtain ⟨a1, a2, a3, a4⟩ := ih _ _ _ (c0 (by omega)) l1
      have cov : ∀ p, a ≤ p → p < d + 1 → p < d ∨ p = d := by intro p h1 h2; omega
      refine ⟨?_, ?_, ?_, ?_⟩
      · intro p h1 h2
        rcases cov p h1 h2 with q | q
        · exact a1 p h1 q
        · rw [q, i1.1, i1.2.1, i1.2.2.1, i1.2.2.2]; exact pw
      · intro p h1 h2 hj
        rcases cov p h1 h2 with q | q
        · obtain ⟨r, r1, r2, r3⟩ := a2 p h1 q hj; exact ⟨r, by omega, by omega, r3⟩
        · rw [q, i1.1] at hj; exact absurd hj pj
      · intro p h1 h2 h20
        rcases cov p h1 h2 with q | q
        · obtain ⟨l, x1, x2, x3, x4⟩ := a3 p h1 q h20
          exact ⟨l, x1, x2, by omega, by omega⟩
        · rw [q, i1.1] at h20; exact absurd h20 p20
      · intro p q h1 h2 h3 h4 h5 h6 h7
        rcases cov p h1 h2 with x | x
        · rcases cov q h3 h4 with y | y
          · exact a4 p q h1 x h3 y h5 h6 h7
          · rw [y, i1.1] at h6; exact absurd h6 p20
        · rw [x, i1.1] at h5; exact absurd h5 p20
    · rename_i hp1
      obtain ⟨d, d2, l1, l2, i1, rfl⟩ := h
      have hp : zt_pt (tk m) = 2 := by
        have ho := hok m hm
        obtain ⟨k, hk, ek⟩ := zs_okn ho
        have htb := zs_tb k hk (ek ▸ ho) (ek ▸ t2) (ek ▸ t3) (ek ▸ fun q => tsh (Or.inl q)) (ek ▸ fun q => tsh (Or.inr q)) (ek ▸ t0) (ek ▸ t1)
        rw [← ek] at htb
        have := htb.1
        omega
      have e3 : e m = e (e (m + 1)) := by rw [em3, hp]; rfl
      have k0 := c0 (by omega)
      have k1 := c1 (by omega)
      obtain ⟨a1, a2, a3, a4⟩ := ih _ _ _ (c0 (by omega)) l1
      obtain ⟨b1, b2, b3, b4⟩ := ih _ _ _ (c1 (by omega)) l2
      have s1 := (hT _ (Nat.zero_le _) (c0 (by omega))).1
      have s2 := (hT _ (Nat.zero_le _) (c1 (by omega))).1
      have g1 := zc_le _ _ _ _ l1
      have g2 := zc_le _ _ _ _ l2
      have cov : ∀ p, a ≤ p → p < d2 + 1 → p < d ∨ (d ≤ p ∧ p < d2) ∨ p = d2 := by intro p h1 h2; omega
      have lb : ∀ p, a ≤ p → p < d2 + 1 → op p = 20 → ∃ l, l < 200 ∧ tg p = nI l ∧ ((p < d ∧ m + 1 ≤ l / 2 ∧ l / 2 < e (m + 1)) ∨ ((d ≤ p ∧ p < d2) ∧ e (m + 1) ≤ l / 2 ∧ l / 2 < e (e (m + 1)))) := by
        intro p h1 h2 h20
        rcases cov p h1 h2 with q | q | q
        · obtain ⟨l, x1, x2, x3, x4⟩ := a3 p h1 q h20
          exact ⟨l, x1, x2, Or.inl ⟨q, x3, x4⟩⟩
        · obtain ⟨l, x1, x2, x3, x4⟩ := b3 p q.1 q.2 h20
          exact ⟨l, x1, x2, Or.inr ⟨q, x3, x4⟩⟩
        · rw [q, i1.1] at h20; exact absurd h20 p20
      refine ⟨?_, ?_, ?_, ?_⟩
      · intro p h1 h2
        rcases cov p h1 h2 with q | q | q
        · exact a1 p h1 q
        · exact b1 p q.1 q.2
        · rw [q, i1.1, i1.2.1, i1.2.2.1, i1.2.2.2]; exact pw
      · intro p h1 h2 hj
        rcases cov p h1 h2 with q | q | q
        · obtain ⟨r, r1, r2, r3⟩ := a2 p h1 q hj; exact ⟨r, by omega, by omega, r3⟩
        · obtain ⟨r, r1, r2, r3⟩ := b2 p q.1 q.2 hj; exact ⟨r, by omega, by omega, r3⟩
        · rw [q, i1.1] at hj; exact absurd hj pj
      · intro p h1 h2 h20
        obtain ⟨l, x1, x2, x3⟩ := lb p h1 h2 h20
        exact ⟨l, x1, x2, by omega, by omega⟩
      · intro p q h1 h2 h3 h4 h5 h6 h7
        obtain ⟨l, x1, x2, x3⟩ := lb p h1 h2 h5
        obtain ⟨l', y1, y2, y3⟩ := lb q h3 h4 h6
        obtain rfl := inj l l' x1 y1 (by rw [← x2, ← y2]; exact h7)
        rcases x3 with x3 | x3
        · have : q < d := by omega
          exact a4 p q h1 x3.1 h3 this h5 h6 h7
        · have : d ≤ q ∧ q < d2 := by omega
          exact b4 p q x3.1.1 x3.1.2 this.1 this.2 h5 h6 h7
end
end
section
/-! the whole lowering, and the outcome of the tree -/
section
variable {ct ms gv sz dp ch cv bs rc mz ls tc rd pc ps : Int32} {tk wa sp ip op tg fi se hz lt lq ik kv sa ve vf vs vt vc la lu bg en ro hq mo mt mf mq pv ce fn va rg : Nat → Int32} {ll lh : Nat → Int64}
variable {post : SX → Prop} {c : Nat} {e : Nat → Nat}
theorem zx_lower (hT : zt_tr tk c e 0) (hok : ∀ k, k < c → zt_ok (tk k)) (hc : c ≤ 90) (h0 : 0 < c) (he : e 0 = c)
    (H : ∀ dp' sp' lt' lq' op' tg' fi' se' hz' b, b ≤ 450 → zc_lay tk e op' tg' fi' se' c 0 0 b → zc_ins op' tg' fi' se' b 21 0 0 0 → (∀ i, i < b + 1 → hz' i = 0) → post (nI c, ms, gv, nI (b + 1), dp', ch, cv, bs, rc, mz, ls, tc, rd, pc, ps, tk, wa, sp', ip, op', tg', fi', se', hz', lt', lq', ik, kv, sa, ve, vf, vs, vt, vc, ll, lh, la, lu, bg, en, ro, hq, mo, mt, mf, mq, pv, ce, fn, va, rg)) :
    wpX_lower post (nI c, ms, gv, sz, dp, ch, cv, bs, rc, mz, ls, tc, rd, pc, ps, tk, wa, sp, ip, op, tg, fi, se, hz, lt, lq, ik, kv, sa, ve, vf, vs, vt, vc, ll, lh, la, lu, bg, en, ro, hq, mo, mt, mf, mq, pv, ce, fn, va, rg) := by
  unfold wpX_lower
  refine zo_measure hT hok hc (fun sp' hs => ?_)
  refine zo_enter (d := 0) (k := 0) (by decide) (by decide) ⟨400, ?_⟩
  have hT' : zo_T tk sp' c e := ⟨hT, hok, hc, hs⟩
  refine zo_node hT' c 0 (by omega) h0 0 0 0 _ _ _ _ _ _ _ zq_us zq_us (by omega) (by omega) (by omega) (fun i hi => by omega) ?_
  intro x' op' tg' fi' se' hz' lt' lq' b hx _ _ hb hl z
  rw [show 400 - x' = (400 - (x' + 1)) + 1 by omega]
  refine br_f (nI_ge (b := 360) (by omega) (by decide)) (br_t (by decide) ?_)
  unfold wX_lower_143
  rw [he, Nat.sub_zero] at hl hb
  refine zo_em1 (by omega) (by decide) (by decide) (by decide) z (fun op2 tg2 fi2 se2 hz2 ag i z2 => ?_)
  exact H _ _ _ _ _ _ _ _ _ b (by omega) (zo_lay ag (Nat.le_refl _) (Nat.le_refl _) hl) i z2
end
section
variable {tk op tg fi se hz : ty_V} {c g b : Nat} {e : Nat → Nat} {I : ty_V}
theorem zp_wf (hT : zt_tr tk c e 0) (hok : ∀ k, k < c → zt_ok (tk k)) (hc : c ≤ 90) (h0 : 0 < c) (hb : b ≤ 450) (hl : zc_lay tk e op tg fi se c 0 0 b) (hi : zc_ins op tg fi se b 21 0 0 0) (hz0 : ∀ i, i < b + 1 → hz i = 0) :
    zq_wf (b + 1) op tg fi se hz := by
  obtain ⟨a1, a2, a3, a4⟩ := zg_seg hT hok hc c 0 0 b h0 hl
  have n20 : ¬ op b = 20 := by rw [hi.1]; decide
  refine ⟨by omega, ?_, ?_, ?_⟩
  · intro p hp
    rw [hz0 p hp]
    by_cases q : p = b
    · rw [q, hi.1, hi.2.1, hi.2.2.1, hi.2.2.2]; decide
    · exact a1 p (Nat.zero_le _) (by omega)
  · intro p hp hj
    by_cases q : p = b
    · rw [q, hi.1] at hj; exact absurd hj (by decide)
    · obtain ⟨r, _, r2, r3⟩ := a2 p (Nat.zero_le _) (by omega) hj
      exact ⟨r, by omega, r3⟩
  · intro p q hp hq h1 h2 h3
    have e1 : p ≠ b := fun q => n20 (q ▸ h1)
    have e2 : q ≠ b := fun q => n20 (q ▸ h2)
    exact a4 p q (Nat.zero_le _) (by omega) (Nat.zero_le _) (by omega) h1 h2 h3
theorem zp_fin {post : Int32 → SY → Prop} {yop : Int32} {ymi er va vr : ty_V} {ct dp : Nat} {st : Int32} {D : ty_D} (hs : ¬ st = 0)
    (h : post st (nI c, nI g, yop, nI ct, nI dp, st, nI D.2.1, nI D.2.2.1, nI D.2.2.2.1, tk, I, ymi, er, va, D.2.2.2.2, vr, D.1)) : zy_R post c g yop tk I ymi er ct va dp st D vr := by
  refine ⟨1, br_c (fun _ => ?_) (fun _ => br_f hs ?_)⟩
  · unfold wY_run_92
    exact br_f hs h
  · unfold wY_run_92
    exact br_f hs h
theorem zp_done {post : Int32 → SY → Prop} {yop : Int32} {ymi er va vr : ty_V} {dp : Nat} {D : ty_D}
    (h : post 1 (nI c, nI g, yop, nI 0, nI dp, 1, nI D.2.1, nI D.2.2.1, nI D.2.2.2.1, tk, I, ymi, er, va, D.2.2.2.2, vr, D.1)) : zy_R post c g yop tk I ymi er 0 va dp 0 D vr := by
  refine ⟨1, br_t (by decide) ?_⟩
  unfold wY_run_92
  exact br_t rfl h
/-- one result for both -/
theorem zp_top (H : zy_H tk c e g) (h0 : 0 < c) (he : e 0 = c) (hk : zt_kd (tk 0) = 0) (hl : zc_lay tk e op tg fi se c 0 0 b) (hi : zc_ins op tg fi se b 21 0 0 0)
    {D0 : ty_D} {vr0 : ty_V} (hv : ∀ v, v < 6 → vr0 v = 0) (hD : D0.2.1 = 0 ∧ D0.2.2.1 = 0 ∧ D0.2.2.2.1 = 0) :
    ∃ (R : ty_R) (vr : ty_V), ¬ R.1 = 0 ∧ (∀ v, v < 6 → R.2.1 v = vr v) ∧ zs_ok g R.2.2 ∧ zs_X g I (b + 1) op tg fi se R 99 0 (fun _ => 0) D0 ∧
      ∀ (post : Int32 → SY → Prop) (yop : Int32) (ymi er va : ty_V), er 0 = 0 →
        (∀ er' va' ct' dp', post R.1 (nI c, nI g, yop, nI ct', nI dp', R.1, nI R.2.2.2.1, nI R.2.2.2.2.1, nI R.2.2.2.2.2.1, tk, I, ymi, er', va', R.2.2.2.2.2.2, vr, R.2.2.1)) →
        zy_R post c g yop tk I ymi er 1 va 0 0 D0 vr0 := by
  have hc := H.2.2.1
  have hkn : ¬ zt_kd (tk 0) = 1 := by rw [hk]; decide
  have hok : zs_ok g D0 := ⟨by omega, by omega, by omega⟩
  rcases zs_sim (I := I) (n := b + 1) (op := op) (tg := tg) (fi := fi) (se := se) H ((100 - D0.2.1) * 100 + (e 0 - 0) + 1) c 0 0 b (fun _ => 0) D0 vr0 (by omega) h0 (by omega) hl (fun v hv' => (hv v hv').symm) hok with
    ⟨V1, D1, vr1, r, ⟨g1, g2, g3, _, _⟩, gX, gY⟩ | ⟨st, V1, D1, vr1, ⟨g1, g2, g3, g4⟩, gX, gY⟩
  · refine ⟨(1, V1, D1), vr1, (by decide : ¬ (1 : Int32) = 0), g3, g1, ?_, ?_⟩
    · have h1 : zs_X g I (b + 1) op tg fi se (1, V1, D1) 0 b V1 D1 := by
        refine zs_end (by omega) hi (by decide) (by simp [zq_end]) ?_
        have : ∀ x y, zq_end g 21 x y D1 = 1 := by intro x y; simp [zq_end]
        rw [this]
        exact ⟨rfl, fun v _ => rfl, rfl⟩
      have h2 := g1.1
      exact zs_mn (gX _ 0 h1) (by omega)
    · intro post yop ymi er va her hp
      refine gY post yop ymi er 0 va 0 (by omega) (by omega) her ?_
      intro er' va' _ _ _
      rw [if_neg hkn]
      exact zp_done (hp er' va' 0 0)
  · refine ⟨(st, V1, D1), vr1, g1, g4, g2, ?_, ?_⟩
    · have h2 := g2.1
      exact zs_mn (gX _ ⟨rfl, fun v _ => rfl, rfl⟩) (by omega)
    · intro post yop ymi er va her hp
      refine gY post yop ymi er 0 va 0 (by omega) (by omega) her ?_
      intro er' ct' va' dp'
      exact zp_fin g1 (hp er' va' ct' dp')
theorem zp_gd {R : ty_R} {D0 : ty_D} (hwf : zq_wf (b + 1) op tg fi se hz) (hz0 : ∀ i, i < b + 1 → hz i = 0) (h : zs_X g I (b + 1) op tg fi se R 99 0 (fun _ => 0) D0) : zq_gd g I R D0 (b + 1) op tg fi se hz := by
  obtain ⟨m, h⟩ := h
  exact ⟨hwf, m, zq_mono (fun p V D hp _ hn => absurd (hz0 p hp) hn) m 99 0 _ D0 m 99 (Nat.le_refl _) (Nat.le_refl _) h⟩
end
end
section
/-! running the list -/
section
variable {ct ms gv sz dp ch cv bs rc mz ls tc rd pc ps : Int32} {tk wa sp ip op tg fi se hz lt lq ik kv sa ve vf vs vt vc la lu bg en ro hq mo mt mf mq pv ce fn va rg : Nat → Int32} {ll lh : Nat → Int64}
variable {g n : Nat} {I : ty_V} {D : ty_D} {o x y : Int32}
theorem zr_ends {P : Int32 → SX → Prop} (hg : g ≤ 10) (hD : zs_ok g D)
    (h0 : zq_end g o x y D = 0 → P 0 (ct, ms, nI g, sz, dp, ch, cv, bs, rc, mz, 0, nI D.2.1, nI D.2.2.1, nI D.2.2.2.1, ps, tk, wa, sp, ip, op, tg, fi, se, hz, lt, lq, ik, kv, sa, ve, vf, vs, vt, vc, ll, lh, la, lu, bg, en, ro, hq, mo, mt, mf, mq, pv, ce, fn, va, rg))
    (h1 : ¬ zq_end g o x y D = 0 → P 1 (ct, ms, nI g, sz, dp, ch, cv, bs, rc, mz, zq_end g o x y D, nI D.2.1, nI D.2.2.1, nI D.2.2.2.1, ps, tk, wa, sp, ip, op, tg, fi, se, hz, lt, lq, ik, kv, sa, ve, vf, vs, vt, vc, ll, lh, la, lu, bg, en, ro, hq, mo, mt, mf, mq, pv, ce, fn, va, rg)) :
    wpX_endsWith P (ct, ms, nI g, sz, dp, ch, cv, bs, rc, mz, 0, nI D.2.1, nI D.2.2.1, nI D.2.2.2.1, ps, tk, wa, sp, ip, op, tg, fi, se, hz, lt, lq, ik, kv, sa, ve, vf, vs, vt, vc, ll, lh, la, lu, bg, en, ro, hq, mo, mt, mf, mq, pv, ce, fn, va, rg) o x y := by
  have k136 : ∀ z : Int32, zq_end g o x y D = z → wX_endsWith_136 P ct ms (nI g) sz dp ch cv bs rc mz z (nI D.2.1) (nI D.2.2.1) (nI D.2.2.2.1) ps tk wa sp ip op tg fi se hz lt lq ik kv sa ve vf vs vt vc ll lh la lu bg en ro hq mo mt mf mq pv ce fn va rg := by
    intro z hz1
    unfold wX_endsWith_136
    refine br_c (fun e => ?_) (fun ne => ?_)
    · subst e; exact h0 hz1
    · rw [hz1] at h1; exact h1 ne
  have k125 : ¬ ((o = 6 ∨ o = 7) ∧ y = 0) → ¬ ((o = 12 ∨ o = 13) ∧ (x < 0 ∨ 8 ≤ x)) → ¬ (o = 15 ∧ g ≤ D.2.2.1) → ¬ (o = 14 ∧ 20 ≤ D.2.2.2.1) → ¬ (o = 19 ∧ 99 ≤ D.2.1) → wX_endsWith_125 P o ct ms (nI g) sz dp ch cv bs rc mz 0 (nI D.2.1) (nI D.2.2.1) (nI D.2.2.2.1) ps tk wa sp ip op tg fi se hz lt lq ik kv sa ve vf vs vt vc ll lh la lu bg en ro hq mo mt mf mq pv ce fn va rg := by
    intro n1 n2 n3 n4 n5
    unfold wX_endsWith_125
    refine br_c (fun e => k136 1 ?_) (fun ne => k136 0 ?_)
    · unfold zq_end; rw [if_neg n1, if_neg n2, if_neg n3, if_neg n4, if_neg n5, if_pos e]
    · unfold zq_end; rw [if_neg n1, if_neg n2, if_neg n3, if_neg n4, if_neg n5, if_neg ne]
  have k102 : ¬ ((o = 6 ∨ o = 7) ∧ y = 0) → ¬ ((o = 12 ∨ o = 13) ∧ (x < 0 ∨ 8 ≤ x)) → ¬ (o = 15 ∧ g ≤ D.2.2.1) → ¬ (o = 14 ∧ 20 ≤ D.2.2.2.1) → wX_endsWith_102 P o ct ms (nI g) sz dp ch cv bs rc mz 0 (nI D.2.1) (nI D.2.2.1) (nI D.2.2.2.1) ps tk wa sp ip op tg fi se hz lt lq ik kv sa ve vf vs vt vc ll lh la lu bg en ro hq mo mt mf mq pv ce fn va rg := by
    intro n1 n2 n3 n4
    have := hD.1
    unfold wX_endsWith_102
    refine br_c (fun e => pk_lt D.2.1 99 (fun q => k125 n1 n2 n3 n4 (fun h => by omega)) (fun q => k136 5 ?_)) (fun ne => k125 n1 n2 n3 n4 (fun h => ne h.1))
    unfold zq_end; rw [if_neg n1, if_neg n2, if_neg n3, if_neg n4, if_pos ⟨e, q⟩]
  have k79 : ¬ ((o = 6 ∨ o = 7) ∧ y = 0) → ¬ ((o = 12 ∨ o = 13) ∧ (x < 0 ∨ 8 ≤ x)) → ¬ (o = 15 ∧ g ≤ D.2.2.1) → wX_endsWith_79 P o ct ms (nI g) sz dp ch cv bs rc mz 0 (nI D.2.1) (nI D.2.2.1) (nI D.2.2.2.1) ps tk wa sp ip op tg fi se hz lt lq ik kv sa ve vf vs vt vc ll lh la lu bg en ro hq mo mt mf mq pv ce fn va rg := by
    intro n1 n2 n3
    have := hD.2.2
    unfold wX_endsWith_79
    refine br_c (fun e => pk_lt D.2.2.2.1 20 (fun q => k102 n1 n2 n3 (fun h => by omega)) (fun q => k136 4 ?_)) (fun ne => k102 n1 n2 n3 (fun h => ne h.1))
    unfold zq_end; rw [if_neg n1, if_neg n2, if_neg n3, if_pos ⟨e, q⟩]
  have k54 : ¬ ((o = 6 ∨ o = 7) ∧ y = 0) → ¬ ((o = 12 ∨ o = 13) ∧ (x < 0 ∨ 8 ≤ x)) → wX_endsWith_54 P o ct ms (nI g) sz dp ch cv bs rc mz 0 (nI D.2.1) (nI D.2.2.1) (nI D.2.2.2.1) ps tk wa sp ip op tg fi se hz lt lq ik kv sa ve vf vs vt vc ll lh la lu bg en ro hq mo mt mf mq pv ce fn va rg := by
    intro n1 n2
    have := hD.2.1
    unfold wX_endsWith_54
    refine br_c (fun e => pk_lt D.2.2.1 g (fun q => k79 n1 n2 (fun h => by omega)) (fun q => k136 3 ?_)) (fun ne => k79 n1 n2 (fun h => ne h.1))
    unfold zq_end; rw [if_neg n1, if_neg n2, if_pos ⟨e, q⟩]
  have k36 : ¬ ((o = 6 ∨ o = 7) ∧ y = 0) → (o = 12 ∨ o = 13) → wX_endsWith_36 P o x ct ms (nI g) sz dp ch cv bs rc mz 0 (nI D.2.1) (nI D.2.2.1) (nI D.2.2.2.1) ps tk wa sp ip op tg fi se hz lt lq ik kv sa ve vf vs vt vc ll lh la lu bg en ro hq mo mt mf mq pv ce fn va rg := by
    intro n1 ho
    have bad : (x < 0 ∨ 8 ≤ x) → wX_endsWith_46 P ct ms (nI g) sz dp ch cv bs rc mz 0 (nI D.2.1) (nI D.2.2.1) (nI D.2.2.2.1) ps tk wa sp ip op tg fi se hz lt lq ik kv sa ve vf vs vt vc ll lh la lu bg en ro hq mo mt mf mq pv ce fn va rg := by
      intro hb
      unfold wX_endsWith_46
      refine k136 2 ?_
      unfold zq_end; rw [if_neg n1, if_pos ⟨ho, hb⟩]
    unfold wX_endsWith_36
    exact br_c (fun e => bad (Or.inl e)) (fun ne => br_c (fun e => k54 n1 (fun h => h.2.elim ne (fun q => absurd e (Int32.not_lt.mpr q)))) (fun n8 => bad (Or.inr (Int32.not_lt.mp n8))))
  have k24 : ¬ ((o = 6 ∨ o = 7) ∧ y = 0) → wX_endsWith_24 P o x ct ms (nI g) sz dp ch cv bs rc mz 0 (nI D.2.1) (nI D.2.2.1) (nI D.2.2.2.1) ps tk wa sp ip op tg fi se hz lt lq ik kv sa ve vf vs vt vc ll lh la lu bg en ro hq mo mt mf mq pv ce fn va rg := by
    intro n1
    unfold wX_endsWith_24
    exact br_c (fun e => k36 n1 (Or.inl e)) (fun n12 => br_c (fun e => k36 n1 (Or.inr e)) (fun n13 => k54 n1 (fun h => h.1.elim n12 n13)))
  have k12 : (o = 6 ∨ o = 7) → wX_endsWith_12 P o x y ct ms (nI g) sz dp ch cv bs rc mz 0 (nI D.2.1) (nI D.2.2.1) (nI D.2.2.2.1) ps tk wa sp ip op tg fi se hz lt lq ik kv sa ve vf vs vt vc ll lh la lu bg en ro hq mo mt mf mq pv ce fn va rg := by
    intro ho
    unfold wX_endsWith_12
    refine br_c (fun e => k136 2 ?_) (fun ne => k24 (fun h => ne h.2))
    unfold zq_end; rw [if_pos ⟨ho, e⟩]
  unfold wpX_endsWith
  exact br_c (fun e => k12 (Or.inl e)) (fun n6 => br_c (fun e => k12 (Or.inr e)) (fun n7 => k24 (fun h => h.1.elim n6 n7)))
theorem zr_carry {P : Int32 → SX → Prop} (hg : g ≤ 10) (hD : zs_ok g D) (he : zq_end g o x y D = 0)
    (h : P (zq_res ip o x y D) (ct, ms, gv, sz, dp, ch, cv, bs, rc, mz, ls, nI (zq_eff o x y D).2.1, nI (zq_eff o x y D).2.2.1, nI (zq_eff o x y D).2.2.2.1, ps, tk, wa, sp, ip, op, tg, fi, se, hz, lt, lq, ik, kv, sa, ve, vf, vs, vt, vc, ll, lh, la, lu, bg, en, ro, hq, mo, mt, mf, mq, (zq_eff o x y D).2.2.2.2, (zq_eff o x y D).1, fn, va, rg)) :
    wpX_carry P (ct, ms, gv, sz, dp, ch, cv, bs, rc, mz, ls, nI D.2.1, nI D.2.2.1, nI D.2.2.2.1, ps, tk, wa, sp, ip, op, tg, fi, se, hz, lt, lq, ik, kv, sa, ve, vf, vs, vt, vc, ll, lh, la, lu, bg, en, ro, hq, mo, mt, mf, mq, D.2.2.2.2, D.1, fn, va, rg) o x y := by
  have hin : vp_in (x &&& 7) 8 := pk_andIn x 3 (by decide) (by decide)
  unfold wpX_carry wX_carry_108
  refine br_c (fun e => ⟨hin, ?_⟩) (fun n12 => br_c (fun e => ⟨hin, nm_e (zx_value ?_)⟩) (fun n13 => br_c (fun e => ?_) (fun n14 => br_c (fun e => ?_) (fun n15 => br_c (fun e => ?_) (fun n19 => zx_value ?_)))))
  · subst e
    have e1 : zq_res ip 12 x y D = D.1 (x &&& 7).toNatClampNeg := by simp [zq_res]
    have e2 : zq_eff 12 x y D = D := by simp [zq_eff]
    rw [e1, e2] at h; exact h
  · subst e
    have e1 : zq_res ip 13 x y D = zq_val 13 x y := by simp [zq_res]
    have e2 : zq_eff 13 x y D = (upd D.1 (x &&& 7).toNatClampNeg y, D.2) := by simp [zq_eff]
    rw [e1, e2] at h; exact h
  · subst e
    have h20 : D.2.2.2.1 < 20 := by
      apply Classical.byContradiction
      intro q
      simp [zq_end] at he; omega
    have e1 : zq_res ip 14 x y D = zq_val 14 x y := by simp [zq_res]
    have e2 : zq_eff 14 x y D = (D.1, D.2.1, D.2.2.1, D.2.2.2.1 + 1, upd D.2.2.2.2 D.2.2.2.1 x) := by simp [zq_eff]
    rw [e1, e2] at h
    exact ⟨vp_in_nI h20 (by decide), nm_r (e' := upd D.2.2.2.2 D.2.2.2.1 x) (by rw [nI_clamp (by omega)]) (nm_r (nI_1 _) (zx_value h))⟩
  · subst e
    have hr : D.2.2.1 < g := by
      apply Classical.byContradiction
      intro q
      simp [zq_end] at he; omega
    have e1 : zq_res ip 15 x y D = ip D.2.2.1 := by simp [zq_res]
    have e2 : zq_eff 15 x y D = (D.1, D.2.1, D.2.2.1 + 1, D.2.2.2) := by simp [zq_eff]
    rw [e1, e2] at h
    refine nm_r (nI_1 _) ?_
    rw [nI_pred, nI_clamp (by omega)]
    exact ⟨vp_in_nI (by omega) (by decide), h⟩
  · subst e
    have e1 : zq_res ip 19 x y D = zq_val 19 x y := by simp [zq_res]
    have e2 : zq_eff 19 x y D = (D.1, D.2.1 + 1, D.2.2) := by simp [zq_eff]
    rw [e1, e2] at h
    exact nm_r (nI_1 _) (zx_value h)
  · have e1 : zq_res ip o x y D = zq_val o x y := by
      unfold zq_res; rw [if_neg n12, if_neg n15]
    have e2 : zq_eff o x y D = D := by
      unfold zq_eff; rw [if_neg n13, if_neg n14, if_neg n15, if_neg n19]
    rw [e1, e2] at h; exact h
theorem zr_ok (hD : zs_ok g D) (he : zq_end g o x y D = 0) : zs_ok g (zq_eff o x y D) := by
  unfold zq_eff
  by_cases h13 : o = 13
  · rw [if_pos h13]; exact hD
  rw [if_neg h13]
  by_cases h14 : o = 14
  · rw [if_pos h14]
    subst h14
    have h20 : D.2.2.2.1 < 20 := by
      apply Classical.byContradiction
      intro q
      simp [zq_end] at he; omega
    exact ⟨hD.1, hD.2.1, by show D.2.2.2.1 + 1 ≤ 20; omega⟩
  rw [if_neg h14]
  by_cases h15 : o = 15
  · rw [if_pos h15]
    subst h15
    have hr : D.2.2.1 < g := by
      apply Classical.byContradiction
      intro q
      simp [zq_end] at he; omega
    exact ⟨hD.1, by show D.2.2.1 + 1 ≤ g; omega, hD.2.2⟩
  rw [if_neg h15]
  by_cases h19 : o = 19
  · rw [if_pos h19]
    subst h19
    have hr : D.2.1 < 99 := by
      apply Classical.byContradiction
      intro q
      simp [zq_end] at he; omega
    exact ⟨by show D.2.1 + 1 ≤ 99; omega, hD.2⟩
  rw [if_neg h19]; exact hD
end
section
variable {ct ms gv sz dp ch cv bs rc mz ls tc rd pc ps : Int32} {tk wa sp ip op tg fi se hz lt lq ik kv sa ve vf vs vt vc la lu bg en ro hq mo mt mf mq pv ce fn va rg : Nat → Int32} {ll lh : Nat → Int64}
variable {post : SX → Prop} {g n : Nat} {R : ty_R} {A : Nat → ty_V → ty_D → Prop}
/-- the list's loop -/
theorem zr_list (hg : g ≤ 10) (hwf : zq_wf n op tg fi se hz) (hla : zj_la n op tg la) (hR : ¬ R.1 = 0)
    (H : ∀ va' fn' ps', (∀ v, v < 6 → fn' v = R.2.1 v) → post (ct, ms, nI g, nI n, dp, ch, cv, bs, rc, mz, R.1, nI R.2.2.2.1, nI R.2.2.2.2.1, nI R.2.2.2.2.2.1, ps', tk, wa, sp, ip, op, tg, fi, se, hz, lt, lq, ik, kv, sa, ve, vf, vs, vt, vc, ll, lh, la, lu, bg, en, ro, hq, mo, mt, mf, mq, R.2.2.2.2.2.2, R.2.2.1, fn', va', rg)) :
    ∀ m b p V D x1 va, zq_ex g ip n op tg fi se A R m b p V D → zs_ok g D → x1 + (n - p) + b * n ≤ 51200 → (∀ v, v < 96 → va v = V v) →
      wX_runList_6 post (60000 - x1) (nI x1) ct ms (nI g) (nI n) dp ch cv bs rc mz 0 (nI D.2.1) (nI D.2.2.1) (nI D.2.2.2.1) (nI p) tk wa sp ip op tg fi se hz lt lq ik kv sa ve vf vs vt vc ll lh la lu bg en ro hq mo mt mf mq D.2.2.2.2 D.1 fn va rg := by
  have w1 := hwf.1
  -- what comes behind the loop
  have fin : ∀ (va : ty_V) (ps : Int32), (∀ v, v < 6 → va v = R.2.1 v) → ∃ k, wX_runList_182 post ct ms (nI g) (nI n) dp ch cv bs rc mz R.1 (nI R.2.2.2.1) (nI R.2.2.2.2.1) (nI R.2.2.2.2.2.1) ps k 0 tk wa sp ip op tg fi se hz lt lq ik kv sa ve vf vs vt vc ll lh la lu bg en ro hq mo mt mf mq R.2.2.2.2.2.2 R.2.2.1 fn va rg := by
    intro va ps hva
    have lp : ∀ d i fn, i + d = 6 → (∀ v, v < i → fn v = R.2.1 v) → wX_runList_182 post ct ms (nI g) (nI n) dp ch cv bs rc mz R.1 (nI R.2.2.2.1) (nI R.2.2.2.2.1) (nI R.2.2.2.2.2.1) ps (d + 1) (nI i) tk wa sp ip op tg fi se hz lt lq ik kv sa ve vf vs vt vc ll lh la lu bg en ro hq mo mt mf mq R.2.2.2.2.2.2 R.2.2.1 fn va rg := by
      intro d
      induction d with
      | zero =>
        intro i fn hi hf
        obtain rfl : i = 6 := by omega
        exact br_t (by decide) (H va fn ps hf)
      | succ d ih =>
        intro i fn hi hf
        have hc : (nI i).toNatClampNeg = i := nI_clamp (by omega)
        refine br_f (nI_ge (b := 6) (by omega) (by decide)) ?_
        rw [hc]
        refine ⟨vp_in_nI (by omega) (by decide), vp_in_nI (by omega) (by decide), nm_e (nm_r (nI_1 i) (ih (i + 1) _ (by omega) (fun v hv => ?_)))⟩
        by_cases e : v = i
        · subst e; rw [zq_us]; exact hva v (by omega)
        · rw [zq_un e]; exact hf v (by omega)
    exact ⟨7, lp 6 0 fn rfl (fun v hv => by omega)⟩
  intro m
  induction m with
  | zero => intro b p V D x1 va h; exact absurd h id
  | succ m ih =>
    intro b p V D x1 va h hD hx hva
    obtain ⟨k, hk, h1, h2, h3⟩ := zq_exe h
    obtain rfl : k = m := by omega
    have hcp : (nI p).toNatClampNeg = p := nI_clamp (by omega)
    have hin : vp_in (nI p) 512 := vp_in_nI (by omega) (by decide)
    obtain ⟨v1, v2, v3, v4, v5, v6⟩ := hwf.2.1 p h1
    rw [show 60000 - x1 = (60000 - (x1 + 1)) + 1 by omega]
    refine br_f (nI_ge (b := 51712) (by omega) (by decide)) (br_t rfl ?_)
    rw [hcp]
    have k89 : wX_runList_89 post (wX_runList_6 post (60000 - (x1 + 1))) (nI x1) (op p) (zq_x (op p) (fi p) V) (zq_y (op p) (se p) V) ct ms (nI g) (nI n) dp ch cv bs rc mz 0 (nI D.2.1) (nI D.2.2.1) (nI D.2.2.2.1) (nI p) tk wa sp ip op tg fi se hz lt lq ik kv sa ve vf vs vt vc ll lh la lu bg en ro hq mo mt mf mq D.2.2.2.2 D.1 fn va rg := by
      unfold wX_runList_89
      refine zx_takesJump (zb_br (fun nt => ?_) (fun ht => ?_))
      · refine zr_ends hg hD (fun he => br_t rfl (zr_carry hg hD he (zx_writes (zb_br (fun nw => ?_) (fun w => ?_))))) (fun he => br_f (by decide) (nm_r (nI_1 x1) ?_))
        · have h4 := (h3.2 nt).2 he
          unfold wX_runList_164
          have e1 : zq_w (op p) (tg p) (zq_res ip (op p) (zq_x (op p) (fi p) V) (zq_y (op p) (se p) V) D) V = V := if_neg nw
          rw [e1] at h4
          have hp1 := (zq_exe h4)
          obtain ⟨_, _, hp1, _⟩ := hp1
          exact nm_r (nI_1 p) (nm_r (nI_1 x1) (ih b (p + 1) V _ (x1 + 1) va h4 (zr_ok hD he) (by omega) hva))
        · have h4 := (h3.2 nt).2 he
          have e1 : zq_w (op p) (tg p) (zq_res ip (op p) (zq_x (op p) (fi p) V) (zq_y (op p) (se p) V) D) V = upd V (tg p).toNatClampNeg (zq_res ip (op p) (zq_x (op p) (fi p) V) (zq_y (op p) (se p) V) D) := if_pos w
          rw [e1] at h4
          obtain ⟨_, _, hp1, _⟩ := zq_exe h4
          rw [hcp]
          refine ⟨hin, zk_vin ⟨v2.1, v3 w⟩, nm_e ?_⟩
          unfold wX_runList_164
          refine nm_r (nI_1 p) (nm_r (nI_1 x1) (ih b (p + 1) _ _ (x1 + 1) _ h4 (zr_ok hD he) (by omega) (fun v hv => ?_)))
          by_cases e : v = (tg p).toNatClampNeg
          · rw [e, zq_us, zq_us]
          · rw [zq_un e, zq_un e]; exact hva v hv
        · obtain ⟨f1, f2, f3⟩ := (h3.2 nt).1 he
          have hlast : ∀ K x', x' < 51712 → wX_runList_6 post (K + 1) (nI x') ct ms (nI g) (nI n) dp ch cv bs rc mz (zq_end g (op p) (zq_x (op p) (fi p) V) (zq_y (op p) (se p) V) D) (nI D.2.1) (nI D.2.2.1) (nI D.2.2.2.1) (nI p) tk wa sp ip op tg fi se hz lt lq ik kv sa ve vf vs vt vc ll lh la lu bg en ro hq mo mt mf mq D.2.2.2.2 D.1 fn va rg := by
            intro K x' hx'
            refine br_f (nI_ge (b := 51712) hx' (by decide)) (br_f he ?_)
            rw [f1, f3]
            exact fin va (nI p) (fun v hv => by rw [hva v (by omega)]; exact f2 v hv)
          rw [show 60000 - (x1 + 1) = (60000 - (x1 + 2)) + 1 by omega]
          exact hlast _ _ (by omega)
      · obtain ⟨q, hq, h6, h7, h8⟩ := h3.1 ht
        have hlq : la (tg p).toNatClampNeg = nI q := by rw [← h7]; exact hla q hq h6
        rw [hcp, hlq]
        refine ⟨hin, zk_vp v2, nm_e (nm_r (nI_1 x1) ?_)⟩
        rcases h8 with ⟨h8, h9⟩ | ⟨h8, c, rfl, h9⟩
        · exact ih b q V D (x1 + 1) va h9 hD (by omega) hva
        · refine ih c q V D (x1 + 1) va h9 hD ?_ hva
          have : (c + 1) * n = c * n + n := by rw [Nat.add_mul, Nat.one_mul]
          omega
    have k63 : wX_runList_63 post (wX_runList_6 post (60000 - (x1 + 1))) (nI x1) (op p) (zq_x (op p) (fi p) V) ct ms (nI g) (nI n) dp ch cv bs rc mz 0 (nI D.2.1) (nI D.2.2.1) (nI D.2.2.2.1) (nI p) tk wa sp ip op tg fi se hz lt lq ik kv sa ve vf vs vt vc ll lh la lu bg en ro hq mo mt mf mq D.2.2.2.2 D.1 fn va rg := by
      unfold wX_runList_63
      rw [hcp]
      refine zx_readsSecond (zb_br (fun nr => ?_) (fun r => ⟨hin, zk_vin v5, ?_⟩))
      · have : zq_y (op p) (se p) V = 0 := if_neg nr
        rw [this] at k89; exact k89
      · have : zq_y (op p) (se p) V = va (se p).toNatClampNeg := by rw [hva _ (zk_clin v5.1 v5.2)]; exact if_pos r
        rw [this] at k89; exact k89
    refine ⟨hin, nm_r (e' := op p) rfl (zx_readsFirst (zb_br (fun nr => ⟨hin, ?_⟩) (fun r => ⟨hin, zk_vin (v4 r), ?_⟩)))⟩
    · have : zq_x (op p) (fi p) V = fi p := if_neg nr
      rw [this] at k63; exact k63
    · have : zq_x (op p) (fi p) V = va (fi p).toNatClampNeg := by rw [hva _ (zk_clin (v4 r).1 (v4 r).2)]; exact if_pos r
      rw [this] at k63; exact k63
theorem zx_runList {D0 : ty_D} (hg : g ≤ 10) (hG : zq_gd g ip R D0 n op tg fi se hz) (hR : ¬ R.1 = 0) (hD : D0.2.1 = 0 ∧ D0.2.2.1 = 0 ∧ D0.2.2.2.1 = 0) (hva : ∀ v, v < 96 → va v = 0)
    (H : ∀ va' fn' ps' la' lu', (∀ v, v < 6 → fn' v = R.2.1 v) → post (ct, ms, nI g, nI n, dp, ch, cv, bs, rc, mz, R.1, nI R.2.2.2.1, nI R.2.2.2.2.1, nI R.2.2.2.2.2.1, ps', tk, wa, sp, ip, op, tg, fi, se, hz, lt, lq, ik, kv, sa, ve, vf, vs, vt, vc, ll, lh, la', lu', bg, en, ro, hq, mo, mt, mf, mq, R.2.2.2.2.2.2, R.2.2.1, fn', va', rg)) :
    wpX_runList post (ct, ms, nI g, nI n, dp, ch, cv, bs, rc, mz, 0, 0, 0, 0, 0, tk, wa, sp, ip, op, tg, fi, se, hz, lt, lq, ik, kv, sa, ve, vf, vs, vt, vc, ll, lh, la, lu, bg, en, ro, hq, mo, mt, mf, mq, D0.2.2.2.2, D0.1, fn, va, rg) := by
  have w1 := hG.1.1
  obtain ⟨m, h⟩ := hG.2
  unfold wpX_runList
  refine zx_findLabels hG.1 (fun la' lu' hla _ => ⟨60000, ?_⟩)
  have := zr_list (post := post) (fn := fn) hg hG.1 hla hR (fun va' fn' ps' hf => H va' fn' ps' la' lu' hf) m 99 0 (fun _ => 0) D0 0 va h ⟨by omega, by omega, by omega⟩ (by omega) hva
  rw [hD.1, hD.2.1, hD.2.2] at this
  exact this
end
end
section
/-! from where to where names live; registers -/
def zr_sh (B : Nat) (bg en : ty_V) (u : Nat) : Prop := (bg u = -1 ∧ en u = -1) ∨ ∃ b e, bg u = nI b ∧ en u = nI e ∧ b ≤ e ∧ e < B
def zr_cv (L : Nat → Nat → Prop) (op tg bg en : ty_V) (i u : Nat) : Prop := (L i u ∨ (zq_wr (op i) ∧ tg i = nI u)) → ∃ b e, bg u = nI b ∧ en u = nI e ∧ b ≤ i ∧ i ≤ e ∧ e < 1000
theorem zr_m1 {n : Nat} (hn : n < 2000) : ¬ (-1 : Int32) = nI n := by
  intro q
  have := congrArg Int32.toInt q
  rw [nI_toInt (by omega), show (-1 : Int32).toInt = -1 from by decide] at this
  omega
theorem zr_up {L : Nat → Nat → Prop} {op tg bg en : ty_V} {i v : Nat} {z : Int32} (hi : i < 900) (hs : ∀ u, u < 96 → zr_sh (i + 1) bg en u) (hv : v < 96)
    (hz : (0 ≤ bg v ∧ z = bg v) ∨ (¬ 0 ≤ bg v ∧ z = nI i)) :
    (∀ u, u < 96 → zr_sh (i + 1) (upd bg v z) (upd en v (nI i)) u) ∧
    (∀ j u, u < 96 → j ≤ i → zr_cv L op tg bg en j u → zr_cv L op tg (upd bg v z) (upd en v (nI i)) j u) ∧
    zr_cv L op tg (upd bg v z) (upd en v (nI i)) i v := by
  obtain ⟨b0, hb0, hzb, hold⟩ : ∃ b0, b0 ≤ i ∧ z = nI b0 ∧ ∀ b, b < 1000 → bg v = nI b → b = b0 := by
    rcases hz with ⟨h1, h2⟩ | ⟨h1, h2⟩
    · rcases hs v hv with ⟨q, _⟩ | ⟨b', e', q1, q2, q3, q4⟩
      · rw [q] at h1; exact absurd h1 (by decide)
      · exact ⟨b', by omega, by rw [h2, q1], fun b hb q => ((nI_eq (by omega) (by omega)).mp (q1.symm.trans q)).symm⟩
    · refine ⟨i, Nat.le_refl _, h2, fun b hb q => ?_⟩
      rw [q] at h1; exact absurd (nI_pos' (by omega)) h1
  refine ⟨?_, ?_, ?_⟩
  · intro u hu
    by_cases e : u = v
    · subst e
      exact Or.inr ⟨b0, i, by rw [zq_us]; exact hzb, zq_us, hb0, by omega⟩
    · unfold zr_sh
      rw [zq_un e, zq_un e]; exact hs u hu
  · intro j u hu hj hc hl
    obtain ⟨b, e, h1, h2, h3, h4, h5⟩ := hc hl
    by_cases ev : u = v
    · subst ev
      have hb := hold b (by omega) h1
      exact ⟨b0, i, by rw [zq_us]; exact hzb, zq_us, by omega, hj, by omega⟩
    · exact ⟨b, e, by rw [zq_un ev]; exact h1, by rw [zq_un ev]; exact h2, h3, h4, h5⟩
  · intro _
    exact ⟨b0, i, by rw [zq_us]; exact hzb, zq_us, hb0, Nat.le_refl _, by omega⟩
section
variable {ct ms gv sz dp ch cv bs rc mz ls tc rd pc ps : Int32} {tk wa sp ip op tg fi se hz lt lq ik kv sa ve vf vs vt vc la lu bg en ro hq mo mt mf mq pv ce fn va rg : Nat → Int32} {ll lh : Nat → Int64}
variable {post : SX → Prop} {n : Nat}
theorem zx_findSpans (hwf : zq_wf n op tg fi se hz)
    (H : ∀ la' lu' ll' lh' bg' en' ro', zj_la n op tg la' → zq_LP n op tg fi se hz (fun i v => v < 128 ∧ zv_L ll' lh' i v = true) → (∀ v, v < 96 → ro' v = -1) → (∀ v, v < 96 → zr_sh n bg' en' v) →
      (∀ i v, i < n → v < 96 → zr_cv (fun i v => v < 128 ∧ zv_L ll' lh' i v = true) op tg bg' en' i v) → post (ct, ms, gv, nI n, dp, ch, cv, bs, rc, mz, ls, tc, rd, pc, ps, tk, wa, sp, ip, op, tg, fi, se, hz, lt, lq, ik, kv, sa, ve, vf, vs, vt, vc, ll', lh', la', lu', bg', en', ro', hq, mo, mt, mf, mq, pv, ce, fn, va, rg)) :
    wpX_findSpans post (ct, ms, gv, nI n, dp, ch, cv, bs, rc, mz, ls, tc, rd, pc, ps, tk, wa, sp, ip, op, tg, fi, se, hz, lt, lq, ik, kv, sa, ve, vf, vs, vt, vc, ll, lh, la, lu, bg, en, ro, hq, mo, mt, mf, mq, pv, ce, fn, va, rg) := by
  have w1 := hwf.1
  unfold wpX_findSpans
  refine zx_findLiving hwf (fun la' lu' ll' lh' hla hlu hLP => ⟨97, ?_⟩)
  -- the rows
  have k41 : ∀ ro', (∀ v, v < 96 → ro' v = -1) → ∀ d i bg en, i + d = n → (∀ u, u < 96 → zr_sh i bg en u) → (∀ j u, j < i → u < 96 → zr_cv (fun i v => v < 128 ∧ zv_L ll' lh' i v = true) op tg bg en j u) →
      wX_findSpans_41 post ct ms gv (nI n) dp ch cv bs rc mz ls tc rd pc ps (d + 1) (nI i) tk wa sp ip op tg fi se hz lt lq ik kv sa ve vf vs vt vc ll' lh' la' lu' bg en ro' hq mo mt mf mq pv ce fn va rg := by
    intro ro' hro d
    induction d with
    | zero =>
      intro i bg en hi hs hc
      obtain rfl : i = n := by omega
      exact br_t (nI_le (Nat.le_refl _) (by omega)) (H _ _ _ _ _ _ _ hla hLP hro hs (fun j v hj hv => hc j v hj hv))
    | succ d ih =>
      intro i bg en hi hs hc
      have hci : (nI i).toNatClampNeg = i := nI_clamp (by omega)
      have hin : vp_in (nI i) 512 := vp_in_nI (by omega) (by decide)
      refine br_f (nI_ge (by omega) (by omega)) ⟨97, ?_⟩
      have k51 : ∀ d' v bg en, v + d' = 96 → (∀ u, u < 96 → zr_sh (i + 1) bg en u) → (∀ j u, j < i → u < 96 → zr_cv (fun i v => v < 128 ∧ zv_L ll' lh' i v = true) op tg bg en j u) →
          (∀ u, u < v → zr_cv (fun i v => v < 128 ∧ zv_L ll' lh' i v = true) op tg bg en i u) →
          wX_findSpans_51 post (wX_findSpans_41 post ct ms gv (nI n) dp ch cv bs rc mz ls tc rd pc ps (d + 1)) (nI i) ct ms gv (nI n) dp ch cv bs rc mz ls tc rd pc ps (d' + 1) (nI v) tk wa sp ip op tg fi se hz lt lq ik kv sa ve vf vs vt vc ll' lh' la' lu' bg en ro' hq mo mt mf mq pv ce fn va rg := by
        intro d'
        induction d' with
        | zero =>
          intro v bg en hv hs hc hr
          obtain rfl : v = 96 := by omega
          refine br_t (by decide) (nm_r (nI_1 i) (ih (i + 1) bg en (by omega) hs (fun j u hj hu => ?_)))
          by_cases e : j = i
          · subst e; exact hr u hu
          · exact hc j u (by omega) hu
        | succ d' ihv =>
          intro v bg en hv hs hc hr
          have hcv : (nI v).toNatClampNeg = v := nI_clamp (by omega)
          have hinv : vp_in (nI v) 96 := vp_in_nI (by omega) (by decide)
          have k113 : ∀ z, ((0 ≤ bg v ∧ z = bg v) ∨ (¬ 0 ≤ bg v ∧ z = nI i)) → wX_findSpans_113 post (wX_findSpans_41 post ct ms gv (nI n) dp ch cv bs rc mz ls tc rd pc ps (d + 1)) (wX_findSpans_51 post (wX_findSpans_41 post ct ms gv (nI n) dp ch cv bs rc mz ls tc rd pc ps (d + 1)) (nI i) ct ms gv (nI n) dp ch cv bs rc mz ls tc rd pc ps (d' + 1)) (nI i) (nI v) z (nI v) ct ms gv (nI n) dp ch cv bs rc mz ls tc rd pc ps tk wa sp ip op tg fi se hz lt lq ik kv sa ve vf vs vt vc ll' lh' la' lu' bg en ro' hq mo mt mf mq pv ce fn va rg := by
            intro z hz1
            obtain ⟨u1, u2, u3⟩ := zr_up (L := fun i v => v < 128 ∧ zv_L ll' lh' i v = true) (op := op) (tg := tg) (by omega) hs (show v < 96 by omega) hz1
            unfold wX_findSpans_113
            rw [hcv]
            refine ⟨hinv, nm_r (e' := upd bg v z) ?_ ⟨hinv, nm_r (e' := upd en v (nI i)) (by rw [pk_vs, zn_sN (by omega)]) (nm_r (nI_1 v) (ihv (v + 1) _ _ (by omega) u1 (fun j u hj hu => u2 j u hu (by omega) (hc j u hj hu)) (fun u hu => ?_)))⟩⟩
            · rw [vp_nar_short]
              have : z.toInt16.toInt32 = z := by
                rcases hz1 with ⟨h1, h2⟩ | ⟨h1, h2⟩
                · rcases hs v (by omega) with ⟨q, _⟩ | ⟨b', e', q1, q2, q3, q4⟩
                  · rw [q] at h1; exact absurd h1 (by decide)
                  · rw [h2, q1]; exact zn_sN (by omega)
                · rw [h2]; exact zn_sN (by omega)
              rw [this]
            · by_cases e : u = v
              · subst e; exact u3
              · exact u2 i u (by omega) (Nat.le_refl _) (hr u (by omega))
          have k88 : wX_findSpans_88 post (wX_findSpans_41 post ct ms gv (nI n) dp ch cv bs rc mz ls tc rd pc ps (d + 1)) (wX_findSpans_51 post (wX_findSpans_41 post ct ms gv (nI n) dp ch cv bs rc mz ls tc rd pc ps (d + 1)) (nI i) ct ms gv (nI n) dp ch cv bs rc mz ls tc rd pc ps (d' + 1)) (nI i) (nI v) ct ms gv (nI n) dp ch cv bs rc mz ls tc rd pc ps tk wa sp ip op tg fi se hz lt lq ik kv sa ve vf vs vt vc ll' lh' la' lu' bg en ro' hq mo mt mf mq pv ce fn va rg := by
            unfold wX_findSpans_88
            rw [hcv]
            refine ⟨hinv, br_c (fun h => ⟨hinv, k113 _ (Or.inl ⟨h, rfl⟩)⟩) (fun h => ?_)⟩
            rw [zn_sN (by omega)]
            exact k113 _ (Or.inr ⟨h, rfl⟩)
          have skip : (¬ zv_L ll' lh' i v = true) → ¬ (zq_wr (op i) ∧ tg i = nI v) → wX_findSpans_51 post (wX_findSpans_41 post ct ms gv (nI n) dp ch cv bs rc mz ls tc rd pc ps (d + 1)) (nI i) ct ms gv (nI n) dp ch cv bs rc mz ls tc rd pc ps (d' + 1) (nI (v + 1)) tk wa sp ip op tg fi se hz lt lq ik kv sa ve vf vs vt vc ll' lh' la' lu' bg en ro' hq mo mt mf mq pv ce fn va rg := by
            intro n1 n2
            refine ihv (v + 1) bg en (by omega) hs hc (fun u hu => ?_)
            by_cases e : u = v
            · subst e
              rintro (q | q)
              · exact absurd q.2 n1
              · exact absurd q n2
            · exact hr u (by omega)
          refine br_f (nI_ge (b := 96) (by omega) (by decide)) (zx_livesBefore (by omega) (by omega) (zb_br (fun nl => ?_) (fun _ => k88)))
          rw [hci]
          exact ⟨hin, zx_writes (zb_br (fun nw => nm_r (nI_1 v) (skip nl (fun q => nw q.1))) (fun w => ⟨hin, br_c (fun _ => k88) (fun nt => nm_r (nI_1 v) (skip nl (fun q => nt q.2)))⟩))⟩
      exact k51 96 0 bg en rfl (fun u hu => by
        rcases hs u hu with q | ⟨b', e', q1, q2, q3, q4⟩
        · exact Or.inl q
        · exact Or.inr ⟨b', e', q1, q2, q3, by omega⟩) hc (fun u hu => by omega)
  have k6 : ∀ d v bg en ro, v + d = 96 → (∀ u, u < v → bg u = -1 ∧ en u = -1 ∧ ro u = -1) → wX_findSpans_6 post ct ms gv (nI n) dp ch cv bs rc mz ls tc rd pc ps (d + 1) (nI v) tk wa sp ip op tg fi se hz lt lq ik kv sa ve vf vs vt vc ll' lh' la' lu' bg en ro hq mo mt mf mq pv ce fn va rg := by
    intro d
    induction d with
    | zero =>
      intro v bg en ro hv h
      obtain rfl : v = 96 := by omega
      exact br_t (by decide) ⟨n + 1, k41 ro (fun v hv => (h v hv).2.2) n 0 bg en (by omega) (fun u hu => Or.inl ⟨(h u hu).1, (h u hu).2.1⟩) (fun j u hj => by omega)⟩
    | succ d ih =>
      intro v bg en ro hv h
      have hcv : (nI v).toNatClampNeg = v := nI_clamp (by omega)
      have hinv : vp_in (nI v) 96 := vp_in_nI (by omega) (by decide)
      refine br_f (nI_ge (b := 96) (by omega) (by decide)) ?_
      rw [hcv]
      refine ⟨hinv, nm_r (e' := upd bg v (-1)) rfl ⟨hinv, nm_r (e' := upd en v (-1)) rfl ⟨hinv, nm_r (e' := upd ro v (-1)) rfl (nm_r (nI_1 v) (ih (v + 1) _ _ _ (by omega) (fun u hu => ?_)))⟩⟩⟩
      by_cases e : u = v
      · subst e; rw [zq_us, zq_us, zq_us]; exact ⟨rfl, rfl, rfl⟩
      · rw [zq_un e, zq_un e, zq_un e]; exact h u (by omega)
  exact k6 96 0 bg en ro rfl (fun u hu => by omega)
end
end
section
/-! giving registers -/
def zr_I (i x rc : Nat) (bg en ro hq : ty_V) : Prop :=
  (∀ v, v < 96 → ro v = -1 ∨ ∃ r, 2 ≤ r ∧ r < rc ∧ ro v = nI r) ∧
  (∀ v, v < 96 → ¬ ro v = -1 → bg v < nI i ∨ (bg v = nI i ∧ v < x)) ∧
  (∀ r, 2 ≤ r → r < rc → hq r = -1 ∨ ∃ v, v < 96 ∧ hq r = nI v ∧ ro v = nI r) ∧
  (∀ u v, u < 96 → v < 96 → u ≠ v → ¬ ro u = -1 → ro u = ro v → en u < bg v ∨ en v < bg u) ∧
  (∀ v r, v < 96 → 2 ≤ r → r < rc → ro v = nI r → hq r = nI v ∨ en v < nI i)
theorem zr_free {i x rc r0 : Nat} {bg en ro hq : ty_V} (hi : i < 1000) (hrc : rc ≤ 8) (hx : x < 96) (hI : zr_I i x rc bg en ro hq) (hb : bg x = nI i) (hr0 : 2 ≤ r0) (hr1 : r0 < rc) (hf : hq r0 = -1) :
    zr_I i (x + 1) rc bg en (upd ro x (nI r0)) (upd hq r0 (nI x)) := by
  obtain ⟨a1, a2, a3, a4, a5⟩ := hI
  have hrx : ro x = -1 := by
    apply Classical.byContradiction
    intro q
    rcases a2 x hx q with h | h
    · rw [hb] at h; exact absurd h Int32.lt_irrefl
    · omega
  have inj : ∀ p q : Nat, p < 1000 → q < 1000 → nI p = nI q → p = q := fun p q hp hq h => (nI_eq (by omega) (by omega)).mp h
  refine ⟨?_, ?_, ?_, ?_, ?_⟩
  · intro v hv
    by_cases e : v = x
    · subst e; rw [zq_us]; exact Or.inr ⟨r0, hr0, hr1, rfl⟩
    · rw [zq_un e]; exact a1 v hv
  · intro v hv hn
    by_cases e : v = x
    · subst e; exact Or.inr ⟨hb, by omega⟩
    · rw [zq_un e] at hn
      rcases a2 v hv hn with h | h
      · exact Or.inl h
      · exact Or.inr ⟨h.1, by omega⟩
  · intro r h1 h2
    by_cases e : r = r0
    · subst e; rw [zq_us]; exact Or.inr ⟨x, hx, rfl, zq_us⟩
    · rw [zq_un e]
      rcases a3 r h1 h2 with h | ⟨v, q1, q2, q3⟩
      · exact Or.inl h
      · refine Or.inr ⟨v, q1, q2, ?_⟩
        rw [zq_un]
        · exact q3
        · intro ev; subst ev; exact zr_m1 (by omega) (hrx.symm.trans q3)
  · intro u v hu hv hne hn he
    have key : ∀ w, w < 96 → w ≠ x → ro w = nI r0 → en w < nI i := by
      intro w hw hwx hrw
      rcases a5 w r0 hw hr0 hr1 hrw with h | h
      · rw [hf] at h; exact absurd h (zr_m1 (by omega))
      · exact h
    by_cases eu : u = x
    · subst eu
      have ev : v ≠ u := fun q => hne q.symm
      rw [zq_us, zq_un ev] at he
      exact Or.inr (by rw [hb]; exact key v hv ev he.symm)
    · rw [zq_un eu] at hn he
      by_cases ev : v = x
      · subst ev
        rw [zq_us] at he
        exact Or.inl (by rw [hb]; exact key u hu eu he)
      · rw [zq_un ev] at he
        exact a4 u v hu hv hne hn he
  · intro v r hv h1 h2 he
    by_cases ev : v = x
    · subst ev
      rw [zq_us] at he
      have := inj r0 r (by omega) (by omega) he
      subst this
      exact Or.inl zq_us
    · rw [zq_un ev] at he
      rcases a5 v r hv h1 h2 he with h | h
      · by_cases er : r = r0
        · subst er; rw [hf] at h; exact absurd h (zr_m1 (by omega))
        · exact Or.inl (by rw [zq_un er]; exact h)
      · exact Or.inr h
theorem zr_evict {i x rc r0 u0 : Nat} {bg en ro hq : ty_V} (hi : i < 1000) (hrc : rc ≤ 8) (hx : x < 96) (hI : zr_I i x rc bg en ro hq) (hb : bg x = nI i) (hr0 : 2 ≤ r0) (hr1 : r0 < rc) (hu0 : u0 < 96) (hux : u0 ≠ x)
    (hf : hq r0 = nI u0) (hro : ro u0 = nI r0) : zr_I i (x + 1) rc bg en (upd (upd ro u0 (-1)) x (nI r0)) (upd hq r0 (nI x)) := by
  obtain ⟨a1, a2, a3, a4, a5⟩ := hI
  have hrx : ro x = -1 := by
    apply Classical.byContradiction
    intro q
    rcases a2 x hx q with h | h
    · rw [hb] at h; exact absurd h Int32.lt_irrefl
    · omega
  have inj : ∀ p q : Nat, p < 1000 → q < 1000 → nI p = nI q → p = q := fun p q hp hq h => (nI_eq (by omega) (by omega)).mp h
  have ru : upd (upd ro u0 (-1)) x (nI r0) u0 = -1 := by rw [zq_un hux, zq_us]
  have rn : ∀ w, w ≠ x → w ≠ u0 → upd (upd ro u0 (-1)) x (nI r0) w = ro w := fun w h1 h2 => by rw [zq_un h1, zq_un h2]
  refine ⟨?_, ?_, ?_, ?_, ?_⟩
  · intro v hv
    by_cases e : v = x
    · subst e; rw [zq_us]; exact Or.inr ⟨r0, hr0, hr1, rfl⟩
    · by_cases e2 : v = u0
      · subst e2; exact Or.inl ru
      · rw [rn v e e2]; exact a1 v hv
  · intro v hv hn
    by_cases e : v = x
    · subst e; exact Or.inr ⟨hb, by omega⟩
    · by_cases e2 : v = u0
      · subst e2; exact absurd ru hn
      · rw [rn v e e2] at hn
        rcases a2 v hv hn with h | h
        · exact Or.inl h
        · exact Or.inr ⟨h.1, by omega⟩
  · intro r h1 h2
    by_cases e : r = r0
    · subst e; rw [zq_us]; exact Or.inr ⟨x, hx, rfl, zq_us⟩
    · rw [zq_un e]
      rcases a3 r h1 h2 with h | ⟨v, q1, q2, q3⟩
      · exact Or.inl h
      · refine Or.inr ⟨v, q1, q2, ?_⟩
        rw [rn v]
        · exact q3
        · intro ev; subst ev; exact zr_m1 (by omega) (hrx.symm.trans q3)
        · intro ev; subst ev; exact e (inj r r0 (by omega) (by omega) (q3.symm.trans hro))
  · intro u v hu hv hne hn he
    have key : ∀ w, w < 96 → w ≠ x → w ≠ u0 → ro w = nI r0 → en w < nI i := by
      intro w hw hwx hwu hrw
      rcases a5 w r0 hw hr0 hr1 hrw with h | h
      · rw [hf] at h; exact absurd (inj u0 w (by omega) (by omega) h).symm hwu
      · exact h
    by_cases eu : u = x
    · subst eu
      have ev : v ≠ u := fun q => hne q.symm
      by_cases ev2 : v = u0
      · subst ev2; rw [zq_us, ru] at he; exact absurd he.symm (zr_m1 (by omega))
      · rw [zq_us, rn v ev ev2] at he
        exact Or.inr (by rw [hb]; exact key v hv ev ev2 he.symm)
    · by_cases eu2 : u = u0
      · subst eu2; exact absurd ru hn
      · rw [rn u eu eu2] at hn he
        by_cases ev : v = x
        · subst ev
          rw [zq_us] at he
          exact Or.inl (by rw [hb]; exact key u hu eu eu2 he)
        · by_cases ev2 : v = u0
          · subst ev2; rw [ru] at he; exact absurd he hn
          · rw [rn v ev ev2] at he
            exact a4 u v hu hv hne hn he
  · intro v r hv h1 h2 he
    by_cases ev : v = x
    · subst ev
      rw [zq_us] at he
      have := inj r0 r (by omega) (by omega) he
      subst this
      exact Or.inl zq_us
    · by_cases ev2 : v = u0
      · subst ev2; rw [ru] at he; exact absurd he (zr_m1 (by omega))
      · rw [rn v ev ev2] at he
        rcases a5 v r hv h1 h2 he with h | h
        · by_cases er : r = r0
          · subst er; rw [hf] at h; exact absurd (inj u0 v (by omega) (by omega) h).symm ev2
          · exact Or.inl (by rw [zq_un er]; exact h)
        · exact Or.inr h
theorem zr_skip {i x rc : Nat} {bg en ro hq : ty_V} (hI : zr_I i x rc bg en ro hq) : zr_I i (x + 1) rc bg en ro hq := by
  obtain ⟨a1, a2, a3, a4, a5⟩ := hI
  refine ⟨a1, fun v hv hn => ?_, a3, a4, a5⟩
  rcases a2 v hv hn with h | h
  · exact Or.inl h
  · exact Or.inr ⟨h.1, by omega⟩
theorem zr_row {i rc : Nat} {bg en ro hq : ty_V} (hi : i < 1000) (hI : zr_I i 96 rc bg en ro hq) : zr_I (i + 1) 0 rc bg en ro hq := by
  obtain ⟨a1, a2, a3, a4, a5⟩ := hI
  have lt : nI i < nI (i + 1) := nI_lt (by omega) (by omega)
  refine ⟨a1, fun v hv hn => ?_, a3, a4, fun v r hv h1 h2 he => ?_⟩
  · rcases a2 v hv hn with h | h
    · exact Or.inl (Int32.lt_trans h lt)
    · exact Or.inl (by rw [h.1]; exact lt)
  · rcases a5 v r hv h1 h2 he with h | h
    · exact Or.inl h
    · exact Or.inr (Int32.lt_trans h lt)
section
variable {ct ms gv sz dp ch cv bs rc mz ls tc rd pc ps : Int32} {tk wa sp ip op tg fi se hz lt lq ik kv sa ve vf vs vt vc la lu bg en ro hq mo mt mf mq pv ce fn va rg : Nat → Int32} {ll lh : Nat → Int64}
variable {post : SX → Prop} {n rn : Nat}
theorem zx_release {i : Nat} (hi : i < 1000) (h3 : 3 ≤ rn) (h8 : rn ≤ 8) (hI : zr_I i 0 rn bg en ro hq) (H : ∀ hq', zr_I i 0 rn bg en ro hq' → post (ct, ms, gv, sz, dp, ch, cv, bs, nI rn, mz, ls, tc, rd, pc, ps, tk, wa, sp, ip, op, tg, fi, se, hz, lt, lq, ik, kv, sa, ve, vf, vs, vt, vc, ll, lh, la, lu, bg, en, ro, hq', mo, mt, mf, mq, pv, ce, fn, va, rg)) : wpX_release post (ct, ms, gv, sz, dp, ch, cv, bs, nI rn, mz, ls, tc, rd, pc, ps, tk, wa, sp, ip, op, tg, fi, se, hz, lt, lq, ik, kv, sa, ve, vf, vs, vt, vc, ll, lh, la, lu, bg, en, ro, hq, mo, mt, mf, mq, pv, ce, fn, va, rg) (nI i) := by
  have lp : ∀ d r hq, r + d = rn → 2 ≤ r → zr_I i 0 rn bg en ro hq → wX_release_2 post (nI i) ct ms gv sz dp ch cv bs (nI rn) mz ls tc rd pc ps (d + 1) (nI r) tk wa sp ip op tg fi se hz lt lq ik kv sa ve vf vs vt vc ll lh la lu bg en ro hq mo mt mf mq pv ce fn va rg := by
    intro d
    induction d with
    | zero =>
      intro r hq hr h2 hI
      exact br_t (nI_le (by omega) (by omega)) (H hq hI)
    | succ d ih =>
      intro r hq hr h2 hI
      have hcr : (nI r).toNatClampNeg = r := nI_clamp (by omega)
      have hin : vp_in (nI r) 8 := vp_in_nI (by omega) (by decide)
      refine br_f (nI_ge (by omega) (by omega)) ?_
      rw [hcr]
      refine ⟨hin, br_c (fun _ => nm_r (nI_1 r) (ih (r + 1) hq (by omega) (by omega) hI)) (fun hn => ?_)⟩
      rcases hI.2.2.1 r h2 (by omega) with q | ⟨v, q1, q2, q3⟩
      · rw [q] at hn; exact absurd (by decide) hn
      · rw [q2, nI_clamp (by omega)]
        refine ⟨hin, vp_in_nI (by omega) (by decide), br_c (fun _ => nm_r (nI_1 r) (ih (r + 1) hq (by omega) (by omega) hI)) (fun hle => ⟨hin, nm_r (e' := upd hq r (-1)) rfl (nm_r (nI_1 r) (ih (r + 1) _ (by omega) (by omega) ?_))⟩)⟩
        obtain ⟨a1, a2, a3, a4, a5⟩ := hI
        refine ⟨a1, a2, fun r' h1 h2' => ?_, a4, fun w r' hw h1 h2' he => ?_⟩
        · by_cases e : r' = r
          · subst e; rw [zq_us]; exact Or.inl rfl
          · rw [zq_un e]; exact a3 r' h1 h2'
        · by_cases e : r' = r
          · subst e
            rcases a5 w r' hw h1 h2' he with h | h
            · have : v = w := (nI_eq (by omega) (by omega)).mp (q2.symm.trans h)
              subst this
              exact Or.inr (Int32.not_le.mp hle)
            · exact Or.inr h
          · rw [zq_un e]; exact a5 w r' hw h1 h2' he
  unfold wpX_release
  exact ⟨rn - 2 + 1, lp (rn - 2) 2 hq (by omega) (Nat.le_refl _) hI⟩
theorem zx_assign {i v : Nat} (hi : i < 1000) (h3 : 3 ≤ rn) (h8 : rn ≤ 8) (hv : v < 96) (hb : bg v = nI i) (hI : zr_I i v rn bg en ro hq)
    (H : ∀ ro' hq', zr_I i (v + 1) rn bg en ro' hq' → post (ct, ms, gv, sz, dp, ch, cv, bs, nI rn, mz, ls, tc, rd, pc, ps, tk, wa, sp, ip, op, tg, fi, se, hz, lt, lq, ik, kv, sa, ve, vf, vs, vt, vc, ll, lh, la, lu, bg, en, ro', hq', mo, mt, mf, mq, pv, ce, fn, va, rg)) : wpX_assign post (ct, ms, gv, sz, dp, ch, cv, bs, nI rn, mz, ls, tc, rd, pc, ps, tk, wa, sp, ip, op, tg, fi, se, hz, lt, lq, ik, kv, sa, ve, vf, vs, vt, vc, ll, lh, la, lu, bg, en, ro, hq, mo, mt, mf, mq, pv, ce, fn, va, rg) (nI v) := by
  have hcv : (nI v).toNatClampNeg = v := nI_clamp (by omega)
  have hinv : vp_in (nI v) 96 := vp_in_nI (by omega) (by decide)
  have lp : ∀ k x2 x3, k + 2 ≤ rn → (x2 = nI v ∨ ∃ r u, 2 ≤ r ∧ r < rn ∧ u < 96 ∧ hq r = nI u ∧ ro u = nI r ∧ x2 = nI u) → (x3 = -1 ∨ ∃ r, 2 ≤ r ∧ r < rn ∧ x3 = nI r ∧ hq r = -1) →
      wX_assign_12 post (nI v) ct ms gv sz dp ch cv bs (nI rn) mz ls tc rd pc ps tk wa sp ip op tg fi se hz lt lq ik kv sa ve vf vs vt vc ll lh la lu bg en ro hq mo mt mf mq pv ce fn va rg (k + 1) x2 x3 (nI (k + 1)) := by
    intro k
    induction k with
    | zero =>
      intro x2 x3 hk q2 q3
      refine br_t (by decide) (br_c (fun hl => br_c (fun _ => H ro hq (zr_skip hI)) (fun ne => ?_)) (fun hl => ?_))
      · rcases q2 with q | ⟨r, u, p1, p2, p3, p4, p5, p6⟩
        · exact absurd q ne
        · subst p6
          have hcu : (nI u).toNatClampNeg = u := nI_clamp (by omega)
          have hux : u ≠ v := fun q => ne (by rw [q])
          rw [hcu, p5]
          have hcr : (nI r).toNatClampNeg = r := nI_clamp (by omega)
          refine ⟨vp_in_nI p3 (by decide), nm_e ⟨vp_in_nI p3 (by decide), nm_r (e' := upd ro u (-1)) rfl ?_⟩⟩
          rw [hcr, hcv]
          exact ⟨vp_in_nI (by omega) (by decide), nm_r (e' := upd hq r (nI v)) (by rw [pk_vb, zn_bN (by omega)]) ⟨hinv, nm_r (e' := upd (upd ro u (-1)) v (nI r)) (by rw [pk_vb, zn_bN (by omega)]) (H _ _ (zr_evict hi h8 hv hI hb p1 p2 p3 hux p4 p5))⟩⟩
      · rcases q3 with q | ⟨r, p1, p2, p3, p4⟩
        · rw [q] at hl; exact absurd (by decide) hl
        · subst p3
          rw [nI_clamp (by omega), hcv]
          exact ⟨vp_in_nI (by omega) (by decide), nm_r (e' := upd hq r (nI v)) (by rw [pk_vb, zn_bN (by omega)]) ⟨hinv, nm_r (e' := upd ro v (nI r)) (by rw [pk_vb, zn_bN (by omega)]) (H _ _ (zr_free hi h8 hv hI hb p1 p2 p4))⟩⟩
    | succ k ih =>
      intro x2 x3 hk q2 q3
      have hcr : (nI (k + 1 + 1)).toNatClampNeg = k + 1 + 1 := nI_clamp (by omega)
      have hin : vp_in (nI (k + 1 + 1)) 8 := vp_in_nI (by omega) (by decide)
      refine br_f (nI_nlt (b := 2) (by omega) (by omega)) ?_
      rw [hcr]
      refine ⟨hin, br_c (fun h0 => ?_) (fun h0 => nm_r (pk_m1 (k + 1)) (ih x2 _ (by omega) q2 (Or.inr ⟨k + 1 + 1, by omega, by omega, rfl, ?_⟩)))⟩
      · rcases hI.2.2.1 (k + 1 + 1) (by omega) (by omega) with q | ⟨u, p1, p2, p3⟩
        · rw [q] at h0; exact absurd h0 (by decide)
        · have hx2 : vp_in x2 96 := by
            rcases q2 with q | ⟨r, u', _, _, c3, _, _, c6⟩
            · rw [q]; exact hinv
            · rw [c6]; exact vp_in_nI c3 (by decide)
          rw [p2]
          refine ⟨hin, vp_in_nI p1 (by decide), hx2, br_c (fun _ => nm_r (pk_m1 (k + 1)) (ih x2 x3 (by omega) q2 q3)) (fun _ => ⟨hin, nm_e (nm_r (pk_m1 (k + 1)) (ih _ x3 (by omega) (Or.inr ⟨k + 1 + 1, u, by omega, by omega, p1, p2, p3, rfl⟩) q3))⟩)⟩
      · rcases hI.2.2.1 (k + 1 + 1) (by omega) (by omega) with q | ⟨u, p1, p2, p3⟩
        · exact q
        · rw [p2] at h0; exact absurd (nI_pos' (by omega)) h0
  unfold wpX_assign
  obtain ⟨k, hk⟩ : ∃ k, rn = k + 1 + 1 := ⟨rn - 2, by omega⟩
  refine nm_r (e' := nI (k + 1)) (by rw [hk, nI_pred]) ⟨k + 1, lp k (nI v) (-1) (by omega) (Or.inl rfl) (Or.inl rfl)⟩
theorem zx_giveRegisters (hwf : zq_wf n op tg fi se hz) (h3 : 3 ≤ rn) (h8 : rn ≤ 8)
    (H : ∀ la' lu' ll' lh' bg' en' ro' hq', zj_la n op tg la' → zq_LP n op tg fi se hz (fun i v => v < 128 ∧ zv_L ll' lh' i v = true) → (∀ v, v < 96 → ro' v = -1 ∨ ∃ r, 2 ≤ r ∧ r < rn ∧ ro' v = nI r) →
      (∀ u v, u < 96 → v < 96 → u ≠ v → ¬ ro' u = -1 → ro' u = ro' v → en' u < bg' v ∨ en' v < bg' u) →
      (∀ i v, i < n → v < 96 → zr_cv (fun i v => v < 128 ∧ zv_L ll' lh' i v = true) op tg bg' en' i v) → post (ct, ms, gv, nI n, dp, ch, cv, bs, nI rn, mz, ls, tc, rd, pc, ps, tk, wa, sp, ip, op, tg, fi, se, hz, lt, lq, ik, kv, sa, ve, vf, vs, vt, vc, ll', lh', la', lu', bg', en', ro', hq', mo, mt, mf, mq, pv, ce, fn, va, rg)) :
    wpX_giveRegisters post (ct, ms, gv, nI n, dp, ch, cv, bs, nI rn, mz, ls, tc, rd, pc, ps, tk, wa, sp, ip, op, tg, fi, se, hz, lt, lq, ik, kv, sa, ve, vf, vs, vt, vc, ll, lh, la, lu, bg, en, ro, hq, mo, mt, mf, mq, pv, ce, fn, va, rg) := by
  have w1 := hwf.1
  unfold wpX_giveRegisters
  refine zx_findSpans hwf (fun la' lu' ll' lh' bg' en' ro' hla hLP hro hsh hcv => ⟨9, ?_⟩)
  have k27 : ∀ d i ro hq, i + d = n → zr_I i 0 rn bg' en' ro hq → wX_giveRegisters_27 post (d + 1) (nI i) ct ms gv (nI n) dp ch cv bs (nI rn) mz ls tc rd pc ps tk wa sp ip op tg fi se hz lt lq ik kv sa ve vf vs vt vc ll' lh' la' lu' bg' en' ro hq mo mt mf mq pv ce fn va rg := by
    intro d
    induction d with
    | zero =>
      intro i ro hq hi hI
      exact br_t (nI_le (by omega) (by omega)) (H _ _ _ _ _ _ _ _ hla hLP hI.1 hI.2.2.2.1 hcv)
    | succ d ih =>
      intro i ro hq hi hI
      refine br_f (nI_ge (by omega) (by omega)) (zx_release (by omega) h3 h8 hI (fun hq1 hI1 => ⟨97, ?_⟩))
      have k42 : ∀ d' v ro hq, v + d' = 96 → zr_I i v rn bg' en' ro hq → wX_giveRegisters_42 post (wX_giveRegisters_27 post (d + 1)) (nI i) (d' + 1) (nI v) ct ms gv (nI n) dp ch cv bs (nI rn) mz ls tc rd pc ps tk wa sp ip op tg fi se hz lt lq ik kv sa ve vf vs vt vc ll' lh' la' lu' bg' en' ro hq mo mt mf mq pv ce fn va rg := by
        intro d'
        induction d' with
        | zero =>
          intro v ro hq hv hI
          obtain rfl : v = 96 := by omega
          exact br_t (by decide) (nm_r (nI_1 i) (ih (i + 1) ro hq (by omega) (zr_row (by omega) hI)))
        | succ d' ihv =>
          intro v ro hq hv hI
          have hcv' : (nI v).toNatClampNeg = v := nI_clamp (by omega)
          refine br_f (nI_ge (b := 96) (by omega) (by decide)) ?_
          rw [hcv']
          exact ⟨vp_in_nI (by omega) (by decide), br_c (fun e => zx_assign (by omega) h3 h8 (by omega) e hI (fun ro2 hq2 hI2 => nm_r (nI_1 v) (ihv (v + 1) _ _ (by omega) hI2))) (fun _ => nm_r (nI_1 v) (ihv (v + 1) _ _ (by omega) (zr_skip hI)))⟩
      exact k42 96 0 ro hq1 rfl hI1
  refine zx_flp (W := fun k i f => wX_giveRegisters_6 post ct ms gv (nI n) dp ch cv bs (nI rn) mz ls tc rd pc ps k (nI i) tk wa sp ip op tg fi se hz lt lq ik kv sa ve vf vs vt vc ll' lh' la' lu' bg' en' ro' f mo mt mf mq pv ce fn va rg) (e := 8) (v := -1) ?_ 8 0 hq 1 rfl ?_
  · intro k i f hi h
    exact br_f (nI_ge (b := 8) hi (by decide)) ⟨vp_in_nI hi (by decide), nm_r (e' := upd f i (-1)) (by rw [nI_clamp (by omega)]; rfl) (nm_r (nI_1 i) h)⟩
  · refine br_t (by decide) ⟨n + 1, k27 n 0 _ _ (by omega) ⟨fun v hv => Or.inl (hro v hv), fun v hv hn => absurd (hro v hv) hn, fun r h1 h2 => Or.inl ?_, fun u v hu _ _ hn => absurd (hro u hu) hn, fun v r hv _ _ he => ?_⟩⟩
    · exact if_pos ⟨Nat.zero_le _, by omega⟩
    · exact absurd ((hro v hv).symm.trans he) (zr_m1 (by omega))
end
end
section
/-! the machine's program -/
def zm_a1 (op fi ro : ty_V) (i : Nat) : Nat := if zq_r1 (op i) ∧ ro (fi i).toNatClampNeg = -1 then 1 else 0
def zm_a2 (op se ro : ty_V) (i : Nat) : Nat := if zq_r2 (op i) ∧ ro (se i).toNatClampNeg = -1 then 1 else 0
def zm_a3 (op tg ro : ty_V) (i : Nat) : Nat := if zq_wr (op i) ∧ ro (tg i).toNatClampNeg = -1 then 1 else 0
def zm_st (op tg fi se ro : ty_V) : Nat → Nat
  | 0 => 0
  | i + 1 => zm_st op tg fi se ro i + (zm_a1 op fi ro i + zm_a2 op se ro i + 1 + zm_a3 op tg ro i)
def zm_A (op fi ro : ty_V) (i : Nat) : Int32 := if zq_r1 (op i) then (if ro (fi i).toNatClampNeg = -1 then 0 else ro (fi i).toNatClampNeg) else fi i
def zm_B (op se ro : ty_V) (i : Nat) : Int32 := if zq_r2 (op i) then (if ro (se i).toNatClampNeg = -1 then 1 else ro (se i).toNatClampNeg) else 0
def zm_d (op tg ro : ty_V) (i : Nat) : Int32 := if zq_wr (op i) then (if ro (tg i).toNatClampNeg = -1 then 0 else ro (tg i).toNatClampNeg) else tg i
def zm_C (op tg fi se ro mo mt mf mq : ty_V) (s i : Nat) : Prop :=
  (zm_a1 op fi ro i = 1 → zc_ins mo mt mf mq s 22 0 (fi i) 0) ∧
  (zm_a2 op se ro i = 1 → zc_ins mo mt mf mq (s + zm_a1 op fi ro i) 22 1 (se i) 0) ∧
  zc_ins mo mt mf mq (s + zm_a1 op fi ro i + zm_a2 op se ro i) (op i) (zm_d op tg ro i) (zm_A op fi ro i) (zm_B op se ro i) ∧
  (zm_a3 op tg ro i = 1 → zc_ins mo mt mf mq (s + zm_a1 op fi ro i + zm_a2 op se ro i + 1) 23 (tg i) 0 0)
def zm_ro (rn : Nat) (ro : ty_V) : Prop := ∀ v, v < 96 → ro v = -1 ∨ ∃ r, 2 ≤ r ∧ r < rn ∧ ro v = nI r
theorem zm_01 {p : Prop} [Decidable p] : (if p then (1 : Nat) else 0) ≤ 1 := by split <;> omega
theorem zm_le1 {op fi ro : ty_V} {i : Nat} : zm_a1 op fi ro i ≤ 1 := zm_01
theorem zm_le2 {op se ro : ty_V} {i : Nat} : zm_a2 op se ro i ≤ 1 := zm_01
theorem zm_le3 {op tg ro : ty_V} {i : Nat} : zm_a3 op tg ro i ≤ 1 := zm_01
theorem zm_st4 {op tg fi se ro : ty_V} : ∀ i, zm_st op tg fi se ro i ≤ 4 * i := by
  intro i
  induction i with
  | zero => exact Nat.le_refl _
  | succ i ih =>
    have h1 := zm_le1 (op := op) (fi := fi) (ro := ro) (i := i)
    have h2 := zm_le2 (op := op) (se := se) (ro := ro) (i := i)
    have h3 := zm_le3 (op := op) (tg := tg) (ro := ro) (i := i)
    simp only [zm_st]; omega
theorem zm_stm {op tg fi se ro : ty_V} {i j : Nat} (h : i ≤ j) : zm_st op tg fi se ro i ≤ zm_st op tg fi se ro j := by
  induction h with
  | refl => exact Nat.le_refl _
  | step _ ih => simp only [zm_st]; omega
theorem zm_Cm {op tg fi se ro mo mt mf mq mo' mt' mf' mq' : ty_V} {s i a : Nat} (hag : zo_ag a mo mt mf mq mo' mt' mf' mq') (ha : s + zm_a1 op fi ro i + zm_a2 op se ro i + 1 + zm_a3 op tg ro i ≤ a)
    (h : zm_C op tg fi se ro mo mt mf mq s i) : zm_C op tg fi se ro mo' mt' mf' mq' s i := by
  obtain ⟨a1, a2, a3, a4⟩ := h
  have l1 := zm_le1 (op := op) (fi := fi) (ro := ro) (i := i)
  have l2 := zm_le2 (op := op) (se := se) (ro := ro) (i := i)
  exact ⟨fun q => zo_ins hag (by omega) (a1 q), fun q => zo_ins hag (by omega) (a2 q), zo_ins hag (by omega) a3, fun q => zo_ins hag (by omega) (a4 q)⟩
theorem zm_rng {rn : Nat} {ro : ty_V} {v : Nat} (h : zm_ro rn ro) (h8 : rn ≤ 8) (hv : v < 96) (hn : ¬ ro v = -1) : ∃ r, 2 ≤ r ∧ r < 8 ∧ ro v = nI r := by
  rcases h v hv with q | ⟨r, a, b, c⟩
  · exact absurd q hn
  · exact ⟨r, a, by omega, c⟩
theorem zm_lt0 {rn : Nat} {ro : ty_V} {v : Nat} (h : zm_ro rn ro) (h8 : rn ≤ 8) (hv : v < 96) : ro v < 0 ↔ ro v = -1 := by
  constructor
  · intro q
    apply Classical.byContradiction
    intro hn
    obtain ⟨r, _, _, e⟩ := zm_rng h h8 hv hn
    rw [e] at q; exact absurd q (nI_pos (by omega))
  · intro q; rw [q]; decide
section
variable {ct ms gv sz dp ch cv bs rc mz ls tc rd pc ps : Int32} {tk wa sp ip op tg fi se hz lt lq ik kv sa ve vf vs vt vc la lu bg en ro hq mo mt mf mq pv ce fn va rg : Nat → Int32} {ll lh : Nat → Int64}
variable {post : SX → Prop} {n rn k : Nat}
theorem zm_em {o d a b : Int32} (hk : k < 2048) (ho : 0 ≤ o ∧ o ≤ 127) (hd : 0 ≤ d ∧ d ≤ 32767) (hb : 0 ≤ b ∧ b ≤ 32767)
    (H : ∀ mo' mt' mf' mq', zo_ag k mo mt mf mq mo' mt' mf' mq' → zc_ins mo' mt' mf' mq' k o d a b → post (ct, ms, gv, sz, dp, ch, cv, bs, rc, nI (k + 1), ls, tc, rd, pc, ps, tk, wa, sp, ip, op, tg, fi, se, hz, lt, lq, ik, kv, sa, ve, vf, vs, vt, vc, ll, lh, la, lu, bg, en, ro, hq, mo', mt', mf', mq', pv, ce, fn, va, rg)) : wpX_emitMachine post (ct, ms, gv, sz, dp, ch, cv, bs, rc, nI k, ls, tc, rd, pc, ps, tk, wa, sp, ip, op, tg, fi, se, hz, lt, lq, ik, kv, sa, ve, vf, vs, vt, vc, ll, lh, la, lu, bg, en, ro, hq, mo, mt, mf, mq, pv, ce, fn, va, rg) o d a b := by
  have hc : (nI k).toNatClampNeg = k := nI_clamp (by omega)
  have m1 : (-1 : Int32) ≤ 0 := by decide
  have hi : vp_in (nI k) 2048 := vp_in_nI hk (by decide)
  unfold wpX_emitMachine
  refine ⟨hi, nm_r (e' := upd mo k o) ?_ ⟨hi, nm_r (e' := upd mt k d) ?_ ⟨hi, nm_r (e' := upd mf k a) ?_ ⟨hi, nm_r (e' := upd mq k b) ?_ (nm_r (nI_1 k) (H _ _ _ _ (fun i hi => ?_) ⟨zq_us, zq_us, zq_us, zq_us⟩))⟩⟩⟩⟩
  · rw [hc, pk_vb, zn_b (Int32.le_trans m1 ho.1) ho.2]
  · rw [hc, pk_vs, zn_s (Int32.le_trans m1 hd.1) hd.2]
  · rw [hc]
  · rw [hc, pk_vs, zn_s (Int32.le_trans m1 hb.1) hb.2]
  · have : i ≠ k := by omega
    rw [zq_un this, zq_un this, zq_un this, zq_un this]; exact ⟨rfl, rfl, rfl, rfl⟩
theorem zm_fetched {P : Int32 → SX → Prop} {v s : Nat} (hk : k < 2048) (hv : v < 96) (hs : s < 2) (hro : zm_ro rn ro) (h8 : rn ≤ 8)
    (H0 : ¬ ro v = -1 → P (ro v) (ct, ms, gv, sz, dp, ch, cv, bs, rc, nI k, ls, tc, rd, pc, ps, tk, wa, sp, ip, op, tg, fi, se, hz, lt, lq, ik, kv, sa, ve, vf, vs, vt, vc, ll, lh, la, lu, bg, en, ro, hq, mo, mt, mf, mq, pv, ce, fn, va, rg))
    (H1 : ro v = -1 → ∀ mo' mt' mf' mq', zo_ag k mo mt mf mq mo' mt' mf' mq' → zc_ins mo' mt' mf' mq' k 22 (nI s) (nI v) 0 → P (nI s) (ct, ms, gv, sz, dp, ch, cv, bs, rc, nI (k + 1), ls, tc, rd, pc, ps, tk, wa, sp, ip, op, tg, fi, se, hz, lt, lq, ik, kv, sa, ve, vf, vs, vt, vc, ll, lh, la, lu, bg, en, ro, hq, mo', mt', mf', mq', pv, ce, fn, va, rg)) :
    wpX_fetched P (ct, ms, gv, sz, dp, ch, cv, bs, rc, nI k, ls, tc, rd, pc, ps, tk, wa, sp, ip, op, tg, fi, se, hz, lt, lq, ik, kv, sa, ve, vf, vs, vt, vc, ll, lh, la, lu, bg, en, ro, hq, mo, mt, mf, mq, pv, ce, fn, va, rg) (nI v) (nI s) := by
  have hcv : (nI v).toNatClampNeg = v := nI_clamp (by omega)
  have hin : vp_in (nI v) 96 := vp_in_nI hv (by decide)
  unfold wpX_fetched
  rw [hcv]
  refine ⟨hin, br_c (fun h => zm_em hk (by decide) (zo_r0 (by omega)) (by decide) (fun mo' mt' mf' mq' ag i => H1 ((zm_lt0 hro h8 hv).mp h) _ _ _ _ ag i)) (fun h => ⟨hin, H0 (fun q => h ((zm_lt0 hro h8 hv).mpr q))⟩)⟩
theorem zx_bm11 (hwf : zq_wf n op tg fi se hz) (hro : zm_ro rn ro) (h8 : rn ≤ 8)
    (H : ∀ mo' mt' mf' mq', (∀ i, i < n → zm_C op tg fi se ro mo' mt' mf' mq' (zm_st op tg fi se ro i) i) → post (ct, ms, gv, nI n, dp, ch, cv, bs, rc, nI (zm_st op tg fi se ro n), ls, tc, rd, pc, ps, tk, wa, sp, ip, op, tg, fi, se, hz, lt, lq, ik, kv, sa, ve, vf, vs, vt, vc, ll, lh, la, lu, bg, en, ro, hq, mo', mt', mf', mq', pv, ce, fn, va, rg)) :
    ∀ d i mo mt mf mq, i + d = n → (∀ j, j < i → zm_C op tg fi se ro mo mt mf mq (zm_st op tg fi se ro j) j) → wX_buildMachine_11 post (d + 1) (nI i) ct ms gv (nI n) dp ch cv bs rc (nI (zm_st op tg fi se ro i)) ls tc rd pc ps tk wa sp ip op tg fi se hz lt lq ik kv sa ve vf vs vt vc ll lh la lu bg en ro hq mo mt mf mq pv ce fn va rg := by
  have w1 := hwf.1
  intro d
  induction d with
  | zero =>
    intro i mo mt mf mq hi hC
    obtain rfl : i = n := by omega
    exact br_t (nI_le (Nat.le_refl _) (by omega)) (H _ _ _ _ hC)
  | succ d ih =>
    intro i mo mt mf mq hi hC
    have hci : (nI i).toNatClampNeg = i := nI_clamp (by omega)
    have hin : vp_in (nI i) 512 := vp_in_nI (by omega) (by decide)
    obtain ⟨v1, v2, v3, v4, v5, v6⟩ := hwf.2.1 i (by omega)
    have h4 := zm_st4 (op := op) (tg := tg) (fi := fi) (se := se) (ro := ro) i
    have l1 := zm_le1 (op := op) (fi := fi) (ro := ro) (i := i)
    have l2 := zm_le2 (op := op) (se := se) (ro := ro) (i := i)
    have hop : 0 ≤ op i ∧ op i ≤ 127 := ⟨v1.1, Int32.le_trans v1.2 (by decide)⟩
    have htl : 0 ≤ tg i ∧ tg i ≤ 32767 := zo_rt v2
    have rr : ∀ v, v < 96 → ¬ ro v = -1 → 0 ≤ ro v ∧ ro v ≤ 32767 := by
      intro v hv hn
      obtain ⟨r, _, h, e⟩ := zm_rng hro h8 hv hn
      rw [e]; exact zo_r0 (by omega)
    -- the end of an instruction
    have k76 : ∀ mo1 mt1 mf1 mq1, zo_ag (zm_st op tg fi se ro i) mo mt mf mq mo1 mt1 mf1 mq1 → (zm_a1 op fi ro i = 1 → zc_ins mo1 mt1 mf1 mq1 (zm_st op tg fi se ro i) 22 0 (fi i) 0) →
        (zm_a2 op se ro i = 1 → zc_ins mo1 mt1 mf1 mq1 (zm_st op tg fi se ro i + zm_a1 op fi ro i) 22 1 (se i) 0) →
        wX_buildMachine_76 post (wX_buildMachine_11 post (d + 1)) (nI i) (op i) (zm_A op fi ro i) (zm_B op se ro i) ct ms gv (nI n) dp ch cv bs rc (nI (zm_st op tg fi se ro i + zm_a1 op fi ro i + zm_a2 op se ro i)) ls tc rd pc ps tk wa sp ip op tg fi se hz lt lq ik kv sa ve vf vs vt vc ll lh la lu bg en ro hq mo1 mt1 mf1 mq1 pv ce fn va rg := by
      intro mo1 mt1 mf1 mq1 ag1 i1 i2
      have hB : 0 ≤ zm_B op se ro i ∧ zm_B op se ro i ≤ 32767 := by
        unfold zm_B
        by_cases r2 : zq_r2 (op i)
        · rw [if_pos r2]
          by_cases e : ro (se i).toNatClampNeg = -1
          · rw [if_pos e]; decide
          · rw [if_neg e]; exact rr _ (zk_clin v5.1 v5.2) e
        · rw [if_neg r2]; decide
      have nxt : ∀ mo2 mt2 mf2 mq2, zo_ag (zm_st op tg fi se ro i + zm_a1 op fi ro i + zm_a2 op se ro i) mo1 mt1 mf1 mq1 mo2 mt2 mf2 mq2 →
          zc_ins mo2 mt2 mf2 mq2 (zm_st op tg fi se ro i + zm_a1 op fi ro i + zm_a2 op se ro i) (op i) (zm_d op tg ro i) (zm_A op fi ro i) (zm_B op se ro i) →
          (zm_a3 op tg ro i = 1 → zc_ins mo2 mt2 mf2 mq2 (zm_st op tg fi se ro i + zm_a1 op fi ro i + zm_a2 op se ro i + 1) 23 (tg i) 0 0) →
          ∀ z, z = zm_st op tg fi se ro (i + 1) → wX_buildMachine_11 post (d + 1) (nI (i + 1)) ct ms gv (nI n) dp ch cv bs rc (nI z) ls tc rd pc ps tk wa sp ip op tg fi se hz lt lq ik kv sa ve vf vs vt vc ll lh la lu bg en ro hq mo2 mt2 mf2 mq2 pv ce fn va rg := by
        intro mo2 mt2 mf2 mq2 ag2 i3 i4 z hz1
        subst hz1
        refine ih (i + 1) _ _ _ _ (by omega) (fun j hj => ?_)
        by_cases e : j = i
        · subst e
          exact ⟨fun q => zo_ins ag2 (by omega) (i1 q), fun q => zo_ins ag2 (by omega) (i2 q), i3, i4⟩
        · have hm := zm_stm (op := op) (tg := tg) (fi := fi) (se := se) (ro := ro) (show j + 1 ≤ i by omega)
          simp only [zm_st] at hm
          exact zm_Cm (zo_agt ag1 ag2 (by omega)) (by omega) (hC j (by omega))
      unfold wX_buildMachine_76
      rw [hci]
      refine zx_writes (zb_br (fun nw => ⟨hin, ?_⟩) (fun w => ⟨hin, zk_vin ⟨v2.1, v3 w⟩, nm_e ?_⟩))
      · have ed : zm_d op tg ro i = tg i := if_neg nw
        have e3 : zm_a3 op tg ro i = 0 := if_neg (fun q => nw q.1)
        refine zm_em (by omega) hop htl hB (fun mo2 mt2 mf2 mq2 ag2 i3 => nm_r (nI_1 i) (nxt _ _ _ _ ag2 (by rw [ed]; exact i3) (fun q => by omega) _ ?_))
        simp only [zm_st]; omega
      · have htv := zk_clin v2.1 (v3 w)
        by_cases e : ro (tg i).toNatClampNeg = -1
        · have ed : zm_d op tg ro i = 0 := by unfold zm_d; rw [if_pos w, if_pos e]
          have e3 : zm_a3 op tg ro i = 1 := if_pos ⟨w, e⟩
          rw [e]
          unfold wX_buildMachine_111
          refine br_f (by decide) (zm_em (by omega) hop (by decide) hB (fun mo2 mt2 mf2 mq2 ag2 i3 => br_f (by decide) ?_))
          rw [hci]
          refine ⟨hin, zm_em (k := zm_st op tg fi se ro i + zm_a1 op fi ro i + zm_a2 op se ro i + 1) (by omega) (by decide) htl (by decide) (fun mo3 mt3 mf3 mq3 ag3 i4 => nm_r (nI_1 i) (nxt _ _ _ _ (zo_agt ag2 ag3 (by omega)) (by rw [ed]; exact zo_ins ag3 (by omega) i3) (fun _ => i4) _ ?_))⟩
          simp only [zm_st]; omega
        · have ed : zm_d op tg ro i = ro (tg i).toNatClampNeg := by unfold zm_d; rw [if_pos w, if_neg e]
          have e3 : zm_a3 op tg ro i = 0 := if_neg (fun q => e q.2)
          have hr0 := rr _ htv e
          unfold wX_buildMachine_111
          refine br_t hr0.1 (zm_em (by omega) hop hr0 hB (fun mo2 mt2 mf2 mq2 ag2 i3 => br_t hr0.1 (nm_r (nI_1 i) (nxt _ _ _ _ ag2 (by rw [ed]; exact i3) (fun q => by omega) _ ?_))))
          simp only [zm_st]; omega
    have k53 : ∀ mo1 mt1 mf1 mq1, zo_ag (zm_st op tg fi se ro i) mo mt mf mq mo1 mt1 mf1 mq1 → (zm_a1 op fi ro i = 1 → zc_ins mo1 mt1 mf1 mq1 (zm_st op tg fi se ro i) 22 0 (fi i) 0) →
        wX_buildMachine_53 post (wX_buildMachine_11 post (d + 1)) (nI i) (op i) (zm_A op fi ro i) ct ms gv (nI n) dp ch cv bs rc (nI (zm_st op tg fi se ro i + zm_a1 op fi ro i)) ls tc rd pc ps tk wa sp ip op tg fi se hz lt lq ik kv sa ve vf vs vt vc ll lh la lu bg en ro hq mo1 mt1 mf1 mq1 pv ce fn va rg := by
      intro mo1 mt1 mf1 mq1 ag1 i1
      unfold wX_buildMachine_53
      rw [hci]
      refine zx_readsSecond (zb_br (fun nr => ?_) (fun r => ⟨hin, ?_⟩))
      · have e2 : zm_a2 op se ro i = 0 := if_neg (fun q => nr q.1)
        have eB : zm_B op se ro i = 0 := if_neg nr
        have := k76 mo1 mt1 mf1 mq1 ag1 i1 (fun q => by omega)
        rw [e2, eB] at this; exact this
      · obtain ⟨v, hv, ev, ev2⟩ := zx_nf v5
        rw [ev]
        refine zm_fetched (s := 1) (by omega) hv (by decide) hro h8 (fun hn => ?_) (fun he mo2 mt2 mf2 mq2 ag2 i2 => ?_)
        · rw [← ev2] at hn ⊢
          have e2 : zm_a2 op se ro i = 0 := if_neg (fun q => hn q.2)
          have eB : zm_B op se ro i = ro (se i).toNatClampNeg := by unfold zm_B; rw [if_pos r, if_neg hn]
          have := k76 mo1 mt1 mf1 mq1 ag1 i1 (fun q => by omega)
          rw [e2, eB] at this; exact this
        · rw [← ev2] at he
          have e2 : zm_a2 op se ro i = 1 := if_pos ⟨r, he⟩
          have eB : zm_B op se ro i = 1 := by unfold zm_B; rw [if_pos r, if_pos he]
          have := k76 mo2 mt2 mf2 mq2 (zo_agt ag1 ag2 (by omega)) (fun q => zo_ins ag2 (by omega) (i1 q)) (fun _ => by rw [ev]; exact i2)
          rw [e2, eB] at this; exact this
    refine br_f (nI_ge (by omega) (by omega)) ?_
    rw [hci]
    refine ⟨hin, nm_r (e' := op i) rfl (zx_readsFirst (zb_br (fun nr => ⟨hin, ?_⟩) (fun r => ⟨hin, ?_⟩)))⟩
    · have e1 : zm_a1 op fi ro i = 0 := if_neg (fun q => nr q.1)
      have eA : zm_A op fi ro i = fi i := if_neg nr
      have := k53 mo mt mf mq zo_agr (fun q => by omega)
      rw [e1, eA] at this; exact this
    · obtain ⟨v, hv, ev, ev2⟩ := zx_nf (v4 r)
      rw [ev]
      refine zm_fetched (s := 0) (by omega) hv (by decide) hro h8 (fun hn => ?_) (fun he mo2 mt2 mf2 mq2 ag2 i2 => ?_)
      · rw [← ev2] at hn ⊢
        have e1 : zm_a1 op fi ro i = 0 := if_neg (fun q => hn q.2)
        have eA : zm_A op fi ro i = ro (fi i).toNatClampNeg := by unfold zm_A; rw [if_pos r, if_neg hn]
        have := k53 mo mt mf mq zo_agr (fun q => by omega)
        rw [e1, eA] at this; exact this
      · rw [← ev2] at he
        have e1 : zm_a1 op fi ro i = 1 := if_pos ⟨r, he⟩
        have eA : zm_A op fi ro i = 0 := by unfold zm_A; rw [if_pos r, if_pos he]
        have := k53 mo2 mt2 mf2 mq2 ag2 (fun _ => by rw [ev]; exact i2)
        rw [e1, eA] at this; exact this
theorem zx_buildMachine (hwf : zq_wf n op tg fi se hz) (h3 : 3 ≤ rn) (h8 : rn ≤ 8)
    (H : ∀ la' lu' ll' lh' bg' en' ro' hq' mo' mt' mf' mq', zq_LP n op tg fi se hz (fun i v => v < 128 ∧ zv_L ll' lh' i v = true) → zm_ro rn ro' →
      (∀ u v, u < 96 → v < 96 → u ≠ v → ¬ ro' u = -1 → ro' u = ro' v → en' u < bg' v ∨ en' v < bg' u) →
      (∀ i v, i < n → v < 96 → zr_cv (fun i v => v < 128 ∧ zv_L ll' lh' i v = true) op tg bg' en' i v) → (∀ i, i < n → zm_C op tg fi se ro' mo' mt' mf' mq' (zm_st op tg fi se ro' i) i) →
      post (ct, ms, gv, nI n, dp, ch, cv, bs, nI rn, nI (zm_st op tg fi se ro' n), ls, tc, rd, pc, ps, tk, wa, sp, ip, op, tg, fi, se, hz, lt, lq, ik, kv, sa, ve, vf, vs, vt, vc, ll', lh', la', lu', bg', en', ro', hq', mo', mt', mf', mq', pv, ce, fn, va, rg)) :
    wpX_buildMachine post (ct, ms, gv, nI n, dp, ch, cv, bs, nI rn, mz, ls, tc, rd, pc, ps, tk, wa, sp, ip, op, tg, fi, se, hz, lt, lq, ik, kv, sa, ve, vf, vs, vt, vc, ll, lh, la, lu, bg, en, ro, hq, mo, mt, mf, mq, pv, ce, fn, va, rg) := by
  unfold wpX_buildMachine
  refine zx_giveRegisters hwf h3 h8 (fun la' lu' ll' lh' bg' en' ro' hq' hla hLP hro hdis hcv => ⟨n + 1, ?_⟩)
  exact zx_bm11 hwf hro h8 (fun mo' mt' mf' mq' hC => H _ _ _ _ _ _ _ _ _ _ _ _ hLP hro hdis hcv hC) n 0 mo mt mf mq (by omega) (fun j hj => by omega)
end
end
section
/-! running the machine -/
theorem zm_inv {op tg fi se ro : ty_V} : ∀ n k, k < zm_st op tg fi se ro n → ∃ j, j < n ∧ zm_st op tg fi se ro j ≤ k ∧ k < zm_st op tg fi se ro (j + 1) := by
  intro n
  induction n with
  | zero => intro k hk; exact absurd hk (Nat.not_lt_zero _)
  | succ n ih =>
    intro k hk
    by_cases h : k < zm_st op tg fi se ro n
    · obtain ⟨j, a, b, c⟩ := ih k h
      exact ⟨j, by omega, b, c⟩
    · exact ⟨n, by omega, by omega, hk⟩
section
variable {ct ms gv sz dp ch cv bs rc mz ls tc rd pc ps : Int32} {tk wa sp ip op tg fi se hz lt lq ik kv sa ve vf vs vt vc la lu bg en ro hq mo mt mf mq pv ce fn va rg : Nat → Int32} {ll lh : Nat → Int64}
variable {post : SX → Prop} {g n rn : Nat} {R : ty_R} {D : ty_D}
theorem zm_labels (hwf : zq_wf n op tg fi se hz) (hC : ∀ i, i < n → zm_C op tg fi se ro mo mt mf mq (zm_st op tg fi se ro i) i)
    (H : ∀ la', (∀ q, q < n → op q = 20 → la' (tg q).toNatClampNeg = nI (zm_st op tg fi se ro q)) → post (ct, ms, gv, sz, dp, ch, cv, bs, rc, nI (zm_st op tg fi se ro n), ls, tc, rd, pc, ps, tk, wa, sp, ip, op, tg, fi, se, hz, lt, lq, ik, kv, sa, ve, vf, vs, vt, vc, ll, lh, la', lu, bg, en, ro, hq, mo, mt, mf, mq, pv, ce, fn, va, rg)) : wpX_findMachineLabels post (ct, ms, gv, sz, dp, ch, cv, bs, rc, nI (zm_st op tg fi se ro n), ls, tc, rd, pc, ps, tk, wa, sp, ip, op, tg, fi, se, hz, lt, lq, ik, kv, sa, ve, vf, vs, vt, vc, ll, lh, la, lu, bg, en, ro, hq, mo, mt, mf, mq, pv, ce, fn, va, rg) := by
  have w1 := hwf.1
  have h4 := zm_st4 (op := op) (tg := tg) (fi := fi) (se := se) (ro := ro) n
  have lp : ∀ d k la, k + d = zm_st op tg fi se ro n → (∀ q, q < n → op q = 20 → zm_st op tg fi se ro q < k → la (tg q).toNatClampNeg = nI (zm_st op tg fi se ro q)) →
      wX_findMachineLabels_2 post ct ms gv sz dp ch cv bs rc (nI (zm_st op tg fi se ro n)) ls tc rd pc ps (d + 1) (nI k) tk wa sp ip op tg fi se hz lt lq ik kv sa ve vf vs vt vc ll lh la lu bg en ro hq mo mt mf mq pv ce fn va rg := by
    intro d
    induction d with
    | zero =>
      intro k la hk hl
      refine br_t (nI_le (by omega) (by omega)) (H la (fun q hq h20 => hl q hq h20 ?_))
      have := zm_stm (op := op) (tg := tg) (fi := fi) (se := se) (ro := ro) (show q + 1 ≤ n by omega)
      simp only [zm_st] at this; omega
    | succ d ih =>
      intro k la hk hl
      have hck : (nI k).toNatClampNeg = k := nI_clamp (by omega)
      have hin : vp_in (nI k) 2048 := vp_in_nI (by omega) (by decide)
      obtain ⟨j, j1, j2, j3⟩ := zm_inv n k (show k < zm_st op tg fi se ro n by omega)
      obtain ⟨c1, c2, c3, c4⟩ := hC j j1
      simp only [zm_st] at j3
      have l1 := zm_le1 (op := op) (fi := fi) (ro := ro) (i := j)
      have l2 := zm_le2 (op := op) (se := se) (ro := ro) (i := j)
      have l3 := zm_le3 (op := op) (tg := tg) (ro := ro) (i := j)
      have main : mo k = 20 → k = zm_st op tg fi se ro j ∧ op j = 20 ∧ mt k = tg j := by
        intro h20
        rcases (show (zm_a1 op fi ro j = 1 ∧ k = zm_st op tg fi se ro j) ∨ (zm_a2 op se ro j = 1 ∧ k = zm_st op tg fi se ro j + zm_a1 op fi ro j) ∨ k = zm_st op tg fi se ro j + zm_a1 op fi ro j + zm_a2 op se ro j ∨ (zm_a3 op tg ro j = 1 ∧ k = zm_st op tg fi se ro j + zm_a1 op fi ro j + zm_a2 op se ro j + 1) by omega) with ⟨q, e⟩ | ⟨q, e⟩ | e | ⟨q, e⟩
        · rw [e, (c1 q).1] at h20; exact absurd h20 (by decide)
        · rw [e, (c2 q).1] at h20; exact absurd h20 (by decide)
        · have ho : op j = 20 := by rw [← c3.1, ← e]; exact h20
          have e1 : zm_a1 op fi ro j = 0 := if_neg (fun q => by rw [ho] at q; exact absurd q.1 (by decide))
          have e2 : zm_a2 op se ro j = 0 := if_neg (fun q => by rw [ho] at q; exact absurd q.1 (by decide))
          refine ⟨by omega, ho, ?_⟩
          rw [e, c3.2.1]
          exact if_neg (by rw [ho]; decide)
        · rw [e, (c4 q).1] at h20; exact absurd h20 (by decide)
      refine br_f (nI_ge (by omega) (by omega)) ?_
      rw [hck]
      refine ⟨hin, br_c (fun e20 => ?_) (fun n20 => nm_r (nI_1 k) (ih (k + 1) la (by omega) (fun q hq h20 hlt => ?_)))⟩
      · obtain ⟨m1, m2, m3⟩ := main e20
        rw [m3]
        refine ⟨hin, zk_vp (hwf.2.1 j j1).2.1, nm_r (e' := upd la (tg j).toNatClampNeg (nI k)) (by rw [pk_vs, zn_sN (by omega)]) (nm_r (nI_1 k) (ih (k + 1) _ (by omega) (fun q hq h20 hlt => ?_)))⟩
        by_cases e : q = j
        · subst e; rw [zq_us, m1]
        · have hne : (tg q).toNatClampNeg ≠ (tg j).toNatClampNeg := fun h => e (hwf.2.2.2 q j hq j1 h20 m2 (zk_clinj (hwf.2.1 q hq).2.1.1 (hwf.2.1 j j1).2.1.1 h))
          rw [zq_un hne]
          refine hl q hq h20 ?_
          rcases Nat.lt_or_ge q j with h | h
          · have := zm_stm (op := op) (tg := tg) (fi := fi) (se := se) (ro := ro) (show q + 1 ≤ j by omega)
            simp only [zm_st] at this; omega
          · have := zm_stm (op := op) (tg := tg) (fi := fi) (se := se) (ro := ro) (show j + 1 ≤ q by omega)
            simp only [zm_st] at this; omega
      · refine hl q hq h20 ?_
        rcases Nat.lt_or_ge (zm_st op tg fi se ro q) k with h | h
        · exact h
        · exfalso
          have e : zm_st op tg fi se ro q = k := by omega
          have e1 : zm_a1 op fi ro q = 0 := if_neg (fun x => by rw [h20] at x; exact absurd x.1 (by decide))
          have e2 : zm_a2 op se ro q = 0 := if_neg (fun x => by rw [h20] at x; exact absurd x.1 (by decide))
          have := (hC q hq).2.2.1.1
          rw [e1, e2] at this
          simp only [Nat.add_zero] at this
          rw [e, h20] at this
          exact n20 this
  unfold wpX_findMachineLabels
  exact ⟨zm_st op tg fi se ro n + 1, lp _ 0 la (by omega) (fun q _ _ h => by omega)⟩
theorem zm_fetch {x1 k s v : Nat} (hx : x1 < 206848) (hk : k < 2048) (hs : s < 8) (hv : v < 96) (h1 : mo k = 22) (h2 : mt k = nI s) (h3 : mf k = nI v)
    (h : wX_runMachine_6 post (210000 - (x1 + 1)) (nI (x1 + 1)) ct ms gv sz dp ch cv bs rc mz 0 tc rd pc (nI (k + 1)) tk wa sp ip op tg fi se hz lt lq ik kv sa ve vf vs vt vc ll lh la lu bg en ro hq mo mt mf mq pv ce fn va (upd rg s (va v))) : wX_runMachine_6 post (210000 - x1) (nI x1) ct ms gv sz dp ch cv bs rc mz 0 tc rd pc (nI k) tk wa sp ip op tg fi se hz lt lq ik kv sa ve vf vs vt vc ll lh la lu bg en ro hq mo mt mf mq pv ce fn va rg := by
  have hck : (nI k).toNatClampNeg = k := nI_clamp (by omega)
  have hin : vp_in (nI k) 2048 := vp_in_nI (by omega) (by decide)
  rw [show 210000 - x1 = (210000 - (x1 + 1)) + 1 by omega]
  refine br_f (nI_ge (b := 206848) hx (by decide)) (br_t rfl ?_)
  rw [hck, h1, h2, h3, nI_clamp (show v < 2 ^ 31 by omega)]
  refine ⟨hin, nm_e ⟨hin, nm_e (br_t rfl ⟨hin, vp_in_nI hv (by decide), vp_in_nI hs (by decide), nm_r (e' := upd rg s (va v)) (by rw [nI_clamp (by omega)]) (nm_r (nI_1 k) (nm_r (nI_1 x1) h))⟩)⟩⟩
theorem zm_keep {x1 k v : Nat} (hx : x1 < 206848) (hk : k < 2048) (hv : v < 96) (h1 : mo k = 23) (h2 : mt k = nI v)
    (h : wX_runMachine_6 post (210000 - (x1 + 1)) (nI (x1 + 1)) ct ms gv sz dp ch cv bs rc mz 0 tc rd pc (nI (k + 1)) tk wa sp ip op tg fi se hz lt lq ik kv sa ve vf vs vt vc ll lh la lu bg en ro hq mo mt mf mq pv ce fn (upd va v (rg 0)) rg) : wX_runMachine_6 post (210000 - x1) (nI x1) ct ms gv sz dp ch cv bs rc mz 0 tc rd pc (nI k) tk wa sp ip op tg fi se hz lt lq ik kv sa ve vf vs vt vc ll lh la lu bg en ro hq mo mt mf mq pv ce fn va rg := by
  have hck : (nI k).toNatClampNeg = k := nI_clamp (by omega)
  have hin : vp_in (nI k) 2048 := vp_in_nI (by omega) (by decide)
  rw [show 210000 - x1 = (210000 - (x1 + 1)) + 1 by omega]
  refine br_f (nI_ge (b := 206848) hx (by decide)) (br_t rfl ?_)
  rw [hck, h1, h2]
  refine ⟨hin, nm_e ⟨hin, nm_e (br_f (by decide) (br_t rfl ⟨vp_in_nI hv (by decide), nm_r (e' := upd va v (rg 0)) (by rw [nI_clamp (by omega)]) (nm_r (nI_1 k) (nm_r (nI_1 x1) h))⟩))⟩⟩
theorem zm_main {x1 k : Nat} {o d x y : Int32} (hg : g ≤ 10) (hD : zs_ok g D) (hx : x1 < 206848) (hk : k < 2048) (ho : o ≤ 21) (h1 : mo k = o) (h2 : mt k = d)
    (hxv : (zq_r1 o → vp_in (mf k) 8 ∧ rg (mf k).toNatClampNeg = x) ∧ (¬ zq_r1 o → mf k = x)) (hyv : (zq_r2 o → vp_in (mq k) 8 ∧ rg (mq k).toNatClampNeg = y) ∧ (¬ zq_r2 o → y = 0))
    (hJ : zq_tk o x → vp_in d 180 ∧ wX_runMachine_6 post (210000 - (x1 + 1)) (nI (x1 + 1)) ct ms (nI g) sz dp ch cv bs rc mz 0 (nI D.2.1) (nI D.2.2.1) (nI D.2.2.2.1) (la d.toNatClampNeg) tk wa sp ip op tg fi se hz lt lq ik kv sa ve vf vs vt vc ll lh la lu bg en ro hq mo mt mf mq D.2.2.2.2 D.1 fn va rg)
    (hE : ¬ zq_tk o x → ¬ zq_end g o x y D = 0 → wX_runMachine_6 post (210000 - (x1 + 1)) (nI (x1 + 1)) ct ms (nI g) sz dp ch cv bs rc mz (zq_end g o x y D) (nI D.2.1) (nI D.2.2.1) (nI D.2.2.2.1) (nI k) tk wa sp ip op tg fi se hz lt lq ik kv sa ve vf vs vt vc ll lh la lu bg en ro hq mo mt mf mq D.2.2.2.2 D.1 fn va rg)
    (hN : ¬ zq_tk o x → zq_end g o x y D = 0 → (¬ zq_wr o → wX_runMachine_6 post (210000 - (x1 + 1)) (nI (x1 + 1)) ct ms (nI g) sz dp ch cv bs rc mz 0 (nI (zq_eff o x y D).2.1) (nI (zq_eff o x y D).2.2.1) (nI (zq_eff o x y D).2.2.2.1) (nI (k + 1)) tk wa sp ip op tg fi se hz lt lq ik kv sa ve vf vs vt vc ll lh la lu bg en ro hq mo mt mf mq ((zq_eff o x y D).2.2.2.2) ((zq_eff o x y D).1) fn va rg) ∧
      (zq_wr o → vp_in d 8 ∧ wX_runMachine_6 post (210000 - (x1 + 1)) (nI (x1 + 1)) ct ms (nI g) sz dp ch cv bs rc mz 0 (nI (zq_eff o x y D).2.1) (nI (zq_eff o x y D).2.2.1) (nI (zq_eff o x y D).2.2.2.1) (nI (k + 1)) tk wa sp ip op tg fi se hz lt lq ik kv sa ve vf vs vt vc ll lh la lu bg en ro hq mo mt mf mq ((zq_eff o x y D).2.2.2.2) ((zq_eff o x y D).1) fn va (upd rg d.toNatClampNeg (zq_res ip o x y D)))) :
    wX_runMachine_6 post (210000 - x1) (nI x1) ct ms (nI g) sz dp ch cv bs rc mz 0 (nI D.2.1) (nI D.2.2.1) (nI D.2.2.2.1) (nI k) tk wa sp ip op tg fi se hz lt lq ik kv sa ve vf vs vt vc ll lh la lu bg en ro hq mo mt mf mq D.2.2.2.2 D.1 fn va rg := by
  have hck : (nI k).toNatClampNeg = k := nI_clamp (by omega)
  have hin : vp_in (nI k) 2048 := vp_in_nI (by omega) (by decide)
  have n22 : ¬ o = 22 := fun e => absurd (e ▸ ho) (by decide)
  have n23 : ¬ o = 23 := fun e => absurd (e ▸ ho) (by decide)
  have k59 : ∀ K : SX → Prop, (∀ u, K u = K u) → ((zq_tk o x → K (ct, ms, nI g, sz, dp, ch, cv, bs, rc, mz, 0, nI D.2.1, nI D.2.2.1, nI D.2.2.2.1, la d.toNatClampNeg, tk, wa, sp, ip, op, tg, fi, se, hz, lt, lq, ik, kv, sa, ve, vf, vs, vt, vc, ll, lh, la, lu, bg, en, ro, hq, mo, mt, mf, mq, D.2.2.2.2, D.1, fn, va, rg)) ∧
      (¬ zq_tk o x → ¬ zq_end g o x y D = 0 → K (ct, ms, nI g, sz, dp, ch, cv, bs, rc, mz, zq_end g o x y D, nI D.2.1, nI D.2.2.1, nI D.2.2.2.1, nI k, tk, wa, sp, ip, op, tg, fi, se, hz, lt, lq, ik, kv, sa, ve, vf, vs, vt, vc, ll, lh, la, lu, bg, en, ro, hq, mo, mt, mf, mq, D.2.2.2.2, D.1, fn, va, rg)) ∧
      (¬ zq_tk o x → zq_end g o x y D = 0 → (¬ zq_wr o → K (ct, ms, nI g, sz, dp, ch, cv, bs, rc, mz, 0, nI (zq_eff o x y D).2.1, nI (zq_eff o x y D).2.2.1, nI (zq_eff o x y D).2.2.2.1, nI (k + 1), tk, wa, sp, ip, op, tg, fi, se, hz, lt, lq, ik, kv, sa, ve, vf, vs, vt, vc, ll, lh, la, lu, bg, en, ro, hq, mo, mt, mf, mq, (zq_eff o x y D).2.2.2.2, (zq_eff o x y D).1, fn, va, rg)) ∧
        (zq_wr o → K (ct, ms, nI g, sz, dp, ch, cv, bs, rc, mz, 0, nI (zq_eff o x y D).2.1, nI (zq_eff o x y D).2.2.1, nI (zq_eff o x y D).2.2.2.1, nI (k + 1), tk, wa, sp, ip, op, tg, fi, se, hz, lt, lq, ik, kv, sa, ve, vf, vs, vt, vc, ll, lh, la, lu, bg, en, ro, hq, mo, mt, mf, mq, (zq_eff o x y D).2.2.2.2, (zq_eff o x y D).1, fn, va, upd rg d.toNatClampNeg (zq_res ip o x y D))))) →
      wX_stepMachine_59 K o d x y ct ms (nI g) sz dp ch cv bs rc mz 0 (nI D.2.1) (nI D.2.2.1) (nI D.2.2.2.1) (nI k) tk wa sp ip op tg fi se hz lt lq ik kv sa ve vf vs vt vc ll lh la lu bg en ro hq mo mt mf mq D.2.2.2.2 D.1 fn va rg := by
    intro K _ hK
    obtain ⟨q1, q2, q3⟩ := hK
    unfold wX_stepMachine_59
    refine zx_takesJump (zb_br (fun nt => ?_) (fun ht => ⟨(hJ ht).1, nm_e (q1 ht)⟩))
    refine zr_ends hg hD (fun he => br_t rfl (zr_carry hg hD he (zx_writes (zb_br (fun nw => nm_r (nI_1 k) ((q3 nt he).1 nw)) (fun w => ⟨((hN nt he).2 w).1, nm_e (nm_r (nI_1 k) ((q3 nt he).2 w))⟩))))) (fun he => br_f (by decide) (q2 nt he))
  rw [show 210000 - x1 = (210000 - (x1 + 1)) + 1 by omega]
  refine br_f (nI_ge (b := 206848) hx (by decide)) (br_t rfl ?_)
  rw [hck, h1, h2]
  refine ⟨hin, nm_e ⟨hin, nm_e (br_f n22 (br_f n23 ?_))⟩⟩
  have fin := fun K hK => k59 K (fun _ => rfl) hK
  have k33 : ∀ K : SX → Prop, wX_stepMachine_59 K o d x y ct ms (nI g) sz dp ch cv bs rc mz 0 (nI D.2.1) (nI D.2.2.1) (nI D.2.2.2.1) (nI k) tk wa sp ip op tg fi se hz lt lq ik kv sa ve vf vs vt vc ll lh la lu bg en ro hq mo mt mf mq D.2.2.2.2 D.1 fn va rg → wX_stepMachine_33 K o d x ct ms (nI g) sz dp ch cv bs rc mz 0 (nI D.2.1) (nI D.2.2.1) (nI D.2.2.2.1) (nI k) tk wa sp ip op tg fi se hz lt lq ik kv sa ve vf vs vt vc ll lh la lu bg en ro hq mo mt mf mq D.2.2.2.2 D.1 fn va rg := by
    intro K hK
    unfold wX_stepMachine_33
    rw [hck]
    refine zx_readsSecond (zb_br (fun nr => ?_) (fun r => ⟨hin, (hyv.1 r).1, ?_⟩))
    · rw [hyv.2 nr] at hK; exact hK
    · rw [(hyv.1 r).2]; exact hK
  unfold wpX_stepMachine
  dsimp only
  rw [hck]
  refine zx_readsFirst (zb_br (fun nr => ⟨hin, ?_⟩) (fun r => ⟨hin, (hxv.1 r).1, ?_⟩))
  · rw [hxv.2 nr]
    exact k33 _ (fin _ ⟨fun ht => nm_r (nI_1 x1) (hJ ht).2, fun nt he => nm_r (nI_1 x1) (hE nt he), fun nt he => ⟨fun nw => nm_r (nI_1 x1) ((hN nt he).1 nw), fun w => nm_r (nI_1 x1) ((hN nt he).2 w).2⟩⟩)
  · rw [(hxv.1 r).2]
    exact k33 _ (fin _ ⟨fun ht => nm_r (nI_1 x1) (hJ ht).2, fun nt he => nm_r (nI_1 x1) (hE nt he), fun nt he => ⟨fun nw => nm_r (nI_1 x1) ((hN nt he).1 nw), fun w => nm_r (nI_1 x1) ((hN nt he).2 w).2⟩⟩)
end
end
section
def zm_rel (L : Nat → Nat → Prop) (ro : ty_V) (p : Nat) (V va rg : ty_V) : Prop := ∀ v, v < 96 → L p v → (ro v = -1 → va v = V v) ∧ (∀ r, r < 8 → ro v = nI r → rg r = V v)
theorem zm_r2 {rn v r : Nat} {ro : ty_V} (hro : zm_ro rn ro) (h8 : rn ≤ 8) (hv : v < 96) (hr : r < 8) (he : ro v = nI r) : 2 ≤ r := by
  rcases hro v hv with e | ⟨r', a, b', c⟩
  · rw [e] at he; exact absurd he (zr_m1 (by omega))
  · have : r = r' := (nI_eq (by omega) (by omega)).mp (he.symm.trans c)
    omega
theorem zm_relm {L : Nat → Nat → Prop} {rn p q : Nat} {ro V va rg rg2 : ty_V} (hro : zm_ro rn ro) (h8 : rn ≤ 8) (h : zm_rel L ro p V va rg) (hrg : ∀ r, 2 ≤ r → rg2 r = rg r) (hL : ∀ v, L q v → L p v) : zm_rel L ro q V va rg2 := by
  intro v hv hl
  obtain ⟨r1, r2⟩ := h v hv (hL v hl)
  exact ⟨r1, fun r hr he => by rw [hrg r (zm_r2 hro h8 hv hr he)]; exact r2 r hr he⟩
theorem zm_relk {L : Nat → Nat → Prop} {rn p q t : Nat} {x : Int32} {ro V va rg rg2 : ty_V} (hro : zm_ro rn ro) (h8 : rn ≤ 8) (h : zm_rel L ro p V va rg) (hrg : ∀ r, 2 ≤ r → rg2 r = rg r) (er : ro t = -1)
    (hL : ∀ v, L q v → v ≠ t → L p v) : zm_rel L ro q (upd V t x) (upd va t (upd rg2 0 x 0)) (upd rg2 0 x) := by
  intro v hv hl
  by_cases ev : v = t
  · subst ev
    rw [zq_us, zq_us, zq_us]
    exact ⟨fun _ => rfl, fun r hr he' => absurd (er.symm.trans he') (zr_m1 (by omega))⟩
  · obtain ⟨r1, r2⟩ := h v hv (hL v hl ev)
    rw [zq_un ev, zq_un ev]
    refine ⟨r1, fun r hr he => ?_⟩
    have := zm_r2 hro h8 hv hr he
    rw [zq_un (by omega), hrg r this]; exact r2 r hr he
theorem zm_relr {L : Nat → Nat → Prop} {rn p q t rt : Nat} {x : Int32} {ro V va rg rg2 : ty_V} (hro : zm_ro rn ro) (h8 : rn ≤ 8) (h : zm_rel L ro p V va rg) (hrg : ∀ r, 2 ≤ r → rg2 r = rg r) (rt8 : rt < 8) (er : ro t = nI rt)
    (hL : ∀ v, L q v → v ≠ t → L p v) (hd : ∀ v, v < 96 → L q v → v ≠ t → ¬ ro v = nI rt) : zm_rel L ro q (upd V t x) va (upd rg2 rt x) := by
  intro v hv hl
  by_cases ev : v = t
  · subst ev
    rw [zq_us]
    refine ⟨fun q => absurd (q.symm.trans er) (zr_m1 (by omega)), fun r hr he' => ?_⟩
    have : r = rt := (nI_eq (by omega) (by omega)).mp (he'.symm.trans er)
    subst this
    rw [zq_us]
  · obtain ⟨r1, r2⟩ := h v hv (hL v hl ev)
    rw [zq_un ev]
    refine ⟨r1, fun r hr he => ?_⟩
    have h2 := zm_r2 hro h8 hv hr he
    have hne : r ≠ rt := fun q => hd v hv hl ev (by rw [he, q])
    rw [zq_un hne, hrg r h2]; exact r2 r hr he
theorem zm_q0 {n p b x1 x2 : Nat} (hx2 : x2 ≤ x1 + 2) (hx : x1 + 4 * ((n - p) + b * n) ≤ 204800) : x2 + 1 < 206848 := by omega
theorem zm_q1 {n p b x1 x2 : Nat} (hx2 : x2 ≤ x1 + 2) (h1 : p < n) (hx : x1 + 4 * ((n - p) + b * n) ≤ 204800) : x2 + 1 + 4 * ((n - (p + 1)) + b * n) ≤ 204800 := by omega
theorem zm_q2 {n p b x1 x2 : Nat} (hx2 : x2 ≤ x1 + 2) (h1 : p < n) (hx : x1 + 4 * ((n - p) + b * n) ≤ 204800) : x2 + 1 + 1 + 4 * ((n - (p + 1)) + b * n) ≤ 204800 := by omega
theorem zm_q3 {n p q b x1 x2 : Nat} (hx2 : x2 ≤ x1 + 2) (h1 : p < n) (hq : p < q) (hx : x1 + 4 * ((n - p) + b * n) ≤ 204800) : x2 + 1 + 4 * ((n - q) + b * n) ≤ 204800 := by omega
theorem zm_q4 {n p q c x1 x2 : Nat} (hx2 : x2 ≤ x1 + 2) (h1 : p < n) (hx : x1 + 4 * ((n - p) + (c + 1) * n) ≤ 204800) : x2 + 1 + 4 * ((n - q) + c * n) ≤ 204800 := by
  rw [Nat.add_mul, Nat.one_mul] at hx
  generalize c * n = z at *
  omega
theorem zm_rx {L : Nat → Nat → Prop} {rn p : Nat} {op fi ro V va rg : ty_V} {i : Nat} (hro : zm_ro rn ro) (h8 : rn ≤ 8) (h : zm_rel L ro p V va rg) (hv : (fi i).toNatClampNeg < 96) (hl : L p (fi i).toNatClampNeg) (r : zq_r1 (op i)) (hn : ¬ ro (fi i).toNatClampNeg = -1) :
    (zm_A op fi ro i).toNatClampNeg ≠ 1 ∧ vp_in (zm_A op fi ro i) 8 ∧ rg (zm_A op fi ro i).toNatClampNeg = V (fi i).toNatClampNeg := by
  obtain ⟨rt, rt2, rt8, ert⟩ := zm_rng hro h8 hv hn
  have eA : zm_A op fi ro i = nI rt := by unfold zm_A; rw [if_pos r, if_neg hn]; exact ert
  rw [eA, nI_clamp (by omega)]
  exact ⟨by omega, vp_in_nI rt8 (by decide), (h _ hv hl).2 rt rt8 ert⟩
theorem zm_ry {L : Nat → Nat → Prop} {rn p : Nat} {op se ro V va rg rg1 : ty_V} {i : Nat} (hro : zm_ro rn ro) (h8 : rn ≤ 8) (h : zm_rel L ro p V va rg) (hrg : ∀ r, 2 ≤ r → rg1 r = rg r) (hv : (se i).toNatClampNeg < 96) (hl : L p (se i).toNatClampNeg) (r : zq_r2 (op i)) (hn : ¬ ro (se i).toNatClampNeg = -1) :
    vp_in (zm_B op se ro i) 8 ∧ rg1 (zm_B op se ro i).toNatClampNeg = V (se i).toNatClampNeg := by
  obtain ⟨rt, rt2, rt8, ert⟩ := zm_rng hro h8 hv hn
  have eB : zm_B op se ro i = nI rt := by unfold zm_B; rw [if_pos r, if_neg hn]; exact ert
  rw [eB, nI_clamp (by omega), hrg rt rt2]
  exact ⟨vp_in_nI rt8 (by decide), (h _ hv hl).2 rt rt8 ert⟩
section
variable {ct ms gv sz dp ch cv bs rc mz ls tc rd pc ps : Int32} {tk wa sp ip op tg fi se hz lt lq ik kv sa ve vf vs vt vc la lu bg en ro hq mo mt mf mq pv ce fn va rg : Nat → Int32} {ll lh : Nat → Int64}
variable {post : SX → Prop} {g n rn : Nat} {R : ty_R} {A : Nat → ty_V → ty_D → Prop} {L : Nat → Nat → Prop}
theorem zm_dj {p u t : Nat} (hp : p < 900) (h1 : zr_cv L op tg bg en p u) (h2 : zr_cv L op tg bg en p t) (q1 : L p u ∨ (zq_wr (op p) ∧ tg p = nI u)) (q2 : L p t ∨ (zq_wr (op p) ∧ tg p = nI t))
    (h : en u < bg t ∨ en t < bg u) : False := by
  obtain ⟨b1, e1, a1, a2, a3, a4, a5⟩ := h1 q1
  obtain ⟨b2, e2, c1, c2, c3, c4, c5⟩ := h2 q2
  rcases h with h | h
  · rw [a2, c1, nI_ltI (by omega) (by omega)] at h; omega
  · rw [c2, a1, nI_ltI (by omega) (by omega)] at h; omega
/-- the instruction itself, once the operands are there -/
theorem zm_ins {p b x1 x2 k : Nat} {V : ty_V} {D : ty_D} {rg2 : ty_V} (hg : g ≤ 10) (hwf : zq_wf n op tg fi se hz) (h8 : rn ≤ 8) (hLP : zq_LP n op tg fi se hz L) (hro : zm_ro rn ro)
    (hdis : ∀ u v, u < 96 → v < 96 → u ≠ v → ¬ ro u = -1 → ro u = ro v → en u < bg v ∨ en v < bg u) (hcv : ∀ i v, i < n → v < 96 → zr_cv L op tg bg en i v)
    (hC : ∀ i, i < n → zm_C op tg fi se ro mo mt mf mq (zm_st op tg fi se ro i) i) (hla : ∀ q, q < n → op q = 20 → la (tg q).toNatClampNeg = nI (zm_st op tg fi se ro q))
    (fin : ∀ (va rg : ty_V) (ps : Int32), (∀ v, v < 6 → (ro v = -1 → va v = R.2.1 v) ∧ (∀ r, r < 8 → ro v = nI r → rg r = R.2.1 v)) → ∃ k, wX_runMachine_124 post ct ms (nI g) sz dp ch cv bs rc mz R.1 (nI R.2.2.2.1) (nI R.2.2.2.2.1) (nI R.2.2.2.2.2.1) ps k 0 tk wa sp ip op tg fi se hz lt lq ik kv sa ve vf vs vt vc ll lh la lu bg en ro hq mo mt mf mq R.2.2.2.2.2.2 R.2.2.1 fn va rg)
    (ih : ∀ b p V D x1 va rg, zq_ex g ip n op tg fi se (zq_hm g op fi se hz) R k b p V D → zs_ok g D → x1 + 4 * ((n - p) + b * n) ≤ 204800 → zm_rel L ro p V va rg →
      wX_runMachine_6 post (210000 - x1) (nI x1) ct ms (nI g) sz dp ch cv bs rc mz 0 (nI D.2.1) (nI D.2.2.1) (nI D.2.2.2.1) (nI (zm_st op tg fi se ro p)) tk wa sp ip op tg fi se hz lt lq ik kv sa ve vf vs vt vc ll lh la lu bg en ro hq mo mt mf mq D.2.2.2.2 D.1 fn va rg)
    (h1 : p < n) (h2 : zq_hm g op fi se hz p V D)
    (h3 : zq_sb g ip (op p) (tg p) (fi p) (se p) V D
      (fun l => ∃ q, q < n ∧ op q = 20 ∧ tg q = l ∧ ((p < q ∧ zq_ex g ip n op tg fi se (zq_hm g op fi se hz) R k b q V D) ∨ (q ≤ p ∧ ∃ c, b = c + 1 ∧ zq_ex g ip n op tg fi se (zq_hm g op fi se hz) R k c q V D)))
      (zq_fin R V D) (fun W E => zq_ex g ip n op tg fi se (zq_hm g op fi se hz) R k b (p + 1) W E))
    (hD : zs_ok g D) (hx : x1 + 4 * ((n - p) + b * n) ≤ 204800) (hrel : zm_rel L ro p V va rg) (hx2 : x2 ≤ x1 + 2) (hrg : ∀ r, 2 ≤ r → rg2 r = rg r)
    (hA : zq_r1 (op p) → vp_in (zm_A op fi ro p) 8 ∧ rg2 (zm_A op fi ro p).toNatClampNeg = V (fi p).toNatClampNeg)
    (hB : zq_r2 (op p) → vp_in (zm_B op se ro p) 8 ∧ rg2 (zm_B op se ro p).toNatClampNeg = V (se p).toNatClampNeg) :
    wX_runMachine_6 post (210000 - x2) (nI x2) ct ms (nI g) sz dp ch cv bs rc mz 0 (nI D.2.1) (nI D.2.2.1) (nI D.2.2.2.1) (nI (zm_st op tg fi se ro p + zm_a1 op fi ro p + zm_a2 op se ro p)) tk wa sp ip op tg fi se hz lt lq ik kv sa ve vf vs vt vc ll lh la lu bg en ro hq mo mt mf mq D.2.2.2.2 D.1 fn va rg2 := by
  have w1 := hwf.1
  obtain ⟨v1, v2, v3, v4, v5, v6⟩ := hwf.2.1 p h1
  obtain ⟨_, _, c3, c4⟩ := hC p h1
  obtain ⟨g1, g2, g3, g4, g5⟩ := hLP p h1
  have s4 := zm_st4 (op := op) (tg := tg) (fi := fi) (se := se) (ro := ro) p
  have l1 := zm_le1 (op := op) (fi := fi) (ro := ro) (i := p)
  have l2 := zm_le2 (op := op) (se := se) (ro := ro) (i := p)
  have hq0 := zm_q0 hx2 hx
  have hst : zm_st op tg fi se ro (p + 1) = zm_st op tg fi se ro p + (zm_a1 op fi ro p + zm_a2 op se ro p + 1 + zm_a3 op tg ro p) := rfl
  generalize hsz : zm_st op tg fi se ro p + zm_a1 op fi ro p + zm_a2 op se ro p = kk at *
  have hkk : kk + 1 < 2048 := by omega
  have hst1 : zm_a3 op tg ro p = 0 → nI (kk + 1) = nI (zm_st op tg fi se ro (p + 1)) := fun q => by rw [hst]; congr 1; omega
  have hst2 : zm_a3 op tg ro p = 1 → nI (kk + 1 + 1) = nI (zm_st op tg fi se ro (p + 1)) := fun q => by rw [hst]; congr 1; omega
  clear hst hsz s4 l1 l2
  obtain ⟨m1, m2, m3, m4⟩ := c3
  refine zm_main (x := zq_x (op p) (fi p) V) (y := zq_y (op p) (se p) V) hg hD (Nat.lt_of_succ_lt hq0) (Nat.lt_of_succ_lt hkk) v1.2 m1 m2 ⟨fun r => ?_, fun nr => ?_⟩ ⟨fun r => ?_, fun nr => if_neg nr⟩ (fun ht => ?_) (fun nt he => ?_) (fun nt he => ?_)
  · rw [m3]; exact ⟨(hA r).1, by rw [(hA r).2]; exact (if_pos r).symm⟩
  · rw [m3]; exact (if_neg nr : zm_A op fi ro p = fi p).trans (if_neg nr : zq_x (op p) (fi p) V = fi p).symm
  · rw [m4]; exact ⟨(hB r).1, by rw [(hB r).2]; exact (if_pos r).symm⟩
  · have hj := zq_tkj ht
    have hnw : ¬ zq_wr (op p) := fun q => zq_wrj q hj
    have ed : zm_d op tg ro p = tg p := if_neg hnw
    obtain ⟨q, hq, h6, h7, h8'⟩ := h3.1 ht
    have hl : la (tg p).toNatClampNeg = nI (zm_st op tg fi se ro q) := by rw [← h7]; exact hla q hq h6
    rw [ed, hl]
    refine ⟨zk_vp v2, ?_⟩
    have hrel' := zm_relm (q := q) hro h8 hrel hrg (fun v => g2 hj q hq h6 h7 v)
    rcases h8' with ⟨h8', h9⟩ | ⟨h8', c, rfl, h9⟩
    · exact ih b q V D (x2 + 1) va rg2 h9 hD (zm_q3 hx2 h1 h8' hx) hrel'
    · exact ih c q V D (x2 + 1) va rg2 h9 hD (zm_q4 hx2 h1 hx) hrel'
  · obtain ⟨f1, f2, f3⟩ := (h3.2 nt).1 he
    have hlast : ∀ K x', x' < 206848 → wX_runMachine_6 post (K + 1) (nI x') ct ms (nI g) sz dp ch cv bs rc mz (zq_end g (op p) (zq_x (op p) (fi p) V) (zq_y (op p) (se p) V) D) (nI D.2.1) (nI D.2.2.1) (nI D.2.2.2.1) (nI kk) tk wa sp ip op tg fi se hz lt lq ik kv sa ve vf vs vt vc ll lh la lu bg en ro hq mo mt mf mq D.2.2.2.2 D.1 fn va rg2 := by
      intro K x' hx'
      refine br_f (nI_ge (b := 206848) hx' (by decide)) (br_f he ?_)
      rw [f1, f3]
      refine fin va rg2 _ (fun v hv => ?_)
      obtain ⟨r1, r2⟩ := hrel v (Nat.lt_trans hv (by decide)) (g5 (zq_endce he h2) v hv)
      refine ⟨fun q => (r1 q).trans (f2 v hv), fun r hr he' => ?_⟩
      rw [hrg r (zm_r2 hro h8 (Nat.lt_trans hv (by decide)) hr he')]; exact (r2 r hr he').trans (f2 v hv)
    obtain ⟨K, hK⟩ : ∃ K, 210000 - (x2 + 1) = K + 1 := ⟨210000 - (x2 + 1) - 1, by clear ih fin hlast h3; omega⟩
    rw [hK]
    exact hlast _ _ hq0
  · have h4 := (h3.2 nt).2 he
    have n16 : ¬ op p = 16 := fun q => nt (Or.inl q)
    have n21 : ¬ op p = 21 := fun q => by rw [q] at he; exact zq_end21 he
    refine ⟨fun nw => ?_, fun w => ?_⟩
    · have e1 : zq_w (op p) (tg p) (zq_res ip (op p) (zq_x (op p) (fi p) V) (zq_y (op p) (se p) V) D) V = V := if_neg nw
      rw [e1] at h4
      rw [hst1 (if_neg (fun q => nw q.1))]
      exact ih b (p + 1) V _ (x2 + 1) va rg2 h4 (zr_ok hD he) (zm_q1 hx2 h1 hx) (zm_relm hro h8 hrel hrg (fun v hl => (g1 n16 n21 v hl).resolve_left (fun q => nw q.1)))
    · have e1 : zq_w (op p) (tg p) (zq_res ip (op p) (zq_x (op p) (fi p) V) (zq_y (op p) (se p) V) D) V = upd V (tg p).toNatClampNeg (zq_res ip (op p) (zq_x (op p) (fi p) V) (zq_y (op p) (se p) V) D) := if_pos w
      rw [e1] at h4
      obtain ⟨t, ht, et, et2⟩ := zx_nf ⟨v2.1, v3 w⟩
      rw [et2] at h4
      have hL : ∀ v, L (p + 1) v → v ≠ t → L p v := fun v hl hne => (g1 n16 n21 v hl).resolve_left (fun q => hne (by rw [q.2, et2]))
      by_cases er : ro t = -1
      · have ed : zm_d op tg ro p = 0 := by unfold zm_d; rw [if_pos w, et2, if_pos er]
        have e3 : zm_a3 op tg ro p = 1 := if_pos ⟨w, by rw [et2]; exact er⟩
        rw [ed]
        refine ⟨vp_in_nI (n := 0) (by decide) (by decide), ?_⟩
        obtain ⟨z1, z2, _, _⟩ := c4 e3
        refine zm_keep (v := t) hq0 hkk ht z1 (by rw [z2, et]) ?_
        rw [hst2 e3]
        exact ih b (p + 1) _ _ (x2 + 1 + 1) _ _ h4 (zr_ok hD he) (zm_q2 hx2 h1 hx) (zm_relk hro h8 hrel hrg er hL)
      · obtain ⟨rt, rt2, rt8, ert⟩ := zm_rng hro h8 ht er
        have ed : zm_d op tg ro p = nI rt := by unfold zm_d; rw [if_pos w, et2, if_neg er]; exact ert
        have e3 : zm_a3 op tg ro p = 0 := if_neg (fun q => er (by rw [← et2]; exact q.2))
        rw [ed, hst1 e3, nI_clamp (Nat.lt_trans rt8 (by decide))]
        refine ⟨vp_in_nI rt8 (by decide), ?_⟩
        refine ih b (p + 1) _ _ (x2 + 1) _ _ h4 (zr_ok hD he) (zm_q1 hx2 h1 hx) (zm_relr hro h8 hrel hrg rt8 ert hL (fun v hv hl hne he' => ?_))
        have hnv : ¬ ro v = -1 := fun q => zr_m1 (Nat.lt_trans rt8 (by decide)) (q.symm.trans he')
        exact zm_dj (Nat.lt_of_lt_of_le h1 (Nat.le_trans w1 (by decide))) (hcv p v h1 hv) (hcv p t h1 ht) (Or.inl (hL v hl hne)) (Or.inr ⟨w, et⟩) (hdis v t hv ht hne hnv (he'.trans ert.symm))
theorem zm_sim (hg : g ≤ 10) (hwf : zq_wf n op tg fi se hz) (h8 : rn ≤ 8) (hLP : zq_LP n op tg fi se hz L) (hro : zm_ro rn ro)
    (hdis : ∀ u v, u < 96 → v < 96 → u ≠ v → ¬ ro u = -1 → ro u = ro v → en u < bg v ∨ en v < bg u) (hcv : ∀ i v, i < n → v < 96 → zr_cv L op tg bg en i v)
    (hC : ∀ i, i < n → zm_C op tg fi se ro mo mt mf mq (zm_st op tg fi se ro i) i) (hla : ∀ q, q < n → op q = 20 → la (tg q).toNatClampNeg = nI (zm_st op tg fi se ro q))
    (H : ∀ va' rg' fn' ps', (∀ v, v < 6 → fn' v = R.2.1 v) → post (ct, ms, nI g, sz, dp, ch, cv, bs, rc, mz, R.1, nI R.2.2.2.1, nI R.2.2.2.2.1, nI R.2.2.2.2.2.1, ps', tk, wa, sp, ip, op, tg, fi, se, hz, lt, lq, ik, kv, sa, ve, vf, vs, vt, vc, ll, lh, la, lu, bg, en, ro, hq, mo, mt, mf, mq, R.2.2.2.2.2.2, R.2.2.1, fn', va', rg')) :
    ∀ m b p V D x1 va rg, zq_ex g ip n op tg fi se (zq_hm g op fi se hz) R m b p V D → zs_ok g D → x1 + 4 * ((n - p) + b * n) ≤ 204800 → zm_rel L ro p V va rg →
      wX_runMachine_6 post (210000 - x1) (nI x1) ct ms (nI g) sz dp ch cv bs rc mz 0 (nI D.2.1) (nI D.2.2.1) (nI D.2.2.2.1) (nI (zm_st op tg fi se ro p)) tk wa sp ip op tg fi se hz lt lq ik kv sa ve vf vs vt vc ll lh la lu bg en ro hq mo mt mf mq D.2.2.2.2 D.1 fn va rg := by
  have fin : ∀ (va rg : ty_V) (ps : Int32), (∀ v, v < 6 → (ro v = -1 → va v = R.2.1 v) ∧ (∀ r, r < 8 → ro v = nI r → rg r = R.2.1 v)) → ∃ k, wX_runMachine_124 post ct ms (nI g) sz dp ch cv bs rc mz R.1 (nI R.2.2.2.1) (nI R.2.2.2.2.1) (nI R.2.2.2.2.2.1) ps k 0 tk wa sp ip op tg fi se hz lt lq ik kv sa ve vf vs vt vc ll lh la lu bg en ro hq mo mt mf mq R.2.2.2.2.2.2 R.2.2.1 fn va rg := by
    intro va rg ps hv
    have lp : ∀ d i fn, i + d = 6 → (∀ v, v < i → fn v = R.2.1 v) → wX_runMachine_124 post ct ms (nI g) sz dp ch cv bs rc mz R.1 (nI R.2.2.2.1) (nI R.2.2.2.2.1) (nI R.2.2.2.2.2.1) ps (d + 1) (nI i) tk wa sp ip op tg fi se hz lt lq ik kv sa ve vf vs vt vc ll lh la lu bg en ro hq mo mt mf mq R.2.2.2.2.2.2 R.2.2.1 fn va rg := by
      intro d
      induction d with
      | zero =>
        intro i fn hi hf
        obtain rfl : i = 6 := by omega
        exact br_t (by decide) (H va rg fn ps hf)
      | succ d ih =>
        intro i fn hi hf
        have hc : (nI i).toNatClampNeg = i := nI_clamp (by omega)
        have i96 : vp_in (nI i) 96 := vp_in_nI (by omega) (by decide)
        have i6 : vp_in (nI i) 6 := vp_in_nI (by omega) (by decide)
        refine br_f (nI_ge (b := 6) (by omega) (by decide)) ?_
        rw [hc]
        refine ⟨i96, br_c (fun hl => ⟨i96, i6, nm_e (nm_r (nI_1 i) (ih (i + 1) _ (by omega) (fun v hv' => ?_)))⟩) (fun hl => ⟨i96, ?_, i6, nm_e (nm_r (nI_1 i) (ih (i + 1) _ (by omega) (fun v hv' => ?_)))⟩)⟩
        · by_cases e : v = i
          · subst e; rw [zq_us]; exact (hv v (by omega)).1 ((zm_lt0 hro h8 (by omega)).mp hl)
          · rw [zq_un e]; exact hf v (by omega)
        · obtain ⟨r, _, r8, er⟩ := zm_rng hro h8 (show i < 96 by omega) (fun q => hl ((zm_lt0 hro h8 (by omega)).mpr q))
          rw [er]; exact vp_in_nI r8 (by decide)
        · by_cases e : v = i
          · subst e
            obtain ⟨r, _, r8, er⟩ := zm_rng hro h8 (show v < 96 by omega) (fun q => hl ((zm_lt0 hro h8 (by omega)).mpr q))
            rw [zq_us, er, nI_clamp (by omega)]
            exact (hv v (by omega)).2 r r8 er
          · rw [zq_un e]; exact hf v (by omega)
    exact ⟨7, lp 6 0 fn rfl (fun v hv => by omega)⟩
  intro m
  induction m with
  | zero => intro b p V D x1 va rg h; exact absurd h id
  | succ m ih =>
    intro b p V D x1 va rg h hD hx hrel
    obtain ⟨k, hk, h1, h2, h3⟩ := zq_exe h
    obtain rfl : k = m := Nat.succ.inj hk.symm
    obtain ⟨v1, v2, v3, v4, v5, v6⟩ := hwf.2.1 p h1
    obtain ⟨c1, c2, _, _⟩ := hC p h1
    obtain ⟨g1, g2, g3, g4, g5⟩ := hLP p h1
    have hfi : zq_r1 (op p) → (fi p).toNatClampNeg < 96 := fun r => zk_clin (v4 r).1 (v4 r).2
    have hse := zk_clin v5.1 v5.2
    have main := fun x2 rg2 a b' c d => zm_ins (post := post) (fn := fn) (va := va) (rg := rg) (x2 := x2) (rg2 := rg2) hg hwf h8 hLP hro hdis hcv hC hla fin ih h1 h2 h3 hD hx hrel a b' c d
    have bnd : zm_st op tg fi se ro p + zm_a1 op fi ro p + 1 < 2048 := by
      have s4 := zm_st4 (op := op) (tg := tg) (fi := fi) (se := se) (ro := ro) p
      have l1 := zm_le1 (op := op) (fi := fi) (ro := ro) (i := p)
      have w1 := hwf.1
      clear ih fin main h3 h hx
      omega
    have hx0 : x1 + 2 < 206848 := by
      have := zm_q0 (x2 := x1 + 2) (Nat.le_refl _) hx
      exact Nat.lt_of_succ_lt this
    -- the second operand
    have sec : ∀ x2 rg1, x2 ≤ x1 + 1 → (∀ r, 2 ≤ r → rg1 r = rg r) → (zq_r1 (op p) → (zm_A op fi ro p).toNatClampNeg ≠ 1 ∧ vp_in (zm_A op fi ro p) 8 ∧ rg1 (zm_A op fi ro p).toNatClampNeg = V (fi p).toNatClampNeg) →
        wX_runMachine_6 post (210000 - x2) (nI x2) ct ms (nI g) sz dp ch cv bs rc mz 0 (nI D.2.1) (nI D.2.2.1) (nI D.2.2.2.1) (nI (zm_st op tg fi se ro p + zm_a1 op fi ro p)) tk wa sp ip op tg fi se hz lt lq ik kv sa ve vf vs vt vc ll lh la lu bg en ro hq mo mt mf mq D.2.2.2.2 D.1 fn va rg1 := by
      intro x2 rg1 hx2 hrg hA
      by_cases h2' : zq_r2 (op p) ∧ ro (se p).toNatClampNeg = -1
      · have e2 : zm_a2 op se ro p = 1 := if_pos h2'
        have eB : zm_B op se ro p = 1 := by unfold zm_B; rw [if_pos h2'.1, if_pos h2'.2]
        obtain ⟨z1, z2, z3, _⟩ := c2 e2
        obtain ⟨s, hs, es, es2⟩ := zx_nf v5
        refine zm_fetch (s := 1) (v := s) (Nat.lt_of_le_of_lt hx2 (Nat.lt_of_succ_lt hx0)) (Nat.lt_of_succ_lt bnd) (by decide) hs z1 z2 (by rw [z3, es]) ?_
        have := main (x2 + 1) (upd rg1 1 (va s)) (Nat.succ_le_succ hx2) (fun r hr => by rw [zq_un (fun q => by rw [q] at hr; exact absurd hr (by decide))]; exact hrg r hr) (fun r => ⟨(hA r).2.1, by rw [zq_un (hA r).1]; exact (hA r).2.2⟩) (fun r => by
          rw [eB]
          refine ⟨vp_in_nI (n := 1) (by decide) (by decide), ?_⟩
          show upd rg1 1 (va s) 1 = _
          rw [zq_us, ← es2]
          exact (hrel _ hse (g4 r)).1 h2'.2)
        rw [e2] at this; exact this
      · have e2 : zm_a2 op se ro p = 0 := if_neg h2'
        have := main x2 rg1 (Nat.le_succ_of_le hx2) hrg (fun r => (hA r).2) (fun r => zm_ry hro h8 hrel hrg hse (g4 r) r (fun q => h2' ⟨r, q⟩))
        rw [e2] at this; exact this
    by_cases h1' : zq_r1 (op p) ∧ ro (fi p).toNatClampNeg = -1
    · have e1 : zm_a1 op fi ro p = 1 := if_pos h1'
      have eA : zm_A op fi ro p = 0 := by unfold zm_A; rw [if_pos h1'.1, if_pos h1'.2]
      obtain ⟨z1, z2, z3, _⟩ := c1 e1
      obtain ⟨s, hs, es, es2⟩ := zx_nf (v4 h1'.1)
      refine zm_fetch (s := 0) (v := s) (Nat.lt_of_succ_lt (Nat.lt_of_succ_lt hx0)) (Nat.lt_of_le_of_lt (Nat.le_trans (Nat.le_add_right _ _) (Nat.le_succ _)) bnd) (by decide) hs z1 z2 (by rw [z3, es]) ?_
      have := sec (x1 + 1) (upd rg 0 (va s)) (Nat.le_refl _) (fun r hr => by rw [zq_un (fun q => by rw [q] at hr; exact absurd hr (by decide))]) (fun r => by
        rw [eA]
        refine ⟨by decide, vp_in_nI (n := 0) (by decide) (by decide), ?_⟩
        show upd rg 0 (va s) 0 = _
        rw [zq_us, ← es2]
        exact (hrel _ (hfi r) (g3 r)).1 h1'.2)
      rw [e1] at this; exact this
    · have e1 : zm_a1 op fi ro p = 0 := if_neg h1'
      have := sec x1 rg (Nat.le_succ _) (fun r _ => rfl) (fun r => zm_rx hro h8 hrel (hfi r) (g3 r) r (fun q => h1' ⟨r, q⟩))
      rw [e1] at this; exact this
theorem zx_runMachine {D0 : ty_D} (hg : g ≤ 10) (hG : zq_gd g ip R D0 n op tg fi se hz) (h8 : rn ≤ 8) (hD : D0.2.1 = 0 ∧ D0.2.2.1 = 0 ∧ D0.2.2.2.1 = 0) (hva : ∀ v, v < 96 → va v = 0) (hrg : ∀ r, r < 8 → rg r = 0)
    (hLP : zq_LP n op tg fi se hz L) (hro : zm_ro rn ro)
    (hdis : ∀ u v, u < 96 → v < 96 → u ≠ v → ¬ ro u = -1 → ro u = ro v → en u < bg v ∨ en v < bg u) (hcv : ∀ i v, i < n → v < 96 → zr_cv L op tg bg en i v)
    (hC : ∀ i, i < n → zm_C op tg fi se ro mo mt mf mq (zm_st op tg fi se ro i) i)
    (H : ∀ va' rg' fn' ps' la', (∀ v, v < 6 → fn' v = R.2.1 v) → post (ct, ms, nI g, sz, dp, ch, cv, bs, rc, nI (zm_st op tg fi se ro n), R.1, nI R.2.2.2.1, nI R.2.2.2.2.1, nI R.2.2.2.2.2.1, ps', tk, wa, sp, ip, op, tg, fi, se, hz, lt, lq, ik, kv, sa, ve, vf, vs, vt, vc, ll, lh, la', lu, bg, en, ro, hq, mo, mt, mf, mq, R.2.2.2.2.2.2, R.2.2.1, fn', va', rg')) :
    wpX_runMachine post (ct, ms, nI g, sz, dp, ch, cv, bs, rc, nI (zm_st op tg fi se ro n), 0, 0, 0, 0, 0, tk, wa, sp, ip, op, tg, fi, se, hz, lt, lq, ik, kv, sa, ve, vf, vs, vt, vc, ll, lh, la, lu, bg, en, ro, hq, mo, mt, mf, mq, D0.2.2.2.2, D0.1, fn, va, rg) := by
  have w1 := hG.1.1
  obtain ⟨m, h⟩ := hG.2
  unfold wpX_runMachine
  refine zm_labels hG.1 hC (fun la' hla => ⟨210000, ?_⟩)
  have := zm_sim (post := post) (fn := fn) hg hG.1 h8 hLP hro hdis hcv hC hla (fun va' rg' fn' ps' hf => H va' rg' fn' ps' la' hf) m 99 0 (fun _ => 0) D0 0 va rg h ⟨by omega, by omega, by omega⟩ (by omega)
    (fun v hv _ => ⟨fun _ => hva v hv, fun r hr _ => hrg r hr⟩)
  rw [hD.1, hD.2.1, hD.2.2] at this
  exact this
end
end
section
/-! tokens: both sides -/
theorem zu_kp (t : Int32) (k : Nat) : zt_kp t k = 0 ∨ zt_kp t k = 1 := by
  unfold zt_kp
  split
  · exact Or.inl rfl
  · split
    · exact Or.inl rfl
    · exact Or.inr rfl
theorem zu_kf (t : Int32) : ∀ d j x, x ∈ zt_kf t d j → x = 0 ∨ x = 1 := by
  intro d
  induction d with
  | zero => intro j x h; exact absurd h (by simp [zt_kf])
  | succ d ih =>
    intro j x h
    simp only [zt_kf, List.mem_cons] at h
    rcases h with h | h
    · rw [h]; exact zu_kp t j
    · exact ih _ _ h
theorem zu_mem (tk : ty_V) : ∀ k x, x ∈ zt_stk tk k → x = 0 ∨ x = 1 := by
  intro k
  induction k with
  | zero => intro x h; simp only [zt_stk, List.mem_singleton] at h; exact Or.inl h
  | succ k ih =>
    intro x h
    simp only [zt_stk, List.mem_append] at h
    rcases h with h | h
    · exact zu_kf _ _ _ _ h
    · exact ih x (List.mem_of_mem_tail h)
theorem zu_kfs (t : Int32) : ∀ d j, j + d = zt_pt t → zt_kf t d j = (zt_kf t (zt_pt t) 0).drop j := by
  intro d
  induction d with
  | zero =>
    intro j hj
    have : (zt_kf t (zt_pt t) 0).length ≤ j := by rw [zt_kfl]; omega
    rw [List.drop_eq_nil_of_le this]; rfl
  | succ d ih =>
    intro j hj
    have e : ∀ m i, i < m → ∀ s, (zt_kf t m s)[i]? = some (zt_kp t (s + i)) := by
      intro m
      induction m with
      | zero => intro i hi; omega
      | succ m ihm =>
        intro i hi s
        cases i with
        | zero => rfl
        | succ i =>
          simp only [zt_kf, List.getElem?_cons_succ]
          rw [ihm i (by omega), show s + 1 + i = s + (i + 1) by omega]
    have h1 := e (zt_pt t) j (by omega) 0
    have hlt : j < (zt_kf t (zt_pt t) 0).length := by rw [zt_kfl]; omega
    rw [List.drop_eq_getElem_cons hlt, ← ih (j + 1) (by omega)]
    simp only [zt_kf]
    congr 1
    rw [List.getElem?_eq_getElem hlt] at h1
    rw [Nat.zero_add] at h1
    exact (Option.some.inj h1).symm
section
variable {ct ms gv sz dp ch cv bs rc mz ls tc rd pc ps : Int32} {tk wa sp ip op tg fi se hz lt lq ik kv sa ve vf vs vt vc la lu bg en ro hq mo mt mf mq pv ce fn va rg : Nat → Int32} {ll lh : Nat → Int64}
variable {post : SX → Prop} {c : Nat}
theorem zu_rescan (hv : zt_hv tk c) (hc : c ≤ 90) (H : ∀ wa', zt_ar wa' (zt_stk tk c) → post (nI c, nI (zt_stk tk c).length, gv, sz, dp, ch, cv, bs, rc, mz, ls, tc, rd, pc, ps, tk, wa', sp, ip, op, tg, fi, se, hz, lt, lq, ik, kv, sa, ve, vf, vs, vt, vc, ll, lh, la, lu, bg, en, ro, hq, mo, mt, mf, mq, pv, ce, fn, va, rg)) : wpX_rescan post (nI c, ms, gv, sz, dp, ch, cv, bs, rc, mz, ls, tc, rd, pc, ps, tk, wa, sp, ip, op, tg, fi, se, hz, lt, lq, ik, kv, sa, ve, vf, vs, vt, vc, ll, lh, la, lu, bg, en, ro, hq, mo, mt, mf, mq, pv, ce, fn, va, rg) := by
  have hlen := zt_len hv
  have k14 : ∀ d i wa, i + d = c → zt_ar wa (zt_stk tk i) → wX_rescan_14 post (nI c) gv sz dp ch cv bs rc mz ls tc rd pc ps (d + 1) (nI i) (nI (zt_stk tk i).length) tk wa sp ip op tg fi se hz lt lq ik kv sa ve vf vs vt vc ll lh la lu bg en ro hq mo mt mf mq pv ce fn va rg := by
    intro d
    induction d with
    | zero =>
      intro i wa hi ha
      obtain rfl : i = c := by omega
      exact br_t (nI_le (Nat.le_refl _) (by omega)) (H wa ha)
    | succ d ih =>
      intro i wa hi ha
      have hci : (nI i).toNatClampNeg = i := nI_clamp (by omega)
      obtain ⟨hok, s, hs⟩ := hv i (by omega)
      have hl := hlen i (by omega)
      have hl1 := hlen (i + 1) (by omega)
      have h3 := zt_p3 (tk i)
      rw [hs] at hl
      simp only [List.length_cons] at hl
      have hst : zt_stk tk (i + 1) = zt_kf (tk i) (zt_pt (tk i)) 0 ++ s := by simp only [zt_stk, hs, List.tail_cons]
      have hs' : zt_ar wa s := by rw [hs] at ha; exact ha.2
      refine br_f (nI_ge (by omega) (by omega)) (nm_r (e' := nI s.length) (by rw [hs]; simp only [List.length_cons]; rw [nI_pred]) ?_)
      rw [hci]
      refine ⟨vp_in_nI (by omega) (by decide), zx_parts hok (nm_r (zk_sm1 _) ⟨zt_pt (tk i) + 1, ?_⟩)⟩
      have k46 : ∀ j wa, j ≤ zt_pt (tk i) → zt_ar wa (zt_kf (tk i) (zt_pt (tk i) - j) j ++ s) →
          wX_rescan_46 post (wX_rescan_14 post (nI c) gv sz dp ch cv bs rc mz ls tc rd pc ps (d + 1)) (nI i) (nI c) gv sz dp ch cv bs rc mz ls tc rd pc ps (j + 1) (nI j + (-1)) (nI (zt_kf (tk i) (zt_pt (tk i) - j) j ++ s).length) tk wa sp ip op tg fi se hz lt lq ik kv sa ve vf vs vt vc ll lh la lu bg en ro hq mo mt mf mq pv ce fn va rg := by
        intro j
        induction j with
        | zero =>
          intro wa _ ha
          rw [Nat.sub_zero, ← hst] at ha ⊢
          exact br_t (by decide) (nm_r (nI_1 i) (ih (i + 1) wa (by omega) ha))
        | succ j ihj =>
          intro wa hj ha
          rw [pk_m1]
          have hlk : (zt_kf (tk i) (zt_pt (tk i) - (j + 1)) (j + 1) ++ s).length = zt_pt (tk i) - (j + 1) + s.length := by rw [List.length_append, zt_kfl]
          have hcl : (nI (zt_kf (tk i) (zt_pt (tk i) - (j + 1)) (j + 1) ++ s).length).toNatClampNeg = (zt_kf (tk i) (zt_pt (tk i) - (j + 1)) (j + 1) ++ s).length := nI_clamp (by omega)
          have hcons : zt_kf (tk i) (zt_pt (tk i) - j) j ++ s = zt_kp (tk i) j :: (zt_kf (tk i) (zt_pt (tk i) - (j + 1)) (j + 1) ++ s) := by
            rw [show zt_pt (tk i) - j = (zt_pt (tk i) - (j + 1)) + 1 by omega]; rfl
          refine br_f (nI_pos (by omega)) ?_
          rw [hci, hcl]
          refine ⟨vp_in_nI (by omega) (by decide), zx_kindOfPart (by omega) ⟨vp_in_nI (by omega) (by decide), nm_r (e' := upd wa (zt_kf (tk i) (zt_pt (tk i) - (j + 1)) (j + 1) ++ s).length (zt_kp (tk i) j)) ?_ (nm_r (e' := nI (zt_kf (tk i) (zt_pt (tk i) - j) j ++ s).length) ?_ (nm_e (ihj _ (by omega) ?_)))⟩⟩
          · rcases zu_kp (tk i) j with q | q <;> rw [q] <;> rfl
          · rw [hcons, List.length_cons, nI_1]
          · rw [hcons]; exact zt_arp ha
      have := k46 (zt_pt (tk i)) wa (Nat.le_refl _) (by rw [Nat.sub_self]; exact hs')
      rw [Nat.sub_self] at this
      exact this
  unfold wpX_rescan
  refine nm_r (e' := upd wa 0 0) rfl ⟨c + 1, ?_⟩
  exact k14 c 0 _ (by omega) ⟨zq_us, trivial⟩
end
section
variable {ysz ywd yop yct ydp yst ytn ytk ysh : Int32} {yto yin ymi yer yva ypa yvr yce : Nat → Int32}
variable {post : SY → Prop} {c : Nat} {tk : ty_V}
theorem zu_look (hv : zt_hv tk c) (hc : c ≤ 90) (H : ∀ ymi', zt_ar ymi' (zt_stk tk c) → post (nI c, ywd, nI (zt_stk tk c).length, yct, ydp, yst, ytn, ytk, ysh, tk, yin, ymi', yer, yva, ypa, yvr, yce)) : wpY_look post (nI c, ywd, yop, yct, ydp, yst, ytn, ytk, ysh, tk, yin, ymi, yer, yva, ypa, yvr, yce) := by
  have hlen := zt_len hv
  have k14 : ∀ d i ymi, i + d = c → zt_ar ymi (zt_stk tk i) → wY_look_14 post (nI c) ywd yct ydp yst ytn ytk ysh (d + 1) (nI i) (nI (zt_stk tk i).length) tk yin ymi yer yva ypa yvr yce := by
    intro d
    induction d with
    | zero =>
      intro i ymi hi ha
      obtain rfl : i = c := by omega
      exact br_t (nI_le (Nat.le_refl _) (by omega)) (H ymi ha)
    | succ d ih =>
      intro i ymi hi ha
      have hci : (nI i).toNatClampNeg = i := nI_clamp (by omega)
      obtain ⟨hok, s, hs⟩ := hv i (by omega)
      have hl := hlen i (by omega)
      have hl1 := hlen (i + 1) (by omega)
      have h3 := zt_p3 (tk i)
      rw [hs] at hl
      simp only [List.length_cons] at hl
      have hst : zt_stk tk (i + 1) = zt_kf (tk i) (zt_pt (tk i)) 0 ++ s := by simp only [zt_stk, hs, List.tail_cons]
      have hs' : zt_ar ymi s := by rw [hs] at ha; exact ha.2
      refine br_f (nI_ge (by omega) (by omega)) (nm_r (e' := nI s.length) (by rw [hs]; simp only [List.length_cons]; rw [nI_pred]) ?_)
      rw [hci]
      refine ⟨vp_in_nI (by omega) (by decide), zw_parts hok (nm_r (zk_sm1 _) ⟨zt_pt (tk i) + 1, ?_⟩)⟩
      have k46 : ∀ j ymi, j ≤ zt_pt (tk i) → zt_ar ymi (zt_kf (tk i) (zt_pt (tk i) - j) j ++ s) →
          wY_look_47 post (wY_look_14 post (nI c) ywd yct ydp yst ytn ytk ysh (d + 1)) (nI i) (nI c) ywd yct ydp yst ytn ytk ysh (j + 1) (nI j + (-1)) (nI (zt_kf (tk i) (zt_pt (tk i) - j) j ++ s).length) tk yin ymi yer yva ypa yvr yce := by
        intro j
        induction j with
        | zero =>
          intro ymi _ ha
          rw [Nat.sub_zero, ← hst] at ha ⊢
          exact br_t (by decide) (nm_r (nI_1 i) (ih (i + 1) ymi (by omega) ha))
        | succ j ihj =>
          intro ymi hj ha
          rw [pk_m1]
          have hlk : (zt_kf (tk i) (zt_pt (tk i) - (j + 1)) (j + 1) ++ s).length = zt_pt (tk i) - (j + 1) + s.length := by rw [List.length_append, zt_kfl]
          have hcl : (nI (zt_kf (tk i) (zt_pt (tk i) - (j + 1)) (j + 1) ++ s).length).toNatClampNeg = (zt_kf (tk i) (zt_pt (tk i) - (j + 1)) (j + 1) ++ s).length := nI_clamp (by omega)
          have hcons : zt_kf (tk i) (zt_pt (tk i) - j) j ++ s = zt_kp (tk i) j :: (zt_kf (tk i) (zt_pt (tk i) - (j + 1)) (j + 1) ++ s) := by
            rw [show zt_pt (tk i) - j = (zt_pt (tk i) - (j + 1)) + 1 by omega]; rfl
          refine br_f (nI_pos (by omega)) ?_
          rw [hci, hcl]
          refine ⟨vp_in_nI (by omega) (by decide), zw_asks (by omega) hok (by omega) ⟨vp_in_nI (by omega) (by decide), nm_r (e' := upd ymi (zt_kf (tk i) (zt_pt (tk i) - (j + 1)) (j + 1) ++ s).length (zt_kp (tk i) j)) ?_ (nm_r (e' := nI (zt_kf (tk i) (zt_pt (tk i) - j) j ++ s).length) ?_ (nm_e (ihj _ (by omega) ?_)))⟩⟩
          · rcases zu_kp (tk i) j with q | q <;> rw [q] <;> rfl
          · rw [hcons, List.length_cons, nI_1]
          · rw [hcons]; exact zt_arp ha
      have := k46 (zt_pt (tk i)) ymi (Nat.le_refl _) (by rw [Nat.sub_self]; exact hs')
      rw [Nat.sub_self] at this
      exact this
  unfold wpY_look
  refine nm_r (e' := upd ymi 0 0) rfl ⟨c + 1, ?_⟩
  exact k14 c 0 _ (by omega) ⟨zq_us, trivial⟩
theorem zu_forget (h : post (ysz, ywd, yop, yct, ydp, 0, 0, 0, 0, yto, yin, ymi, yer, yva, ypa, zx_fl yvr 0 6 0, zx_fl yce 0 8 0)) : wpY_forget post (ysz, ywd, yop, yct, ydp, yst, ytn, ytk, ysh, yto, yin, ymi, yer, yva, ypa, yvr, yce) := by
  unfold wpY_forget
  refine ⟨1 + 6, ?_⟩
  refine zx_flp (W := fun n i f => wY_forget_22 post ysz ywd yop yct ydp 0 0 0 0 n (nI i) yto yin ymi yer yva ypa f yce) (e := 6) (v := 0) ?_ 6 0 yvr 1 rfl ?_
  · intro n i f hi h
    exact br_f (nI_ge (b := 6) hi (by decide)) ⟨vp_in_nI hi (by decide), nm_r (e' := upd f i 0) (by rw [nI_clamp (by omega)]) (nm_r (nI_1 i) h)⟩
  · refine br_t (by decide) ⟨1 + 8, ?_⟩
    refine zx_flp (W := fun n i f => wY_forget_43 post ysz ywd yop yct ydp 0 0 0 0 n (nI i) yto yin ymi yer yva ypa (zx_fl yvr 0 6 0) f) (e := 8) (v := 0) ?_ 8 0 yce 1 rfl ?_
    · intro n i f hi h
      exact br_f (nI_ge (b := 8) hi (by decide)) ⟨vp_in_nI hi (by decide), nm_r (e' := upd f i 0) (by rw [nI_clamp (by omega)]) (nm_r (nI_1 i) h)⟩
    · exact br_t (by decide) h
end
end
section
/-! the component's run -/
section
variable {ct ms gv sz dp ch cv bs rc mz ls tc rd pc ps : Int32} {tk wa sp ip op tg fi se hz lt lq ik kv sa ve vf vs vt vc la lu bg en ro hq mo mt mf mq pv ce fn va rg : Nat → Int32} {ll lh : Nat → Int64}
theorem zx_beginRun {post : SX → Prop} (h : post (ct, ms, gv, sz, dp, ch, cv, bs, rc, mz, 0, 0, 0, 0, 0, tk, wa, sp, ip, op, tg, fi, se, hz, lt, lq, ik, kv, sa, ve, vf, vs, vt, vc, ll, lh, la, lu, bg, en, ro, hq, mo, mt, mf, mq, pv, zx_fl ce 0 8 0, zx_fl fn 0 6 0, zx_fl va 0 96 0, zx_fl rg 0 8 0)) : wpX_beginRun post (ct, ms, gv, sz, dp, ch, cv, bs, rc, mz, ls, tc, rd, pc, ps, tk, wa, sp, ip, op, tg, fi, se, hz, lt, lq, ik, kv, sa, ve, vf, vs, vt, vc, ll, lh, la, lu, bg, en, ro, hq, mo, mt, mf, mq, pv, ce, fn, va, rg) := by
  unfold wpX_beginRun
  refine zx_forget ⟨1 + 96, ?_⟩
  refine zx_flp (W := fun n i f => wX_beginRun_11 post ct ms gv sz dp ch cv bs rc mz 0 0 0 0 0 n (nI i) tk wa sp ip op tg fi se hz lt lq ik kv sa ve vf vs vt vc ll lh la lu bg en ro hq mo mt mf mq pv (zx_fl ce 0 8 0) (zx_fl fn 0 6 0) f rg) (e := 96) (v := 0) ?_ 96 0 va 1 rfl ?_
  · intro n i f hi h
    exact br_f (nI_ge (b := 96) hi (by decide)) ⟨vp_in_nI hi (by decide), nm_r (e' := upd f i 0) (by rw [nI_clamp (by omega)]) (nm_r (nI_1 i) h)⟩
  · refine br_t (by decide) ⟨1 + 8, ?_⟩
    refine zx_flp (W := fun n i f => wX_beginRun_32 post ct ms gv sz dp ch cv bs rc mz 0 0 0 0 0 n (nI i) tk wa sp ip op tg fi se hz lt lq ik kv sa ve vf vs vt vc ll lh la lu bg en ro hq mo mt mf mq pv (zx_fl ce 0 8 0) (zx_fl fn 0 6 0) (zx_fl va 0 96 0) f) (e := 8) (v := 0) ?_ 8 0 rg 1 rfl ?_
    · intro n i f hi h
      exact br_f (nI_ge (b := 8) hi (by decide)) ⟨vp_in_nI hi (by decide), nm_r (e' := upd f i 0) (by rw [nI_clamp (by omega)]) (nm_r (nI_1 i) h)⟩
    · exact br_t (by decide) h
theorem zx_f96 {f : ty_V} {b : Nat} : ∀ v, v < b → zx_fl f 0 b 0 v = 0 := fun v hv => if_pos ⟨Nat.zero_le _, hv⟩
end
section
variable {ct ms gv sz dp ch cv bs rc mz ls tc rd pc ps : Int32} {tk wa sp ip op tg fi se hz lt lq ik kv sa ve vf vs vt vc la lu bg en ro hq mo mt mf mq pv ce fn va rg : Nat → Int32} {ll lh : Nat → Int64}
variable {P : Int32 → SX → Prop} {g n rn : Nat} {R : ty_R} {lv : Int32}
def zx_H (P : Int32 → SX → Prop) (R : ty_R) (ct ms gv : Int32) (tk wa ip : ty_V) : Prop :=
  ∀ {sz dp ch cv bs rc mz ps : Int32} {sp op tg fi se hz lt lq ik kv sa ve vf vs vt vc la lu bg en ro hq mo mt mf mq fn va rg : ty_V} {ll lh : Nat → Int64}, (∀ v, v < 6 → fn v = R.2.1 v) →
    P R.1 (ct, ms, gv, sz, dp, ch, cv, bs, rc, mz, R.1, nI R.2.2.2.1, nI R.2.2.2.2.1, nI R.2.2.2.2.2.1, ps, tk, wa, sp, ip, op, tg, fi, se, hz, lt, lq, ik, kv, sa, ve, vf, vs, vt, vc, ll, lh, la, lu, bg, en, ro, hq, mo, mt, mf, mq, R.2.2.2.2.2.2, R.2.2.1, fn, va, rg)
theorem zx_r62l (hl : lv < 3) (hg : g ≤ 10) (hR : ¬ R.1 = 0) (hG : zq_gd g ip R (zx_fl ce 0 8 0, 0, 0, 0, pv) n op tg fi se hz) (H : zx_H P R ct ms (nI g) tk wa ip) : wX_run_62 P lv ct ms (nI g) (nI n) dp ch cv bs rc mz ls tc rd pc ps tk wa sp ip op tg fi se hz lt lq ik kv sa ve vf vs vt vc ll lh la lu bg en ro hq mo mt mf mq pv ce fn va rg := by
  unfold wX_run_62
  refine zx_beginRun (br_t hl ?_)
  exact zx_runList (D0 := (zx_fl ce 0 8 0, 0, 0, 0, pv)) hg hG hR ⟨rfl, rfl, rfl⟩ zx_f96 (fun va' fn' ps' la' lu' hf => H hf)
theorem zx_r62m {L : Nat → Nat → Prop} (hl : ¬ lv < 3) (hg : g ≤ 10) (h8 : rn ≤ 8) (hG : zq_gd g ip R (zx_fl ce 0 8 0, 0, 0, 0, pv) n op tg fi se hz)
    (hLP : zq_LP n op tg fi se hz L) (hro : zm_ro rn ro)
    (hdis : ∀ u v, u < 96 → v < 96 → u ≠ v → ¬ ro u = -1 → ro u = ro v → en u < bg v ∨ en v < bg u) (hcv : ∀ i v, i < n → v < 96 → zr_cv L op tg bg en i v)
    (hC : ∀ i, i < n → zm_C op tg fi se ro mo mt mf mq (zm_st op tg fi se ro i) i) (H : zx_H P R ct ms (nI g) tk wa ip) : wX_run_62 P lv ct ms (nI g) sz dp ch cv bs rc (nI (zm_st op tg fi se ro n)) ls tc rd pc ps tk wa sp ip op tg fi se hz lt lq ik kv sa ve vf vs vt vc ll lh la lu bg en ro hq mo mt mf mq pv ce fn va rg := by
  unfold wX_run_62
  refine zx_beginRun (br_f hl ?_)
  exact zx_runMachine (D0 := (zx_fl ce 0 8 0, 0, 0, 0, pv)) hg hG h8 ⟨rfl, rfl, rfl⟩ zx_f96 zx_f96 hLP hro hdis hcv hC (fun va' rg' fn' ps' la' hf => H hf)
theorem zx_r48 (hg : g ≤ 10) (hR : ¬ R.1 = 0) (h3 : 3 ≤ rn) (h8 : rn ≤ 8) (hG : zq_gd g ip R (zx_fl ce 0 8 0, 0, 0, 0, pv) n op tg fi se hz) (H : zx_H P R ct ms (nI g) tk wa ip) : wX_run_48 P lv (nI rn) ct ms (nI g) (nI n) dp ch cv bs rc mz ls tc rd pc ps tk wa sp ip op tg fi se hz lt lq ik kv sa ve vf vs vt vc ll lh la lu bg en ro hq mo mt mf mq pv ce fn va rg := by
  unfold wX_run_48
  refine br_c (fun hl => zx_r62l hl hg hR hG H) (fun hl => ?_)
  refine zx_buildMachine hG.1 h3 h8 (fun la' lu' ll' lh' bg' en' ro' hq' mo' mt' mf' mq' hLP hro hdis hcv hC => ?_)
  exact zx_r62m hl hg h8 hG hLP hro hdis hcv hC H
theorem zx_r44 (hg : g ≤ 10) (hR : ¬ R.1 = 0) (h3 : 3 ≤ rn) (h8 : rn ≤ 8) (hG : zq_gd g ip R (zx_fl ce 0 8 0, 0, 0, 0, pv) n op tg fi se hz) (H : zx_H P R ct ms (nI g) tk wa ip) : wX_run_44 P lv (nI rn) ct ms (nI g) (nI n) dp ch cv bs rc mz ls tc rd pc ps tk wa sp ip op tg fi se hz lt lq ik kv sa ve vf vs vt vc ll lh la lu bg en ro hq mo mt mf mq pv ce fn va rg := by
  unfold wX_run_44
  exact zx_improve hG (fun n' op' tg' fi' se' hz' ch' cv' bs' ik' kv' sa' ve' vf' vs' vt' vc' la' lu' ll' lh' hG' => zx_r48 hg hR h3 h8 hG' H)
end
end
section
/-! the relation -/
def zv_R (ct ms gv ls tc rd pc : Int32) (tk wa ip pv ce fn : Nat → Int32) (ysz ywd yst ytn ytk ysh : Int32) (yto yin ypa yvr yce : Nat → Int32) : Prop :=
  (yto = tk ∧ yin = ip ∧ ypa = pv ∧ yce = ce ∧ yst = ls ∧ ytn = tc ∧ ytk = rd ∧ ysh = pc ∧ ysz = ct ∧ ywd = gv) ∧ (∀ v, v < 6 → fn v = yvr v) ∧
  ∃ c w q, c ≤ 90 ∧ w ≤ 10 ∧ q ≤ 20 ∧ ct = nI c ∧ gv = nI w ∧ pc = nI q ∧ zt_hv tk c ∧ ms = nI (zt_stk tk c).length ∧ zt_ar wa (zt_stk tk c)
/-- the relation at the head of a turn whose first cell is k -/
def i_Rel (k : Nat) (u : SX) (v : SY) : Prop := match u, v with
  | (ct, ms, gv, sz, dp, ch, cv, bs, rc, mz, ls, tc, rd, pc, ps, tk, wa, sp, ip, op, tg, fi, se, hz, lt, lq, ik, kv, sa, ve, vf, vs, vt, vc, ll, lh, la, lu, bg, en, ro, hq, mo, mt, mf, mq, pv, ce, fn, va, rg), (ysz, ywd, yop, yct, ydp, yst, ytn, ytk, ysh, yto, yin, ymi, yer, yva, ypa, yvr, yce) => zv_R ct ms gv ls tc rd pc tk wa ip pv ce fn ysz ywd yst ytn ytk ysh yto yin ypa yvr yce
theorem zv_el {Q : SX → SY → Prop} (h : ∀ (ct ms gv sz dp ch cv bs rc mz ls tc rd pc ps : Int32) (tk wa sp ip op tg fi se hz lt lq ik kv sa ve vf vs vt vc : Nat → Int32) (ll lh : Nat → Int64) (la lu bg en ro hq mo mt mf mq pv ce fn va rg : Nat → Int32) (ysz ywd yop yct ydp yst ytn ytk ysh : Int32) (yto yin ymi yer yva ypa yvr yce : Nat → Int32),
    zv_R ct ms gv ls tc rd pc tk wa ip pv ce fn ysz ywd yst ytn ytk ysh yto yin ypa yvr yce → Q (ct, ms, gv, sz, dp, ch, cv, bs, rc, mz, ls, tc, rd, pc, ps, tk, wa, sp, ip, op, tg, fi, se, hz, lt, lq, ik, kv, sa, ve, vf, vs, vt, vc, ll, lh, la, lu, bg, en, ro, hq, mo, mt, mf, mq, pv, ce, fn, va, rg) (ysz, ywd, yop, yct, ydp, yst, ytn, ytk, ysh, yto, yin, ymi, yer, yva, ypa, yvr, yce)) {k : Nat} {u : SX} {v : SY} (I : i_Rel k u v) : Q u v :=
  match u, v, I with
  | (ct, ms, gv, sz, dp, ch, cv, bs, rc, mz, ls, tc, rd, pc, ps, tk, wa, sp, ip, op, tg, fi, se, hz, lt, lq, ik, kv, sa, ve, vf, vs, vt, vc, ll, lh, la, lu, bg, en, ro, hq, mo, mt, mf, mq, pv, ce, fn, va, rg), (ysz, ywd, yop, yct, ydp, yst, ytn, ytk, ysh, yto, yin, ymi, yer, yva, ypa, yvr, yce), I => h ct ms gv sz dp ch cv bs rc mz ls tc rd pc ps tk wa sp ip op tg fi se hz lt lq ik kv sa ve vf vs vt vc ll lh la lu bg en ro hq mo mt mf mq pv ce fn va rg ysz ywd yop yct ydp yst ytn ytk ysh yto yin ymi yer yva ypa yvr yce I
theorem i_up {k : Nat} {u : SX} {v : SY} (h : i_Rel k u v) : i_Rel (k + 3) u v := h
theorem i_vc0 : wpX_init (fun u => wpY_init (fun v => i_Rel 0 u v)) := by
  refine ⟨⟨rfl, rfl, rfl, rfl, rfl, rfl, rfl, rfl, rfl, rfl⟩, fun _ _ => rfl, 0, 0, 0, by decide, by decide, by decide, rfl, rfl, rfl, fun k hk => absurd hk (Nat.not_lt_zero _), rfl, ⟨rfl, trivial⟩⟩
theorem zv_Re {F : Int32 → Int32 → Int32 → Int32 → Int32 → Int32 → Int32 → ty_V → ty_V → ty_V → ty_V → ty_V → ty_V → Int32 → Int32 → Int32 → Int32 → Int32 → Int32 → ty_V → ty_V → ty_V → ty_V → ty_V → Prop}
    {ct ms gv ls tc rd pc : Int32} {tk wa ip pv ce fn : Nat → Int32} {ysz ywd yst ytn ytk ysh : Int32} {yto yin ypa yvr yce : Nat → Int32}
    (h : ∀ c w q, c ≤ 90 → w ≤ 10 → q ≤ 20 → zt_hv tk c → zt_ar wa (zt_stk tk c) → (∀ v, v < 6 → fn v = yvr v) →
      F (nI c) (nI (zt_stk tk c).length) (nI w) ls tc rd (nI q) tk wa ip pv ce fn (nI c) (nI w) ls tc rd (nI q) tk ip pv yvr ce)
    (H : zv_R ct ms gv ls tc rd pc tk wa ip pv ce fn ysz ywd yst ytn ytk ysh yto yin ypa yvr yce) : F ct ms gv ls tc rd pc tk wa ip pv ce fn ysz ywd yst ytn ytk ysh yto yin ypa yvr yce := by
  obtain ⟨⟨rfl, rfl, rfl, rfl, rfl, rfl, rfl, rfl, rfl, rfl⟩, h6, c, w, q, hc, hw, hq, rfl, rfl, rfl, hv, rfl, har⟩ := H
  exact h c w q hc hw hq hv har h6
theorem zv_e2 {Q : SX → SY → Prop} (h : ∀ (sz dp ch cv bs rc mz ls tc rd ps : Int32) (tk wa sp ip op tg fi se hz lt lq ik kv sa ve vf vs vt vc : Nat → Int32) (ll lh : Nat → Int64) (la lu bg en ro hq mo mt mf mq pv ce fn va rg : Nat → Int32) (yop yct ydp : Int32) (ymi yer yva yvr : Nat → Int32) (c w q : Nat),
    c ≤ 90 → w ≤ 10 → q ≤ 20 → zt_hv tk c → zt_ar wa (zt_stk tk c) → (∀ v, v < 6 → fn v = yvr v) →
    Q (nI c, nI (zt_stk tk c).length, nI w, sz, dp, ch, cv, bs, rc, mz, ls, tc, rd, nI q, ps, tk, wa, sp, ip, op, tg, fi, se, hz, lt, lq, ik, kv, sa, ve, vf, vs, vt, vc, ll, lh, la, lu, bg, en, ro, hq, mo, mt, mf, mq, pv, ce, fn, va, rg) (nI c, nI w, yop, yct, ydp, ls, tc, rd, nI q, tk, ip, ymi, yer, yva, pv, yvr, ce)) {k : Nat} {u : SX} {v : SY} (I : i_Rel k u v) : Q u v :=
  match u, v, I with
  | (ct, ms, gv, sz, dp, ch, cv, bs, rc, mz, ls, tc, rd, pc, ps, tk, wa, sp, ip, op, tg, fi, se, hz, lt, lq, ik, kv, sa, ve, vf, vs, vt, vc, ll, lh, la, lu, bg, en, ro, hq, mo, mt, mf, mq, pv, ce, fn, va, rg), (ysz, ywd, yop, yct, ydp, yst, ytn, ytk, ysh, yto, yin, ymi, yer, yva, ypa, yvr, yce), I => zv_Re (F := fun ct ms gv ls tc rd pc tk wa ip pv ce fn ysz ywd yst ytn ytk ysh yto yin ypa yvr yce => Q (ct, ms, gv, sz, dp, ch, cv, bs, rc, mz, ls, tc, rd, pc, ps, tk, wa, sp, ip, op, tg, fi, se, hz, lt, lq, ik, kv, sa, ve, vf, vs, vt, vc, ll, lh, la, lu, bg, en, ro, hq, mo, mt, mf, mq, pv, ce, fn, va, rg) (ysz, ywd, yop, yct, ydp, yst, ytn, ytk, ysh, yto, yin, ymi, yer, yva, ypa, yvr, yce)) (fun c w q a1 a2 a3 a4 a5 a6 => h sz dp ch cv bs rc mz ls tc rd ps tk wa sp ip op tg fi se hz lt lq ik kv sa ve vf vs vt vc ll lh la lu bg en ro hq mo mt mf mq pv ce fn va rg yop yct ydp ymi yer yva yvr c w q a1 a2 a3 a4 a5 a6) I
theorem zv_mk {c w q : Nat} {ls tc rd : Int32} {tk wa ip pv ce fn yvr : Nat → Int32} (hc : c ≤ 90) (hw : w ≤ 10) (hq : q ≤ 20) (hv : zt_hv tk c) (har : zt_ar wa (zt_stk tk c)) (h6 : ∀ v, v < 6 → fn v = yvr v) :
    zv_R (nI c) (nI (zt_stk tk c).length) (nI w) ls tc rd (nI q) tk wa ip pv ce fn (nI c) (nI w) ls tc rd (nI q) tk ip pv yvr ce :=
  ⟨⟨rfl, rfl, rfl, rfl, rfl, rfl, rfl, rfl, rfl, rfl⟩, h6, c, w, q, hc, hw, hq, rfl, rfl, rfl, hv, rfl, har⟩
end
section
section
theorem i_vc_status {k : Nat} {u : SX} {v : SY} (I : i_Rel k u v) (hk : k + 3 ≤ 1536) : wpX_status (fun r => wpY_status (fun r' => r' = r ∧ i_Rel (k + 3) u v) v) u := by
  refine zv_el (Q := fun u v => wpX_status (fun r => wpY_status (fun r' => r' = r ∧ i_Rel (k + 3) u v) v) u) ?_ I
  intro ct ms gv sz dp ch cv bs rc mz ls tc rd pc ps tk wa sp ip op tg fi se hz lt lq ik kv sa ve vf vs vt vc ll lh la lu bg en ro hq mo mt mf mq pv ce fn va rg ysz ywd yop yct ydp yst ytn ytk ysh yto yin ymi yer yva ypa yvr yce H
  exact ⟨H.1.2.2.2.2.1, H⟩
theorem i_vc_turns {k : Nat} {u : SX} {v : SY} (I : i_Rel k u v) (hk : k + 3 ≤ 1536) : wpX_turns (fun r => wpY_turns (fun r' => r' = r ∧ i_Rel (k + 3) u v) v) u := by
  refine zv_el (Q := fun u v => wpX_turns (fun r => wpY_turns (fun r' => r' = r ∧ i_Rel (k + 3) u v) v) u) ?_ I
  intro ct ms gv sz dp ch cv bs rc mz ls tc rd pc ps tk wa sp ip op tg fi se hz lt lq ik kv sa ve vf vs vt vc ll lh la lu bg en ro hq mo mt mf mq pv ce fn va rg ysz ywd yop yct ydp yst ytn ytk ysh yto yin ymi yer yva ypa yvr yce H
  exact ⟨H.1.2.2.2.2.2.1, H⟩
theorem i_vc_reads {k : Nat} {u : SX} {v : SY} (I : i_Rel k u v) (hk : k + 3 ≤ 1536) : wpX_reads (fun r => wpY_reads (fun r' => r' = r ∧ i_Rel (k + 3) u v) v) u := by
  refine zv_el (Q := fun u v => wpX_reads (fun r => wpY_reads (fun r' => r' = r ∧ i_Rel (k + 3) u v) v) u) ?_ I
  intro ct ms gv sz dp ch cv bs rc mz ls tc rd pc ps tk wa sp ip op tg fi se hz lt lq ik kv sa ve vf vs vt vc ll lh la lu bg en ro hq mo mt mf mq pv ce fn va rg ysz ywd yop yct ydp yst ytn ytk ysh yto yin ymi yer yva ypa yvr yce H
  exact ⟨H.1.2.2.2.2.2.2.1, H⟩
theorem i_vc_prints {k : Nat} {u : SX} {v : SY} (I : i_Rel k u v) (hk : k + 3 ≤ 1536) : wpX_prints (fun r => wpY_prints (fun r' => r' = r ∧ i_Rel (k + 3) u v) v) u := by
  refine zv_el (Q := fun u v => wpX_prints (fun r => wpY_prints (fun r' => r' = r ∧ i_Rel (k + 3) u v) v) u) ?_ I
  intro ct ms gv sz dp ch cv bs rc mz ls tc rd pc ps tk wa sp ip op tg fi se hz lt lq ik kv sa ve vf vs vt vc ll lh la lu bg en ro hq mo mt mf mq pv ce fn va rg ysz ywd yop yct ydp yst ytn ytk ysh yto yin ymi yer yva ypa yvr yce H
  exact ⟨H.1.2.2.2.2.2.2.2.1, H⟩
theorem zv_nj {x : Int32} {n : Nat} (hn : n < 1000) (h0 : ¬ x < 0) (h : x < nI n) : ∃ j, j < n ∧ x = nI j := by
  obtain ⟨j, hj, rfl⟩ := nI_of h0
  exact ⟨j, (nI_ltI hj (by omega)).mp h, rfl⟩
theorem i_vc_token {k : Nat} {u : SX} {v : SY} (I : i_Rel k u v) (hk : k + 3 ≤ 1536) (v1 : Int32) : wpX_token (fun r => wpY_token (fun r' => r' = r ∧ i_Rel (k + 3) u v) v v1) u v1 := by
  refine zv_e2 (Q := fun u v => wpX_token (fun r => wpY_token (fun r' => r' = r ∧ i_Rel (k + 3) u v) v v1) u v1) ?_ I
  intro sz dp ch cv bs rc mz ls tc rd ps tk wa sp ip op tg fi se hz lt lq ik kv sa ve vf vs vt vc ll lh la lu bg en ro hq mo mt mf mq pv ce fn va rg yop yct ydp ymi yer yva yvr c w q hc hw hqq hv har h6
  have H := zv_mk (ls := ls) (tc := tc) (rd := rd) (ip := ip) (pv := pv) (ce := ce) hc hw hqq hv har h6
  refine br_c (fun h0 => br_t h0 ⟨rfl, H⟩) (fun h0 => br_c (fun h1 => ?_) (fun h1 => br_f h0 (br_t (Int32.not_lt.mp h1) ⟨rfl, H⟩)))
  obtain ⟨j, hj, rfl⟩ := zv_nj (by omega) h0 h1
  have hin : vp_in (nI j) 90 := vp_in_nI (by omega) (by decide)
  exact ⟨hin, br_f h0 (br_f (Int32.not_le.mpr h1) ⟨hin, rfl, H⟩)⟩
theorem i_vc_complete {k : Nat} {u : SX} {v : SY} (I : i_Rel k u v) (hk : k + 3 ≤ 1536) : wpX_complete (fun r => wpY_complete (fun r' v' => r' = r ∧ i_Rel (k + 3) u v') v) u := by
  refine zv_e2 (Q := fun u v => wpX_complete (fun r => wpY_complete (fun r' v' => r' = r ∧ i_Rel (k + 3) u v') v) u) ?_ I
  intro sz dp ch cv bs rc mz ls tc rd ps tk wa sp ip op tg fi se hz lt lq ik kv sa ve vf vs vt vc ll lh la lu bg en ro hq mo mt mf mq pv ce fn va rg yop yct ydp ymi yer yva yvr c w q hc hw hqq hv har h6
  have R := zv_mk (ls := ls) (tc := tc) (rd := rd) (ip := ip) (pv := pv) (ce := ce) hc hw hqq hv har h6
  have hy : ∀ r : Int32, (nI (zt_stk tk c).length = 0 → r = 1) → (¬ nI (zt_stk tk c).length = 0 → r = 0) →
      wpY_complete (fun r' v' => r' = r ∧ i_Rel (k + 3) (nI c, nI (zt_stk tk c).length, nI w, sz, dp, ch, cv, bs, rc, mz, ls, tc, rd, nI q, ps, tk, wa, sp, ip, op, tg, fi, se, hz, lt, lq, ik, kv, sa, ve, vf, vs, vt, vc, ll, lh, la, lu, bg, en, ro, hq, mo, mt, mf, mq, pv, ce, fn, va, rg) v') (nI c, nI w, yop, yct, ydp, ls, tc, rd, nI q, tk, ip, ymi, yer, yva, pv, yvr, ce) := by
    intro r a b
    unfold wpY_complete
    refine zu_look hv hc (fun ymi' _ => br_c (fun e => ⟨(a e).symm, R⟩) (fun ne => ⟨(b ne).symm, R⟩))
  exact br_c (fun e => hy 1 (fun _ => rfl) (fun q => absurd e q)) (fun ne => hy 0 (fun q => absurd q ne) (fun _ => rfl))
theorem i_vc_give {k : Nat} {u : SX} {v : SY} (I : i_Rel k u v) (hk : k + 3 ≤ 1536) (v1 : Int32) : wpX_give (fun r u' => wpY_give (fun r' v' => r' = r ∧ i_Rel (k + 3) u' v') v v1) u v1 := by
  refine zv_e2 (Q := fun u v => wpX_give (fun r u' => wpY_give (fun r' v' => r' = r ∧ i_Rel (k + 3) u' v') v v1) u v1) ?_ I
  intro sz dp ch cv bs rc mz ls tc rd ps tk wa sp ip op tg fi se hz lt lq ik kv sa ve vf vs vt vc ll lh la lu bg en ro hq mo mt mf mq pv ce fn va rg yop yct ydp ymi yer yva yvr c w q hc hw hqq hv har h6
  refine br_c (fun h => ?_) (fun h => br_f h ⟨rfl, zv_mk hc hw hqq hv har h6⟩)
  have hlt : w < 10 := by
    have h2 : nI w < nI 10 := h
    exact (nI_ltI (by omega) (by omega)).mp h2
  have hin : vp_in (nI w) 10 := vp_in_nI hlt (by decide)
  exact ⟨hin, nm_e (nm_r (nI_1 w) (br_t h ⟨hin, nm_e (nm_r (nI_1 w) ⟨rfl, zv_mk (w := w + 1) hc (by omega) hqq hv har h6⟩)⟩))⟩
theorem i_vc_clearInputs {k : Nat} {u : SX} {v : SY} (I : i_Rel k u v) (hk : k + 3 ≤ 1536) : wpX_clearInputs (fun u' => wpY_clearInputs (fun v' => i_Rel (k + 3) u' v') v) u := by
  refine zv_e2 (Q := fun u v => wpX_clearInputs (fun u' => wpY_clearInputs (fun v' => i_Rel (k + 3) u' v') v) u) ?_ I
  intro sz dp ch cv bs rc mz ls tc rd ps tk wa sp ip op tg fi se hz lt lq ik kv sa ve vf vs vt vc ll lh la lu bg en ro hq mo mt mf mq pv ce fn va rg yop yct ydp ymi yer yva yvr c w q hc hw hqq hv har h6
  exact zv_mk (w := 0) hc (by omega) hqq hv har h6
theorem i_vc_printed {k : Nat} {u : SX} {v : SY} (I : i_Rel k u v) (hk : k + 3 ≤ 1536) (v1 : Int32) : wpX_printed (fun r => wpY_printed (fun r' => r' = r ∧ i_Rel (k + 3) u v) v v1) u v1 := by
  refine zv_e2 (Q := fun u v => wpX_printed (fun r => wpY_printed (fun r' => r' = r ∧ i_Rel (k + 3) u v) v v1) u v1) ?_ I
  intro sz dp ch cv bs rc mz ls tc rd ps tk wa sp ip op tg fi se hz lt lq ik kv sa ve vf vs vt vc ll lh la lu bg en ro hq mo mt mf mq pv ce fn va rg yop yct ydp ymi yer yva yvr c w q hc hw hqq hv har h6
  have H := zv_mk (ls := ls) (tc := tc) (rd := rd) (ip := ip) (pv := pv) (ce := ce) hc hw hqq hv har h6
  refine br_c (fun h0 => br_t h0 ⟨rfl, H⟩) (fun h0 => br_c (fun h1 => ?_) (fun h1 => br_f h0 (br_t (Int32.not_lt.mp h1) ⟨rfl, H⟩)))
  obtain ⟨j, hj, rfl⟩ := zv_nj (by omega) h0 h1
  have hin : vp_in (nI j) 20 := vp_in_nI (by omega) (by decide)
  exact ⟨hin, br_f h0 (br_f (Int32.not_le.mpr h1) ⟨hin, rfl, H⟩)⟩
theorem zv_56 (x : Int32) : x < 6 ↔ ¬ 5 < x := by
  rw [Int32.lt_iff_toInt_lt, Int32.lt_iff_toInt_lt, show (6 : Int32).toInt = 6 from by decide, show (5 : Int32).toInt = 5 from by decide]
  omega
theorem i_vc_variable {k : Nat} {u : SX} {v : SY} (I : i_Rel k u v) (hk : k + 3 ≤ 1536) (v1 : Int32) : wpX_variable (fun r => wpY_variable (fun r' => r' = r ∧ i_Rel (k + 3) u v) v v1) u v1 := by
  refine zv_el (Q := fun u v => wpX_variable (fun r => wpY_variable (fun r' => r' = r ∧ i_Rel (k + 3) u v) v v1) u v1) ?_ I
  intro ct ms gv sz dp ch cv bs rc mz ls tc rd pc ps tk wa sp ip op tg fi se hz lt lq ik kv sa ve vf vs vt vc ll lh la lu bg en ro hq mo mt mf mq pv ce fn va rg ysz ywd yop yct ydp yst ytn ytk ysh yto yin ymi yer yva ypa yvr yce H
  refine br_c (fun h0 => br_t h0 ⟨rfl, H⟩) (fun h0 => br_c (fun h1 => ?_) (fun h1 => br_f h0 (br_t (Classical.byContradiction fun q => h1 ((zv_56 v1).mpr q)) ⟨rfl, H⟩)))
  obtain ⟨j, hj, rfl⟩ := zv_nj (n := 6) (by omega) h0 h1
  have hin : vp_in (nI j) 6 := vp_in_nI (by omega) (by decide)
  refine ⟨hin, br_f h0 (br_f ((zv_56 _).mp h1) ⟨hin, ?_, H⟩)⟩
  rw [nI_clamp (by omega)]
  exact (H.2.1 j hj).symm
theorem i_vc_cell {k : Nat} {u : SX} {v : SY} (I : i_Rel k u v) (hk : k + 3 ≤ 1536) (v1 : Int32) : wpX_cell (fun r => wpY_cell (fun r' => r' = r ∧ i_Rel (k + 3) u v) v v1) u v1 := by
  refine zv_el (Q := fun u v => wpX_cell (fun r => wpY_cell (fun r' => r' = r ∧ i_Rel (k + 3) u v) v v1) u v1) ?_ I
  intro ct ms gv sz dp ch cv bs rc mz ls tc rd pc ps tk wa sp ip op tg fi se hz lt lq ik kv sa ve vf vs vt vc ll lh la lu bg en ro hq mo mt mf mq pv ce fn va rg ysz ywd yop yct ydp yst ytn ytk ysh yto yin ymi yer yva ypa yvr yce H
  unfold wpX_cell wpY_cell
  refine br_c (fun h0 => zw_isCell (zb_br (fun _ => ⟨rfl, H⟩) (fun q => absurd (Or.inl h0) q))) (fun h0 => br_c (fun h1 => ?_) (fun h1 => zw_isCell (zb_br (fun _ => ⟨rfl, H⟩) (fun q => absurd (Or.inr (Int32.not_lt.mp h1)) q))))
  obtain ⟨j, hj, rfl⟩ := zv_nj (n := 8) (by omega) h0 h1
  have hin : vp_in (nI j) 8 := vp_in_nI (by omega) (by decide)
  refine ⟨hin, zw_isCell (zb_br (fun q => absurd (fun q2 => q2.elim h0 (fun q3 => absurd h1 (Int32.not_lt.mpr q3))) q) (fun _ => ⟨hin, ?_, H⟩))⟩
  rw [H.1.2.2.2.1]
end
end
section
/-! feed, undo, names -/
theorem zu_fit0 {t : Int32} : (zt_ok t ∧ zt_kd t = 0) ↔ ((0 ≤ t ∧ t ≤ 5) ∨ (10 ≤ t ∧ t ≤ 21)) := by
  constructor
  · rintro ⟨h, hk⟩
    have n30 : ¬ 30 ≤ t := fun q => by rw [zs_kd1 q] at hk; exact absurd hk (by decide)
    rcases h with h | h | h | h | h
    · exact Or.inl h
    · exact Or.inr h
    · exact absurd h.1 n30
    · exact absurd (Int32.le_trans (by decide) h.1) n30
    · exact absurd (Int32.le_trans (by decide) h.1) n30
  · rintro (h | h)
    · exact ⟨Or.inl h, zs_kd0 (fun q => absurd (Int32.le_trans q h.2) (by decide))⟩
    · exact ⟨Or.inr (Or.inl h), zs_kd0 (fun q => absurd (Int32.le_trans q h.2) (by decide))⟩
theorem zu_fit1 {t : Int32} : (zt_ok t ∧ zt_kd t = 1) ↔ ((30 ≤ t ∧ t ≤ 35) ∨ (61 ≤ t ∧ t ≤ 72) ∨ (80 ≤ t ∧ t ≤ 120)) := by
  constructor
  · rintro ⟨h, hk⟩
    have p30 := zs_k1n hk
    rcases h with h | h | h | h | h
    · exact absurd (Int32.le_trans p30 h.2) (by decide)
    · exact absurd (Int32.le_trans p30 h.2) (by decide)
    · exact Or.inl h
    · exact Or.inr (Or.inl h)
    · exact Or.inr (Or.inr h)
  · rintro (h | h | h)
    · exact ⟨Or.inr (Or.inr (Or.inl h)), zs_kd1 h.1⟩
    · exact ⟨Or.inr (Or.inr (Or.inr (Or.inl h))), zs_kd1 (Int32.le_trans (by decide) h.1)⟩
    · exact ⟨Or.inr (Or.inr (Or.inr (Or.inr h))), zs_kd1 (Int32.le_trans (by decide) h.1)⟩
theorem zu_hv1 {tk : ty_V} {c : Nat} {t : Int32} {s : List Int32} (hv : zt_hv tk c) (hs : zt_stk tk c = zt_kd t :: s) (ho : zt_ok t) : zt_hv (upd tk c t) (c + 1) := by
  intro k hk
  have hcong : ∀ j, j ≤ c → zt_stk (upd tk c t) j = zt_stk tk j := fun j hj => zt_cong j (fun i hi => zq_un (by omega))
  by_cases e : k = c
  · subst e
    rw [zq_us, hcong k (Nat.le_refl _)]
    exact ⟨ho, s, hs⟩
  · rw [zq_un e, hcong k (by omega)]
    exact hv k (by omega)
section
variable {ysz ywd yop yct ydp yst ytn ytk ysh : Int32} {yto yin ymi yer yva ypa yvr yce : Nat → Int32}
variable {post : Int32 → SY → Prop} {c : Nat} {tk : ty_V} {t : Int32}
theorem zu_fy0 (hv : zt_hv tk c) (hc : c ≤ 90) (h : zt_stk tk c = [] ∨ c = 90) (H : ∀ yop ymi, post (-2) (nI c, ywd, yop, yct, ydp, yst, ytn, ytk, ysh, tk, yin, ymi, yer, yva, ypa, yvr, yce)) : wpY_feed post (nI c, ywd, yop, yct, ydp, yst, ytn, ytk, ysh, tk, yin, ymi, yer, yva, ypa, yvr, yce) t := by
  unfold wpY_feed
  refine zu_look hv hc (fun ymi' har => ?_)
  rcases h with h | h
  · rw [h]; exact br_t rfl (H _ _)
  · subst h
    exact br_c (fun _ => H _ _) (fun _ => br_f (by decide) (H _ _))
theorem zu_fy {k0 : Int32} {s : List Int32} (hv : zt_hv tk c) (hc : c < 90) (hs : zt_stk tk c = k0 :: s)
    (H0 : ¬ (zt_ok t ∧ zt_kd t = k0) → ∀ yop ymi, post (-1) (nI c, ywd, yop, yct, ydp, yst, ytn, ytk, ysh, tk, yin, ymi, yer, yva, ypa, yvr, yce))
    (H1 : (zt_ok t ∧ zt_kd t = k0) → ∀ yop ymi, post (nI (c + 1)) (nI (c + 1), ywd, yop, yct, ydp, 0, 0, 0, 0, upd tk c t, yin, ymi, yer, yva, ypa, zx_fl yvr 0 6 0, zx_fl yce 0 8 0)) : wpY_feed post (nI c, ywd, yop, yct, ydp, yst, ytn, ytk, ysh, tk, yin, ymi, yer, yva, ypa, yvr, yce) t := by
  have hl := zt_len hv c (Nat.le_refl _)
  have hk01 := zu_mem tk c k0 (by rw [hs]; exact List.mem_cons_self)
  unfold wpY_feed
  refine zu_look hv (by omega) (fun ymi' har => ?_)
  rw [hs] at har hl
  rw [hs, List.length_cons]
  rw [List.length_cons] at hl
  have hcl : (nI s.length).toNatClampNeg = s.length := nI_clamp (by omega)
  refine br_f (nI_ne0 (by omega) (by omega)) (br_t (nI_lt (b := 90) hc (by decide)) ?_)
  rw [nI_pred, hcl, har.1]
  have k50 : ∀ (p : Prop) [Decidable p], (p ↔ (zt_ok t ∧ zt_kd t = k0)) → wY_feed_50 post t (zb_i p) (nI c) ywd (nI (s.length + 1)) yct ydp yst ytn ytk ysh tk yin ymi' yer yva ypa yvr yce := by
    intro p _ hp
    unfold wY_feed_50
    refine zb_br (fun np => H0 (fun q => np (hp.mpr q)) _ _) (fun hp1 => ⟨vp_in_nI hc (by decide), nm_r (e' := upd tk c t) (by rw [nI_clamp (by omega)]) (nm_r (nI_1 c) (zu_forget ?_))⟩)
    exact H1 (hp.mp hp1) _ _
  refine ⟨vp_in_nI (by omega) (by decide), ?_⟩
  rcases hk01 with e | e
  · subst e
    exact br_t rfl (zw_isStatement (k50 _ zu_fit0.symm))
  · subst e
    exact br_f (by decide) (zw_isExpression (k50 _ zu_fit1.symm))
end
theorem i_vc_feed {k : Nat} {u : SX} {v : SY} (I : i_Rel k u v) (hk : k + 3 ≤ 1536) (v1 : Int32) : wpX_feed (fun r u' => wpY_feed (fun r' v' => r' = r ∧ i_Rel (k + 3) u' v') v v1) u v1 := by
  refine zv_e2 (Q := fun u v => wpX_feed (fun r u' => wpY_feed (fun r' v' => r' = r ∧ i_Rel (k + 3) u' v') v v1) u v1) ?_ I
  intro sz dp ch cv bs rc mz ls tc rd ps tk wa sp ip op tg fi se hz lt lq ik kv sa ve vf vs vt vc ll lh la lu bg en ro hq mo mt mf mq pv ce fn va rg yop yct ydp ymi yer yva yvr c w q hc hw hqq hv har h6
  have hl := zt_len hv c (Nat.le_refl _)
  have R := zv_mk (ls := ls) (tc := tc) (rd := rd) (ip := ip) (pv := pv) (ce := ce) hc hw hqq hv har h6
  cases hs : zt_stk tk c with
  | nil => exact br_t rfl (zu_fy0 hv hc (Or.inl hs) (fun yop ymi => ⟨rfl, by rw [hs] at R; exact R⟩))
  | cons k0 s =>
    rw [hs] at har hl R
    rw [List.length_cons] at hl
    have hcl : (nI s.length).toNatClampNeg = s.length := nI_clamp (by omega)
    refine br_f (nI_ne0 (by rw [List.length_cons]; omega) (by rw [List.length_cons]; omega)) ?_
    rcases Nat.lt_or_ge c 90 with h90 | h90
    · refine br_t (nI_lt (b := 90) h90 (by decide)) ?_
      have no : ¬ (zt_ok v1 ∧ zt_kd v1 = k0) → wpY_feed (fun r' v' => r' = -1 ∧ i_Rel (k + 3) (nI c, nI (k0 :: s).length, nI w, sz, dp, ch, cv, bs, rc, mz, ls, tc, rd, nI q, ps, tk, wa, sp, ip, op, tg, fi, se, hz, lt, lq, ik, kv, sa, ve, vf, vs, vt, vc, ll, lh, la, lu, bg, en, ro, hq, mo, mt, mf, mq, pv, ce, fn, va, rg) v') (nI c, nI w, yop, yct, ydp, ls, tc, rd, nI q, tk, ip, ymi, yer, yva, pv, yvr, ce) v1 :=
        fun hn => zu_fy hv h90 hs (fun _ yop ymi => ⟨rfl, R⟩) (fun q => absurd q hn)
      refine zx_partsOf ?_
      by_cases ho : zt_ok v1
      · have hpr : zx_pr v1 = nI (zt_pt v1) := if_pos ho
        have h3 := zt_p3 v1
        rw [hpr]
        refine br_f (nI_pos (by omega)) (zx_kindOf ?_)
        rw [List.length_cons, nI_pred, hcl, har.1]
        refine ⟨vp_in_nI (by omega) (by decide), br_c (fun ek => ?_) (fun nk => no (fun q => nk q.2))⟩
        subst ek
        have hv' := zu_hv1 hv hs ho
        have e8 : v1.toInt8.toInt32 = v1 := by
          obtain ⟨j, hj, rfl⟩ := zs_okn ho
          exact zn_bN (by omega)
        refine ⟨vp_in_nI h90 (by decide), nm_r (e' := upd tk c v1) (by rw [nI_clamp (by omega), pk_vb, e8]) (nm_r (nI_1 c) (zu_rescan hv' (by omega) (fun wa' har' => zx_forget ?_)))⟩
        refine zu_fy hv h90 hs (fun q => absurd ⟨ho, rfl⟩ q) (fun _ yop ymi => ⟨rfl, ?_⟩)
        exact zv_mk (q := 0) (c := c + 1) (ls := 0) (tc := 0) (rd := 0) (by omega) hw (by omega) hv' har' (fun v hv6 => by rw [zx_f96 v hv6, zx_f96 v hv6])
      · have hpr : zx_pr v1 = -1 := if_neg ho
        rw [hpr]
        exact br_t (by decide) (no (fun q => ho q.1))
    · obtain rfl : c = 90 := by omega
      exact br_f (by decide) (zu_fy0 hv hc (Or.inr rfl) (fun yop ymi => ⟨rfl, R⟩))
theorem i_vc_undo {k : Nat} {u : SX} {v : SY} (I : i_Rel k u v) (hk : k + 3 ≤ 1536) : wpX_undo (fun r u' => wpY_undo (fun r' v' => r' = r ∧ i_Rel (k + 3) u' v') v) u := by
  refine zv_e2 (Q := fun u v => wpX_undo (fun r u' => wpY_undo (fun r' v' => r' = r ∧ i_Rel (k + 3) u' v') v) u) ?_ I
  intro sz dp ch cv bs rc mz ls tc rd ps tk wa sp ip op tg fi se hz lt lq ik kv sa ve vf vs vt vc ll lh la lu bg en ro hq mo mt mf mq pv ce fn va rg yop yct ydp ymi yer yva yvr c w q hc hw hqq hv har h6
  cases c with
  | zero => exact br_t rfl (br_t rfl ⟨rfl, zv_mk hc hw hqq hv har h6⟩)
  | succ c =>
    have hv' : zt_hv tk c := fun j hj => hv j (by omega)
    have hn : ¬ nI (c + 1) = 0 := nI_ne0 (by omega) (by omega)
    refine br_f hn (nm_r (nI_pred c) (zu_rescan hv' (by omega) (fun wa' har' => zx_forget ⟨vp_in_nI (by omega) (by decide), ?_⟩)))
    refine br_f hn (nm_r (nI_pred c) (zu_forget ⟨vp_in_nI (by omega) (by decide), rfl, ?_⟩))
    exact zv_mk (q := 0) (c := c) (ls := 0) (tc := 0) (rd := 0) (by omega) hw (by omega) hv' har' (fun v hv6 => by rw [zx_f96 v hv6, zx_f96 v hv6])
def zu_nm (s t : Int32) : Int32 := if 10 ≤ t ∧ t ≤ 15 then s ||| ((1 : Int32) <<< ((t - 10) &&& 31)) else if 16 ≤ t ∧ t ≤ 21 then s ||| ((1 : Int32) <<< ((t - 16) &&& 31))
  else if 30 ≤ t ∧ t ≤ 35 then s ||| ((1 : Int32) <<< ((t - 30) &&& 31)) else s
def zu_nv (tk : ty_V) : Nat → Int32
  | 0 => 0
  | i + 1 => zu_nm (zu_nv tk i) (tk i)
section
variable {ct ms gv sz dp ch cv bs rc mz ls tc rd pc ps : Int32} {tk wa sp ip op tg fi se hz lt lq ik kv sa ve vf vs vt vc la lu bg en ro hq mo mt mf mq pv ce fn va rg : Nat → Int32} {ll lh : Nat → Int64}
theorem zu_xn {post : Int32 → Prop} {c : Nat} (hc : c ≤ 90) (h : post (zu_nv tk c)) : wpX_names post (nI c, ms, gv, sz, dp, ch, cv, bs, rc, mz, ls, tc, rd, pc, ps, tk, wa, sp, ip, op, tg, fi, se, hz, lt, lq, ik, kv, sa, ve, vf, vs, vt, vc, ll, lh, la, lu, bg, en, ro, hq, mo, mt, mf, mq, pv, ce, fn, va, rg) := by
  have lp : ∀ d i, i + d = c → wX_names_4 post (nI c) ms gv sz dp ch cv bs rc mz ls tc rd pc ps tk wa sp ip op tg fi se hz lt lq ik kv sa ve vf vs vt vc ll lh la lu bg en ro hq mo mt mf mq pv ce fn va rg (d + 1) (zu_nv tk i) (nI i) := by
    intro d
    induction d with
    | zero => intro i hi; obtain rfl : i = c := by omega
              exact br_t (nI_le (Nat.le_refl _) (by omega)) h
    | succ d ih =>
      intro i hi
      have hci : (nI i).toNatClampNeg = i := nI_clamp (by omega)
      have nx := ih (i + 1) (by omega)
      have k67 : ¬ (10 ≤ tk i ∧ tk i ≤ 15) → ¬ (16 ≤ tk i ∧ tk i ≤ 21) → wX_names_67 post (wX_names_4 post (nI c) ms gv sz dp ch cv bs rc mz ls tc rd pc ps tk wa sp ip op tg fi se hz lt lq ik kv sa ve vf vs vt vc ll lh la lu bg en ro hq mo mt mf mq pv ce fn va rg (d + 1)) (zu_nv tk i) (nI i) (tk i) (nI c) ms gv sz dp ch cv bs rc mz ls tc rd pc ps tk wa sp ip op tg fi se hz lt lq ik kv sa ve vf vs vt vc ll lh la lu bg en ro hq mo mt mf mq pv ce fn va rg := by
        intro n1 n2
        have e0 : ¬ (30 ≤ tk i ∧ tk i ≤ 35) → zu_nv tk (i + 1) = zu_nv tk i := fun n3 => by simp only [zu_nv, zu_nm]; rw [if_neg n1, if_neg n2, if_neg n3]
        have e1 : (30 ≤ tk i ∧ tk i ≤ 35) → zu_nv tk (i + 1) = zu_nv tk i ||| ((1 : Int32) <<< ((tk i - 30) &&& 31)) := fun n3 => by simp only [zu_nv, zu_nm]; rw [if_neg n1, if_neg n2, if_pos n3]
        unfold wX_names_67
        refine br_c (fun g => nm_r (nI_1 i) ?_) (fun g => br_c (fun g2 => nm_r (nI_1 i) ?_) (fun g2 => nm_r (e1 ⟨Int32.not_lt.mp g, Int32.not_lt.mp g2⟩).symm (nm_r (nI_1 i) nx)))
        · rw [← e0 (fun q => absurd q.1 (Int32.not_le.mpr g))]; exact nx
        · rw [← e0 (fun q => absurd q.2 (Int32.not_le.mpr g2))]; exact nx
      have k43 : ¬ (10 ≤ tk i ∧ tk i ≤ 15) → wX_names_43 post (wX_names_4 post (nI c) ms gv sz dp ch cv bs rc mz ls tc rd pc ps tk wa sp ip op tg fi se hz lt lq ik kv sa ve vf vs vt vc ll lh la lu bg en ro hq mo mt mf mq pv ce fn va rg (d + 1)) (zu_nv tk i) (nI i) (tk i) (nI c) ms gv sz dp ch cv bs rc mz ls tc rd pc ps tk wa sp ip op tg fi se hz lt lq ik kv sa ve vf vs vt vc ll lh la lu bg en ro hq mo mt mf mq pv ce fn va rg := by
        intro n1
        have e1 : (16 ≤ tk i ∧ tk i ≤ 21) → zu_nv tk (i + 1) = zu_nv tk i ||| ((1 : Int32) <<< ((tk i - 16) &&& 31)) := fun n3 => by simp only [zu_nv, zu_nm]; rw [if_neg n1, if_pos n3]
        unfold wX_names_43
        exact br_c (fun g => k67 n1 (fun q => absurd q.1 (Int32.not_le.mpr g))) (fun g => br_c (fun g2 => k67 n1 (fun q => absurd q.2 (Int32.not_le.mpr g2))) (fun g2 => nm_r (e1 ⟨Int32.not_lt.mp g, Int32.not_lt.mp g2⟩).symm (nm_r (nI_1 i) nx)))
      have e1 : (10 ≤ tk i ∧ tk i ≤ 15) → zu_nv tk (i + 1) = zu_nv tk i ||| ((1 : Int32) <<< ((tk i - 10) &&& 31)) := fun n3 => by simp only [zu_nv, zu_nm]; rw [if_pos n3]
      refine br_f (nI_ge (by omega) (by omega)) ?_
      rw [hci]
      exact ⟨vp_in_nI (by omega) (by decide), nm_r (e' := tk i) rfl (br_c (fun g => k43 (fun q => absurd q.1 (Int32.not_le.mpr g))) (fun g => br_c (fun g2 => k43 (fun q => absurd q.2 (Int32.not_le.mpr g2))) (fun g2 => nm_r (e1 ⟨Int32.not_lt.mp g, Int32.not_lt.mp g2⟩).symm (nm_r (nI_1 i) nx))))⟩
  unfold wpX_names
  exact ⟨c + 1, lp c 0 (by omega)⟩
end
section
variable {ysz ywd yop yct ydp yst ytn ytk ysh : Int32} {yto yin ymi yer yva ypa yvr yce : Nat → Int32}
theorem zu_yn {post : Int32 → Prop} {c : Nat} {tk : ty_V} (hc : c ≤ 90) (h : post (zu_nv tk c)) : wpY_names post (nI c, ywd, yop, yct, ydp, yst, ytn, ytk, ysh, tk, yin, ymi, yer, yva, ypa, yvr, yce) := by
  have lp : ∀ d i, i + d = c → wY_names_4 post (nI c) ywd yop yct ydp yst ytn ytk ysh tk yin ymi yer yva ypa yvr yce (d + 1) (zu_nv tk i) (nI i) := by
    intro d
    induction d with
    | zero => intro i hi; obtain rfl : i = c := by omega
              exact br_t (nI_le (Nat.le_refl _) (by omega)) h
    | succ d ih =>
      intro i hi
      have hci : (nI i).toNatClampNeg = i := nI_clamp (by omega)
      have nx := ih (i + 1) (by omega)
      have k77 : ∀ z : Int32, ¬ z < 0 → zu_nv tk (i + 1) = zu_nv tk i ||| ((1 : Int32) <<< (z &&& 31)) → wY_names_77 post (wY_names_4 post (nI c) ywd yop yct ydp yst ytn ytk ysh tk yin ymi yer yva ypa yvr yce (d + 1)) (zu_nv tk i) (nI i) z (nI c) ywd yop yct ydp yst ytn ytk ysh tk yin ymi yer yva ypa yvr yce := by
        intro z hz e
        unfold wY_names_77
        exact br_f hz (nm_r e.symm (nm_r (nI_1 i) nx))
      have k76 : zu_nv tk (i + 1) = zu_nv tk i → wY_names_76 post (wY_names_4 post (nI c) ywd yop yct ydp yst ytn ytk ysh tk yin ymi yer yva ypa yvr yce (d + 1)) (zu_nv tk i) (nI i) (nI c) ywd yop yct ydp yst ytn ytk ysh tk yin ymi yer yva ypa yvr yce := by
        intro e
        unfold wY_names_76 wY_names_77
        refine br_t (by decide) (nm_r (nI_1 i) ?_)
        rw [← e]; exact nx
      have pos : ∀ (a : Int32) (k : Nat), a.toInt = k → k < 1000 → a ≤ tk i → tk i ≤ a + 5 → (a + 5).toInt = k + 5 → ¬ tk i - a < 0 := by
        intro a k h1 h2 h3 h4 h5 q
        obtain ⟨j, hj, ej⟩ := zy_sv h1 h2 h3 h4 h5
        rw [ej] at q; exact absurd q (nI_pos (by omega))
      have k57 : ¬ (10 ≤ tk i ∧ tk i ≤ 15) → ¬ (16 ≤ tk i ∧ tk i ≤ 21) → wY_names_57 post (wY_names_4 post (nI c) ywd yop yct ydp yst ytn ytk ysh tk yin ymi yer yva ypa yvr yce (d + 1)) (zu_nv tk i) (nI i) (tk i) (nI c) ywd yop yct ydp yst ytn ytk ysh tk yin ymi yer yva ypa yvr yce := by
        intro n1 n2
        have e0 : ¬ (30 ≤ tk i ∧ tk i ≤ 35) → zu_nv tk (i + 1) = zu_nv tk i := fun n3 => by simp only [zu_nv, zu_nm]; rw [if_neg n1, if_neg n2, if_neg n3]
        have e1 : (30 ≤ tk i ∧ tk i ≤ 35) → zu_nv tk (i + 1) = zu_nv tk i ||| ((1 : Int32) <<< ((tk i - 30) &&& 31)) := fun n3 => by simp only [zu_nv, zu_nm]; rw [if_neg n1, if_neg n2, if_pos n3]
        unfold wY_names_57
        refine br_c (fun g => k76 (e0 (fun q => absurd q.1 (Int32.not_le.mpr g)))) (fun g => br_c (fun g2 => k76 (e0 (fun q => absurd q.2 (Int32.not_le.mpr g2)))) (fun g2 => ?_))
        have hh : 30 ≤ tk i ∧ tk i ≤ 35 := ⟨Int32.not_lt.mp g, Int32.not_lt.mp g2⟩
        exact k77 _ (pos 30 30 (by decide) (by decide) hh.1 hh.2 (by decide)) (e1 hh)
      have k38 : ¬ (10 ≤ tk i ∧ tk i ≤ 15) → wY_names_38 post (wY_names_4 post (nI c) ywd yop yct ydp yst ytn ytk ysh tk yin ymi yer yva ypa yvr yce (d + 1)) (zu_nv tk i) (nI i) (tk i) (nI c) ywd yop yct ydp yst ytn ytk ysh tk yin ymi yer yva ypa yvr yce := by
        intro n1
        have e1 : (16 ≤ tk i ∧ tk i ≤ 21) → zu_nv tk (i + 1) = zu_nv tk i ||| ((1 : Int32) <<< ((tk i - 16) &&& 31)) := fun n3 => by simp only [zu_nv, zu_nm]; rw [if_neg n1, if_pos n3]
        unfold wY_names_38
        refine br_c (fun g => k57 n1 (fun q => absurd q.1 (Int32.not_le.mpr g))) (fun g => br_c (fun g2 => k57 n1 (fun q => absurd q.2 (Int32.not_le.mpr g2))) (fun g2 => ?_))
        have hh : 16 ≤ tk i ∧ tk i ≤ 21 := ⟨Int32.not_lt.mp g, Int32.not_lt.mp g2⟩
        exact k77 _ (pos 16 16 (by decide) (by decide) hh.1 hh.2 (by decide)) (e1 hh)
      have e1 : (10 ≤ tk i ∧ tk i ≤ 15) → zu_nv tk (i + 1) = zu_nv tk i ||| ((1 : Int32) <<< ((tk i - 10) &&& 31)) := fun n3 => by simp only [zu_nv, zu_nm]; rw [if_pos n3]
      refine br_f (nI_ge (by omega) (by omega)) ?_
      rw [hci]
      refine ⟨vp_in_nI (by omega) (by decide), nm_r (e' := tk i) rfl (br_c (fun g => k38 (fun q => absurd q.1 (Int32.not_le.mpr g))) (fun g => br_c (fun g2 => k38 (fun q => absurd q.2 (Int32.not_le.mpr g2))) (fun g2 => ?_)))⟩
      have hh : 10 ≤ tk i ∧ tk i ≤ 15 := ⟨Int32.not_lt.mp g, Int32.not_lt.mp g2⟩
      exact k77 _ (pos 10 10 (by decide) (by decide) hh.1 hh.2 (by decide)) (e1 hh)
  unfold wpY_names
  exact ⟨c + 1, lp c 0 (by omega)⟩
end
theorem i_vc_names {k : Nat} {u : SX} {v : SY} (I : i_Rel k u v) (hk : k + 3 ≤ 1536) : wpX_names (fun r => wpY_names (fun r' => r' = r ∧ i_Rel (k + 3) u v) v) u := by
  refine zv_e2 (Q := fun u v => wpX_names (fun r => wpY_names (fun r' => r' = r ∧ i_Rel (k + 3) u v) v) u) ?_ I
  intro sz dp ch cv bs rc mz ls tc rd ps tk wa sp ip op tg fi se hz lt lq ik kv sa ve vf vs vt vc ll lh la lu bg en ro hq mo mt mf mq pv ce fn va rg yop yct ydp ymi yer yva yvr c w q hc hw hqq hv har h6
  exact zu_xn hc (zu_yn hc ⟨rfl, zv_mk hc hw hqq hv har h6⟩)
end
section
/-! run -/
section
variable {ysz ywd yop yct ydp yst ytn ytk ysh : Int32} {yto yin ymi yer yva ypa yvr yce : Nat → Int32}
variable {post : Int32 → SY → Prop} {c : Nat} {tk : ty_V} {t v1 v2 : Int32}
theorem zu_ybad (hv : zt_hv tk c) (hc : c ≤ 90) (h : ¬ zt_stk tk c = [] ∨ v1 < 1 ∨ 4 < v1 ∨ v2 < 3 ∨ ¬ v2 ≤ 8) (H : ∀ yop ymi, post (-1) (nI c, ywd, yop, yct, ydp, yst, ytn, ytk, ysh, tk, yin, ymi, yer, yva, ypa, yvr, yce)) : wpY_run post (nI c, ywd, yop, yct, ydp, yst, ytn, ytk, ysh, tk, yin, ymi, yer, yva, ypa, yvr, yce) v1 v2 := by
  have hl := zt_len hv c (Nat.le_refl _)
  unfold wpY_run wpY_complete
  refine zu_look hv hc (fun ymi' har => br_c (fun e => br_f (by decide) (br_c (fun _ => H _ _) (fun n1 => br_c (fun _ => H _ _) (fun n2 => br_c (fun _ => H _ _) (fun n3 => br_c (fun n4 => ?_) (fun _ => H _ _)))))) (fun ne => br_t rfl (H _ _)))
  exfalso
  rcases h with h | h | h | h | h
  · apply h
    cases hs : zt_stk tk c with
    | nil => rfl
    | cons a s =>
      rw [hs] at e hl
      rw [List.length_cons] at e hl
      exact absurd e (nI_ne0 (by omega) (by omega))
  · exact n1 h
  · exact n2 h
  · exact n3 h
  · exact h n4
theorem zu_ygood {w : Nat} {I : ty_V} (hv : zt_hv tk c) (hc : c ≤ 90) (hs : zt_stk tk c = []) (n1 : ¬ v1 < 1) (n2 : ¬ 4 < v1) (n3 : ¬ v2 < 3) (n4 : v2 ≤ 8)
    (H : ∀ yop ymi er, er 0 = 0 → zy_R post c w yop tk I ymi er 1 yva 0 0 (zx_fl yce 0 8 0, 0, 0, 0, ypa) (zx_fl yvr 0 6 0)) : wpY_run post (nI c, nI w, yop, yct, ydp, yst, ytn, ytk, ysh, tk, I, ymi, yer, yva, ypa, yvr, yce) v1 v2 := by
  unfold wpY_run wpY_complete
  refine zu_look hv hc (fun ymi' har => br_t (by rw [hs]; rfl) (br_f (by decide) (br_f n1 (br_f n2 (br_f n3 (br_t n4 ?_))))))
  refine zu_forget ?_
  refine zw_errand (ct := 0) (p := 0) (k := 0) (by decide) ?_
  exact H _ ymi' (upd yer 0 (nI (8 * 0 + 0))) zq_us
end
theorem i_vc_run {k : Nat} {u : SX} {v : SY} (I : i_Rel k u v) (hk : k + 3 ≤ 1536) (v1 : Int32) (v2 : Int32) : wpX_run (fun r u' => wpY_run (fun r' v' => r' = r ∧ i_Rel (k + 3) u' v') v v1 v2) u v1 v2 := by
  refine zv_e2 (Q := fun u v => wpX_run (fun r u' => wpY_run (fun r' v' => r' = r ∧ i_Rel (k + 3) u' v') v v1 v2) u v1 v2) ?_ I
  intro sz dp ch cv bs rc mz ls tc rd ps tk wa sp ip op tg fi se hz lt lq ik kv sa ve vf vs vt vc ll lh la lu bg en ro hq mo mt mf mq pv ce fn va rg yop yct ydp ymi yer yva yvr c w q hc hw hqq hv har h6
  have hl := zt_len hv c (Nat.le_refl _)
  have R0 := zv_mk (ls := ls) (tc := tc) (rd := rd) (ip := ip) (pv := pv) (ce := ce) hc hw hqq hv har h6
  have bad : (¬ zt_stk tk c = [] ∨ v1 < 1 ∨ 4 < v1 ∨ v2 < 3 ∨ ¬ v2 ≤ 8) → wpY_run (fun r' v' => r' = -1 ∧ i_Rel (k + 3) (nI c, nI (zt_stk tk c).length, nI w, sz, dp, ch, cv, bs, rc, mz, ls, tc, rd, nI q, ps, tk, wa, sp, ip, op, tg, fi, se, hz, lt, lq, ik, kv, sa, ve, vf, vs, vt, vc, ll, lh, la, lu, bg, en, ro, hq, mo, mt, mf, mq, pv, ce, fn, va, rg) v') (nI c, nI w, yop, yct, ydp, ls, tc, rd, nI q, tk, ip, ymi, yer, yva, pv, yvr, ce) v1 v2 :=
    fun h => zu_ybad hv hc h (fun yop ymi => ⟨rfl, R0⟩)
  unfold wpX_run
  refine br_c (fun e => br_f (by decide) (br_c (fun h => bad (Or.inr (Or.inl h))) (fun n1 => br_c (fun h => bad (Or.inr (Or.inr (Or.inl h)))) (fun n2 => br_c (fun h => bad (Or.inr (Or.inr (Or.inr (Or.inl h))))) (fun n3 => br_c (fun n4 => ?_) (fun h => bad (Or.inr (Or.inr (Or.inr (Or.inr h)))))))))) (fun ne => br_t rfl (bad (Or.inl (fun h => ne (by rw [h]; rfl)))))
  have hs : zt_stk tk c = [] := by
    cases hs : zt_stk tk c with
    | nil => rfl
    | cons a s =>
      rw [hs] at e hl
      rw [List.length_cons] at e hl
      exact absurd e (nI_ne0 (by omega) (by omega))
  clear bad
  obtain ⟨e', hT, he, h0, hk0⟩ := zt_tree hv hs
  have hok : ∀ j, j < c → zt_ok (tk j) := fun j hj => (hv j hj).1
  obtain ⟨rn, hrn, rfl⟩ := nI_of2 (M := 8) (n := 8) (by decide) (fun h => n3 (Int32.lt_trans h (by decide))) n4
  have h3 : 3 ≤ rn := by
    apply Classical.byContradiction
    intro h
    exact n3 (nI_lt (b := 3) (by omega) (by decide))
  refine zx_lower hT hok hc h0 he (fun dp' sp' lt' lq' op' tg' fi' se' hz' b hb hlay hstop hz0 => ?_)
  have hwf := zp_wf hT hok hc h0 hb hlay hstop hz0
  obtain ⟨R, vr, hR, hRv, hRok, hRX, hRY⟩ := zp_top (I := ip) (D0 := (zx_fl ce 0 8 0, 0, 0, 0, pv)) (vr0 := zx_fl yvr 0 6 0) ⟨hT, hok, hc, hw⟩ h0 he hk0 hlay hstop zx_f96 ⟨rfl, rfl, rfl⟩
  have hG := zp_gd hwf hz0 hRX
  have H : zx_H (fun r u' => wpY_run (fun r' v' => r' = r ∧ i_Rel (k + 3) u' v') (nI c, nI w, yop, yct, ydp, ls, tc, rd, nI q, tk, ip, ymi, yer, yva, pv, yvr, ce) v1 (nI rn)) R (nI c) (nI (zt_stk tk c).length) (nI w) tk wa ip := by
    intro sz dp ch cv bs rc mz ps sp op tg fi se hz lt lq ik kv sa ve vf vs vt vc la lu bg en ro hq mo mt mf mq fn va rg ll lh hf
    refine zu_ygood hv hc hs n1 n2 n3 n4 (fun yop ymi er her => hRY _ yop ymi er yva her (fun er' va' ct' dp' => ⟨rfl, ?_⟩))
    exact zv_mk hc hw hRok.2.2 hv har (fun v hv6 => (hf v hv6).trans (hRv v hv6))
  refine br_c (fun _ => zx_r44 hw hR h3 hrn hG H) (fun _ => br_c (fun _ => zx_r44 hw hR h3 hrn hG H) (fun _ => zx_r48 hw hR h3 hrn hG H))
end
