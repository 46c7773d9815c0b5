section
/-! pure rows to paste: stores, nI and lN arithmetic, masks, shifts, narrowing, branches by naturals (pk_le, pk_lt, pk_eq), loops (lp1 .. lp16: the measure of the state; rp1 ..: recursion), negatives. Take what you need -/
theorem pk_us {f : Nat → Int32} {k : Nat} {x : Int32} : upd f k x k = x := if_pos rfl
theorem pk_un {f : Nat → Int32} {k j : Nat} {x : Int32} (h : j ≠ k) : upd f k x j = f j := if_neg h
theorem pk_uLs {f : Nat → Int64} {k : Nat} {x : Int64} : vp_updL f k x k = x := if_pos rfl
theorem pk_uLn {f : Nat → Int64} {k j : Nat} {x : Int64} (h : j ≠ k) : vp_updL f k x j = f j := if_neg h
theorem pk_sub {a b : Nat} (h : b ≤ a) : nI a - nI b = nI (a - b) := by
  obtain ⟨c, rfl⟩ : ∃ c, a = c + b := ⟨a - b, by omega⟩
  rw [← nI_add, Int32.add_sub_cancel, Nat.add_sub_cancel]
theorem pk_m1 (n : Nat) : nI (n + 1) + (-1) = nI n := by
  rw [← nI_1, Int32.add_assoc, show (1 : Int32) + (-1) = 0 from rfl, Int32.add_zero]
theorem pk_mul (a b : Nat) : nI a * nI b = nI (a * b) := (Int32.ofNat_mul a b).symm
theorem pk_div {a d : Nat} (ha : a < 2 ^ 31) (h0 : 0 < d) (hd : d < 2 ^ 31) : nI a / nI d = nI (a / d) := by
  apply Int32.toInt_inj.mp
  rw [lg_idiv_nonneg (by rw [nI_toInt ha]; omega) (by rw [nI_toInt hd]; omega), nI_toInt ha, nI_toInt hd, nI_toInt (Nat.lt_of_le_of_lt (Nat.div_le_self a d) ha)]
  first | rfl | exact (Int.natCast_ediv _ _).symm
theorem pk_rem {a d : Nat} (ha : a < 2 ^ 31) (h0 : 0 < d) (hd : d < 2 ^ 31) : nI a - nI a / nI d * nI d = nI (a % d) := by
  rw [pk_div ha h0 hd, pk_mul, pk_sub (Nat.div_mul_le_self a d)]
  exact congrArg nI (by have := Nat.div_add_mod' a d; omega)
theorem pk_sub_toInt {a b : Nat} (ha : a < 2 ^ 30) (hb : b < 2 ^ 30) : (nI a - nI b).toInt = (a : Int) - b := by
  rw [Int32.toInt_sub, nI_toInt (by omega), nI_toInt (by omega)]
  exact Int.bmod_eq_of_le (by omega) (by omega)
theorem pk_sneg {a b : Nat} (hb : b < 2 ^ 30) (h : a < b) : nI a - nI b < 0 := by
  rw [Int32.lt_iff_toInt_lt, pk_sub_toInt (by omega) hb, show (0 : Int32).toInt = 0 from by decide]
  omega
theorem pk_ix (x : Int32) {n : Nat} (hn : n < 2 ^ 31) : x < 0 ∨ nI n ≤ x ∨ ∃ j : Nat, j < n ∧ x = nI j := by
  by_cases h : x < 0
  · exact Or.inl h
  · obtain ⟨j, hj, rfl⟩ := nI_of h
    by_cases h2 : j < n
    · exact Or.inr (Or.inr ⟨j, h2, rfl⟩)
    · exact Or.inr (Or.inl (nI_le (by omega) hj))
theorem pk_le {x y : Int32} {A B : Prop} (a b : Nat) (f : a ≤ b → A) (g : b < a → B) (hx : x = nI a := by rfl) (hy : y = nI b := by rfl) (ha : a < 2 ^ 31 := by omega) (hb : b < 2 ^ 31 := by omega) : (x ≤ y → A) ∧ (¬ x ≤ y → B) := by
  subst hx hy
  rw [nI_leI ha hb]
  exact ⟨f, fun z => g (by omega)⟩
theorem pk_lt {x y : Int32} {A B : Prop} (a b : Nat) (f : a < b → A) (g : b ≤ a → B) (hx : x = nI a := by rfl) (hy : y = nI b := by rfl) (ha : a < 2 ^ 31 := by omega) (hb : b < 2 ^ 31 := by omega) : (x < y → A) ∧ (¬ x < y → B) := by
  subst hx hy
  rw [nI_ltI ha hb]
  exact ⟨f, fun z => g (by omega)⟩
theorem pk_eq {x y : Int32} {A B : Prop} (a b : Nat) (f : a = b → A) (g : a ≠ b → B) (hx : x = nI a := by rfl) (hy : y = nI b := by rfl) (ha : a < 2 ^ 31 := by omega) (hb : b < 2 ^ 31 := by omega) : (x = y → A) ∧ (¬ x = y → B) := by
  subst hx hy
  rw [nI_eq ha hb]
  exact ⟨f, g⟩
theorem pk_in {x : Int32} (n N : Nat) (h : n < N) (hx : x = nI n := by rfl) (hN : N < 2 ^ 31 := by omega) : vp_in x N := by
  subst hx
  exact vp_in_nI h hN
theorem pk_cl {x : Int32} (n : Nat) (hx : x = nI n := by rfl) (h : n < 2 ^ 31 := by omega) : x.toNatClampNeg = n := by
  subst hx
  exact nI_clamp h
theorem pk_tn {n : Nat} (h : n < 2 ^ 32) : (nI n).toBitVec.toNat = n := Nat.mod_eq_of_lt h
theorem pk_and (x : Int32) {m : Int32} (k : Nat) (hm : m.toBitVec.toNat = 2 ^ k - 1) : x &&& m = nI (x.toBitVec.toNat % 2 ^ k) := by
  apply Int32.toBitVec_inj.mp
  apply BitVec.eq_of_toNat_eq
  rw [Int32.toBitVec_and, BitVec.toNat_and, hm, Nat.and_two_pow_sub_one_eq_mod]
  show _ = (BitVec.ofNat 32 _).toNat
  rw [BitVec.toNat_ofNat]
  exact (Nat.mod_eq_of_lt (Nat.lt_of_le_of_lt (Nat.mod_le _ _) x.toBitVec.isLt)).symm
theorem pk_andN {n : Nat} (h : n < 2 ^ 32) {m : Int32} (k : Nat) (hm : m.toBitVec.toNat = 2 ^ k - 1) : nI n &&& m = nI (n % 2 ^ k) := by
  rw [pk_and _ k hm, pk_tn h]
theorem pk_andE (x : Int32) {m : Int32} (k : Nat) (hm : m.toBitVec.toNat = 2 ^ k - 1) : ∃ j : Nat, j < 2 ^ k ∧ x &&& m = nI j := ⟨_, Nat.mod_lt _ (Nat.two_pow_pos k), pk_and x k hm⟩
theorem pk_andIn (x : Int32) {m : Int32} (k : Nat) (hm : m.toBitVec.toNat = 2 ^ k - 1) (hk : k ≤ 30) : vp_in (x &&& m) (2 ^ k) := by
  obtain ⟨j, hj, e⟩ := pk_andE x k hm
  rw [e]
  exact vp_in_nI hj (Nat.lt_of_le_of_lt (Nat.pow_le_pow_right (by decide) hk) (by decide))
theorem pk_shl (a s : Int32) (k : Nat) (hs : (s.toBitVec.smod 32).toNat = k) : (a <<< s).toBitVec.toNat = a.toBitVec.toNat * 2 ^ k % 2 ^ 32 := by
  show (a.toBitVec <<< (s.toBitVec.smod 32).toNat).toNat = _
  rw [hs, BitVec.toNat_shiftLeft, Nat.shiftLeft_eq]
theorem pk_shlN {n : Nat} (s : Int32) (k : Nat) (hs : (s.toBitVec.smod 32).toNat = k) (h : n * 2 ^ k < 2 ^ 32) : nI n <<< s = nI (n * 2 ^ k) := by
  apply Int32.toBitVec_inj.mp
  apply BitVec.eq_of_toNat_eq
  have hn : n < 2 ^ 32 := Nat.lt_of_le_of_lt (Nat.le_mul_of_pos_right n (Nat.two_pow_pos k)) h
  rw [pk_shl _ _ k hs, pk_tn hn, pk_tn h, Nat.mod_eq_of_lt h]
theorem pk_shr (a s : Int32) (k : Nat) (hs : (s.toBitVec.smod 32).toNat = k) : (a >>> s).toInt = a.toInt >>> k := by
  show (a.toBitVec.sshiftRight (s.toBitVec.smod 32).toNat).toInt = _
  rw [hs, BitVec.toInt_sshiftRight]
  rfl
theorem pk_shrN {n : Nat} (h : n < 2 ^ 31) (s : Int32) (k : Nat) (hs : (s.toBitVec.smod 32).toNat = k) : nI n >>> s = nI (n / 2 ^ k) := by
  apply Int32.toInt_inj.mp
  have h2 : n / 2 ^ k ≤ n := Nat.div_le_self _ _
  rw [pk_shr _ _ k hs, nI_toInt h, nI_toInt (by omega), Int.shiftRight_eq_div_pow]
  rfl
theorem pk_ushr (x s : Int32) (k : Nat) (hs : ((s.toUInt32 &&& Int32.toUInt32 31).toBitVec % 32).toNat = k) : (x.toUInt32 >>> (s.toUInt32 &&& Int32.toUInt32 31)).toInt32.toBitVec.toNat = x.toBitVec.toNat / 2 ^ k := by
  have e : (x.toUInt32 >>> (s.toUInt32 &&& Int32.toUInt32 31)).toInt32.toBitVec = x.toBitVec >>> k := by
    rw [← hs]
    exact UInt32.toBitVec_shiftRight _ _
  rw [e, BitVec.toNat_ushiftRight, Nat.shiftRight_eq_div_pow]
theorem pk_ushrN {n : Nat} (hn : n < 2 ^ 32) (s : Int32) (k : Nat) (hs : ((s.toUInt32 &&& Int32.toUInt32 31).toBitVec % 32).toNat = k) : ((nI n).toUInt32 >>> (s.toUInt32 &&& Int32.toUInt32 31)).toInt32 = nI (n / 2 ^ k) := by
  apply Int32.toBitVec_inj.mp
  apply BitVec.eq_of_toNat_eq
  rw [pk_ushr _ s k hs, pk_tn hn, pk_tn (Nat.lt_of_le_of_lt (Nat.div_le_self _ _) hn)]
theorem pk_nb (z : Int32) : narrow .byte (.int z.toInt8.toInt32) = .int z.toInt8.toInt32 := congrArg Value.int (by simp)
theorem pk_ns (z : Int32) : narrow .short (.int z.toInt16.toInt32) = .int z.toInt16.toInt32 := congrArg Value.int (by simp)
theorem pk_fb (r : Int32) : fits .byte (.int r.toInt8.toInt32) = true := by
  have ⟨a, b⟩ := lg_i2b_range r
  have h1 : (-128 : Int32).toInt = -128 := by decide
  have h2 : (127 : Int32).toInt = 127 := by decide
  simp only [fits, Bool.and_eq_true, decide_eq_true_eq, Int32.le_iff_toInt_le, h1, h2]
  omega
theorem pk_fs (r : Int32) : fits .short (.int r.toInt16.toInt32) = true := by
  have ⟨a, b⟩ := lg_i2s_range r
  have h1 : (-32768 : Int32).toInt = -32768 := by decide
  have h2 : (32767 : Int32).toInt = 32767 := by decide
  simp only [fits, Bool.and_eq_true, decide_eq_true_eq, Int32.le_iff_toInt_le, h1, h2]
  omega
theorem pk_charN {q : Nat} (hq : q < 65536) : narrow .char (.int (nI q)) = .int (nI q) ∧ fits .char (.int (nI q)) = true := by
  constructor
  · have e : (nI q).toUInt32.toUInt16.toUInt32.toInt32 = nI q := by
      apply Int32.toBitVec_inj.mp
      apply BitVec.eq_of_toNat_eq
      show (nI q).toUInt32.toUInt16.toUInt32.toNat = q % 2 ^ 32
      rw [UInt16.toNat_toUInt32, UInt32.toNat_toUInt16, show (nI q).toUInt32.toNat = q % 2 ^ 32 from rfl]
      omega
    exact congrArg Value.int e
  · have a : (0 : Int32) ≤ nI q := nI_pos' (by omega)
    have b : nI q ≤ 65535 := nI_le (b := 65535) (by omega) (by decide)
    show (decide ((0 : Int32) ≤ nI q) && decide (nI q ≤ 65535)) = true
    rw [decide_eq_true a, decide_eq_true b]
    rfl
theorem pk_char (x : Int32) : (x.toUInt32 % 65536).toInt32 = nI (x.toBitVec.toNat % 65536) := by
  apply Int32.toBitVec_inj.mp
  apply BitVec.eq_of_toNat_eq
  rw [pk_tn (by omega)]
  show (x.toUInt32 % 65536).toNat = _
  rw [UInt32.toNat_mod]
  rfl
theorem pk_nc (x : Int32) : narrow .char (.int (x.toUInt32 % 65536).toInt32) = .int (x.toUInt32 % 65536).toInt32 := by
  rw [pk_char]
  exact (pk_charN (Nat.mod_lt _ (by decide))).1
theorem pk_fc (x : Int32) : fits .char (.int (x.toUInt32 % 65536).toInt32) = true := by
  rw [pk_char]
  exact (pk_charN (Nat.mod_lt _ (by decide))).2
theorem pk_vb (z : Int32) : vp_nar .byte z.toInt8.toInt32 = z.toInt8.toInt32 := by rw [vp_nar_byte]; simp
theorem pk_vs (z : Int32) : vp_nar .short z.toInt16.toInt32 = z.toInt16.toInt32 := by rw [vp_nar_short]; simp
theorem pk_vc (z : Int32) : vp_nar .char (z.toUInt32 % 65536).toInt32 = (z.toUInt32 % 65536).toInt32 := Value.int.inj (pk_nc z)
theorem pk_lT {n : Nat} (h : n < 2 ^ 63) : (lN n).toInt = (n : Int) := lg_ofNat_toInt h
theorem pk_lLT {a b : Nat} (ha : a < 2 ^ 63) (hb : b < 2 ^ 63) : lN a < lN b ↔ a < b := by
  rw [Int64.lt_iff_toInt_lt, pk_lT ha, pk_lT hb]; omega
theorem pk_lLE {a b : Nat} (ha : a < 2 ^ 63) (hb : b < 2 ^ 63) : lN a ≤ lN b ↔ a ≤ b := by
  rw [Int64.le_iff_toInt_le, pk_lT ha, pk_lT hb]; omega
theorem pk_lEQ {a b : Nat} (ha : a < 2 ^ 63) (hb : b < 2 ^ 63) : lN a = lN b ↔ a = b := by
  rw [← Int64.toInt_inj, pk_lT ha, pk_lT hb]; omega
theorem pk_lOf {x : Int64} (h : ¬ x < 0) : ∃ k : Nat, k < 2 ^ 63 ∧ x = lN k := by
  rw [Int64.lt_iff_toInt_lt] at h
  have h0 : (0 : Int64).toInt = 0 := by decide
  have hx := Int64.toInt_lt x
  refine ⟨x.toInt.toNat, by omega, Int64.toInt_inj.mp ?_⟩
  rw [pk_lT (by omega)]
  omega
theorem pk_lDiv {a b : Nat} (ha : a < 2 ^ 63) (h0 : 0 < b) (hb : b < 2 ^ 63) : lN a / lN b = lN (a / b) := by
  apply Int64.toInt_inj.mp
  rw [lg_ldiv_nonneg (by rw [pk_lT ha]; omega) (by rw [pk_lT hb]; omega), pk_lT ha, pk_lT hb, pk_lT (Nat.lt_of_le_of_lt (Nat.div_le_self a b) ha)]
  rfl
theorem pk_lRem {a b : Nat} (ha : a < 2 ^ 63) (h0 : 0 < b) (hb : b < 2 ^ 63) : lN a - lN a / lN b * lN b = lN (a % b) := by
  rw [pk_lDiv ha h0 hb, lN_mul, lN_sub (Nat.div_mul_le_self a b)]
  exact congrArg lN (by have := Nat.div_add_mod' a b; omega)
theorem pk_loop {σ : Type} (W : Nat → Nat → σ → Prop) (I : Nat → σ → Prop) (e i0 : Nat) (s : σ) (hi : i0 ≤ e) (h0 : I i0 s) (hx : ∀ n s, I e s → W (n + 1) e s)
    (hs : ∀ n i s, i < e → I i s → (∀ s', I (i + 1) s' → W n (i + 1) s') → W (n + 1) i s) : ∃ n, W n i0 s :=
  ⟨e + 1, loop_i W I e hx hs (e + 1) i0 s hi (by omega) h0⟩
theorem pk_loopD {σ : Type} (W : Nat → Nat → σ → Prop) (I : Nat → σ → Prop) (hx : ∀ n s, I 0 s → W (n + 1) 0 s)
    (hs : ∀ n i s, I (i + 1) s → (∀ s', I i s' → W n i s') → W (n + 1) (i + 1) s) : ∀ (e : Nat) (s : σ), I e s → W (e + 1) e s := by
  intro e
  induction e with
  | zero => exact fun s h => hx 0 s h
  | succ e ih => exact fun s h => hs (e + 1) e s h (fun s' h' => ih s' h')
theorem lp1 {A1 : Type} (W : Nat → A1 → Prop) (I : A1 → Prop) (μ : A1 → Nat) (hs : ∀ (n : Nat) (a1 : A1), I a1 → (∀ (b1 : A1), I b1 → μ b1 < μ a1 → W n b1) → W (n + 1) a1) (a1 : A1) (h : I a1) : ∃ n, W n a1 :=
  loop_m (σ := A1) (fun n s => W n s) (fun s => I s) (fun s => μ s) (fun n s hI hk => hs n s hI (fun b1 h9 hm => hk b1 h9 hm)) a1 h
theorem lp2 {A1 A2 : Type} (W : Nat → A1 → A2 → Prop) (I : A1 → A2 → Prop) (μ : A1 → A2 → Nat) (hs : ∀ (n : Nat) (a1 : A1) (a2 : A2), I a1 a2 → (∀ (b1 : A1) (b2 : A2), I b1 b2 → μ b1 b2 < μ a1 a2 → W n b1 b2) → W (n + 1) a1 a2) (a1 : A1) (a2 : A2) (h : I a1 a2) : ∃ n, W n a1 a2 :=
  loop_m (σ := A1 × A2) (fun n s => W n s.1 s.2) (fun s => I s.1 s.2) (fun s => μ s.1 s.2) (fun n s hI hk => hs n s.1 s.2 hI (fun b1 b2 h9 hm => hk (b1, b2) h9 hm)) (a1, a2) h
theorem lp3 {A1 A2 A3 : Type} (W : Nat → A1 → A2 → A3 → Prop) (I : A1 → A2 → A3 → Prop) (μ : A1 → A2 → A3 → Nat) (hs : ∀ (n : Nat) (a1 : A1) (a2 : A2) (a3 : A3), I a1 a2 a3 → (∀ (b1 : A1) (b2 : A2) (b3 : A3), I b1 b2 b3 → μ b1 b2 b3 < μ a1 a2 a3 → W n b1 b2 b3) → W (n + 1) a1 a2 a3) (a1 : A1) (a2 : A2) (a3 : A3) (h : I a1 a2 a3) : ∃ n, W n a1 a2 a3 :=
  loop_m (σ := A1 × A2 × A3) (fun n s => W n s.1 s.2.1 s.2.2) (fun s => I s.1 s.2.1 s.2.2) (fun s => μ s.1 s.2.1 s.2.2) (fun n s hI hk => hs n s.1 s.2.1 s.2.2 hI (fun b1 b2 b3 h9 hm => hk (b1, b2, b3) h9 hm)) (a1, a2, a3) h
theorem lp4 {A1 A2 A3 A4 : Type} (W : Nat → A1 → A2 → A3 → A4 → Prop) (I : A1 → A2 → A3 → A4 → Prop) (μ : A1 → A2 → A3 → A4 → Nat) (hs : ∀ (n : Nat) (a1 : A1) (a2 : A2) (a3 : A3) (a4 : A4), I a1 a2 a3 a4 → (∀ (b1 : A1) (b2 : A2) (b3 : A3) (b4 : A4), I b1 b2 b3 b4 → μ b1 b2 b3 b4 < μ a1 a2 a3 a4 → W n b1 b2 b3 b4) → W (n + 1) a1 a2 a3 a4) (a1 : A1) (a2 : A2) (a3 : A3) (a4 : A4) (h : I a1 a2 a3 a4) : ∃ n, W n a1 a2 a3 a4 :=
  loop_m (σ := A1 × A2 × A3 × A4) (fun n s => W n s.1 s.2.1 s.2.2.1 s.2.2.2) (fun s => I s.1 s.2.1 s.2.2.1 s.2.2.2) (fun s => μ s.1 s.2.1 s.2.2.1 s.2.2.2) (fun n s hI hk => hs n s.1 s.2.1 s.2.2.1 s.2.2.2 hI (fun b1 b2 b3 b4 h9 hm => hk (b1, b2, b3, b4) h9 hm)) (a1, a2, a3, a4) h
theorem lp5 {A1 A2 A3 A4 A5 : Type} (W : Nat → A1 → A2 → A3 → A4 → A5 → Prop) (I : A1 → A2 → A3 → A4 → A5 → Prop) (μ : A1 → A2 → A3 → A4 → A5 → Nat) (hs : ∀ (n : Nat) (a1 : A1) (a2 : A2) (a3 : A3) (a4 : A4) (a5 : A5), I a1 a2 a3 a4 a5 → (∀ (b1 : A1) (b2 : A2) (b3 : A3) (b4 : A4) (b5 : A5), I b1 b2 b3 b4 b5 → μ b1 b2 b3 b4 b5 < μ a1 a2 a3 a4 a5 → W n b1 b2 b3 b4 b5) → W (n + 1) a1 a2 a3 a4 a5) (a1 : A1) (a2 : A2) (a3 : A3) (a4 : A4) (a5 : A5) (h : I a1 a2 a3 a4 a5) : ∃ n, W n a1 a2 a3 a4 a5 :=
  loop_m (σ := A1 × A2 × A3 × A4 × A5) (fun n s => W n s.1 s.2.1 s.2.2.1 s.2.2.2.1 s.2.2.2.2) (fun s => I s.1 s.2.1 s.2.2.1 s.2.2.2.1 s.2.2.2.2) (fun s => μ s.1 s.2.1 s.2.2.1 s.2.2.2.1 s.2.2.2.2) (fun n s hI hk => hs n s.1 s.2.1 s.2.2.1 s.2.2.2.1 s.2.2.2.2 hI (fun b1 b2 b3 b4 b5 h9 hm => hk (b1, b2, b3, b4, b5) h9 hm)) (a1, a2, a3, a4, a5) h
theorem lp6 {A1 A2 A3 A4 A5 A6 : Type} (W : Nat → A1 → A2 → A3 → A4 → A5 → A6 → Prop) (I : A1 → A2 → A3 → A4 → A5 → A6 → Prop) (μ : A1 → A2 → A3 → A4 → A5 → A6 → Nat) (hs : ∀ (n : Nat) (a1 : A1) (a2 : A2) (a3 : A3) (a4 : A4) (a5 : A5) (a6 : A6), I a1 a2 a3 a4 a5 a6 → (∀ (b1 : A1) (b2 : A2) (b3 : A3) (b4 : A4) (b5 : A5) (b6 : A6), I b1 b2 b3 b4 b5 b6 → μ b1 b2 b3 b4 b5 b6 < μ a1 a2 a3 a4 a5 a6 → W n b1 b2 b3 b4 b5 b6) → W (n + 1) a1 a2 a3 a4 a5 a6) (a1 : A1) (a2 : A2) (a3 : A3) (a4 : A4) (a5 : A5) (a6 : A6) (h : I a1 a2 a3 a4 a5 a6) : ∃ n, W n a1 a2 a3 a4 a5 a6 :=
  loop_m (σ := A1 × A2 × A3 × A4 × A5 × A6) (fun n s => W n s.1 s.2.1 s.2.2.1 s.2.2.2.1 s.2.2.2.2.1 s.2.2.2.2.2) (fun s => I s.1 s.2.1 s.2.2.1 s.2.2.2.1 s.2.2.2.2.1 s.2.2.2.2.2) (fun s => μ s.1 s.2.1 s.2.2.1 s.2.2.2.1 s.2.2.2.2.1 s.2.2.2.2.2) (fun n s hI hk => hs n s.1 s.2.1 s.2.2.1 s.2.2.2.1 s.2.2.2.2.1 s.2.2.2.2.2 hI (fun b1 b2 b3 b4 b5 b6 h9 hm => hk (b1, b2, b3, b4, b5, b6) h9 hm)) (a1, a2, a3, a4, a5, a6) h
theorem lp7 {A1 A2 A3 A4 A5 A6 A7 : Type} (W : Nat → A1 → A2 → A3 → A4 → A5 → A6 → A7 → Prop) (I : A1 → A2 → A3 → A4 → A5 → A6 → A7 → Prop) (μ : A1 → A2 → A3 → A4 → A5 → A6 → A7 → Nat) (hs : ∀ (n : Nat) (a1 : A1) (a2 : A2) (a3 : A3) (a4 : A4) (a5 : A5) (a6 : A6) (a7 : A7), I a1 a2 a3 a4 a5 a6 a7 → (∀ (b1 : A1) (b2 : A2) (b3 : A3) (b4 : A4) (b5 : A5) (b6 : A6) (b7 : A7), I b1 b2 b3 b4 b5 b6 b7 → μ b1 b2 b3 b4 b5 b6 b7 < μ a1 a2 a3 a4 a5 a6 a7 → W n b1 b2 b3 b4 b5 b6 b7) → W (n + 1) a1 a2 a3 a4 a5 a6 a7) (a1 : A1) (a2 : A2) (a3 : A3) (a4 : A4) (a5 : A5) (a6 : A6) (a7 : A7) (h : I a1 a2 a3 a4 a5 a6 a7) : ∃ n, W n a1 a2 a3 a4 a5 a6 a7 :=
  loop_m (σ := A1 × A2 × A3 × A4 × A5 × A6 × A7) (fun n s => W n s.1 s.2.1 s.2.2.1 s.2.2.2.1 s.2.2.2.2.1 s.2.2.2.2.2.1 s.2.2.2.2.2.2) (fun s => I s.1 s.2.1 s.2.2.1 s.2.2.2.1 s.2.2.2.2.1 s.2.2.2.2.2.1 s.2.2.2.2.2.2) (fun s => μ s.1 s.2.1 s.2.2.1 s.2.2.2.1 s.2.2.2.2.1 s.2.2.2.2.2.1 s.2.2.2.2.2.2) (fun n s hI hk => hs n s.1 s.2.1 s.2.2.1 s.2.2.2.1 s.2.2.2.2.1 s.2.2.2.2.2.1 s.2.2.2.2.2.2 hI (fun b1 b2 b3 b4 b5 b6 b7 h9 hm => hk (b1, b2, b3, b4, b5, b6, b7) h9 hm)) (a1, a2, a3, a4, a5, a6, a7) h
theorem lp8 {A1 A2 A3 A4 A5 A6 A7 A8 : Type} (W : Nat → A1 → A2 → A3 → A4 → A5 → A6 → A7 → A8 → Prop) (I : A1 → A2 → A3 → A4 → A5 → A6 → A7 → A8 → Prop) (μ : A1 → A2 → A3 → A4 → A5 → A6 → A7 → A8 → Nat) (hs : ∀ (n : Nat) (a1 : A1) (a2 : A2) (a3 : A3) (a4 : A4) (a5 : A5) (a6 : A6) (a7 : A7) (a8 : A8), I a1 a2 a3 a4 a5 a6 a7 a8 → (∀ (b1 : A1) (b2 : A2) (b3 : A3) (b4 : A4) (b5 : A5) (b6 : A6) (b7 : A7) (b8 : A8), I b1 b2 b3 b4 b5 b6 b7 b8 → μ b1 b2 b3 b4 b5 b6 b7 b8 < μ a1 a2 a3 a4 a5 a6 a7 a8 → W n b1 b2 b3 b4 b5 b6 b7 b8) → W (n + 1) a1 a2 a3 a4 a5 a6 a7 a8) (a1 : A1) (a2 : A2) (a3 : A3) (a4 : A4) (a5 : A5) (a6 : A6) (a7 : A7) (a8 : A8) (h : I a1 a2 a3 a4 a5 a6 a7 a8) : ∃ n, W n a1 a2 a3 a4 a5 a6 a7 a8 :=
  loop_m (σ := A1 × A2 × A3 × A4 × A5 × A6 × A7 × A8) (fun n s => W n s.1 s.2.1 s.2.2.1 s.2.2.2.1 s.2.2.2.2.1 s.2.2.2.2.2.1 s.2.2.2.2.2.2.1 s.2.2.2.2.2.2.2) (fun s => I s.1 s.2.1 s.2.2.1 s.2.2.2.1 s.2.2.2.2.1 s.2.2.2.2.2.1 s.2.2.2.2.2.2.1 s.2.2.2.2.2.2.2) (fun s => μ s.1 s.2.1 s.2.2.1 s.2.2.2.1 s.2.2.2.2.1 s.2.2.2.2.2.1 s.2.2.2.2.2.2.1 s.2.2.2.2.2.2.2) (fun n s hI hk => hs n s.1 s.2.1 s.2.2.1 s.2.2.2.1 s.2.2.2.2.1 s.2.2.2.2.2.1 s.2.2.2.2.2.2.1 s.2.2.2.2.2.2.2 hI (fun b1 b2 b3 b4 b5 b6 b7 b8 h9 hm => hk (b1, b2, b3, b4, b5, b6, b7, b8) h9 hm)) (a1, a2, a3, a4, a5, a6, a7, a8) h
theorem lp9 {A1 A2 A3 A4 A5 A6 A7 A8 A9 : Type} (W : Nat → A1 → A2 → A3 → A4 → A5 → A6 → A7 → A8 → A9 → Prop) (I : A1 → A2 → A3 → A4 → A5 → A6 → A7 → A8 → A9 → Prop) (μ : A1 → A2 → A3 → A4 → A5 → A6 → A7 → A8 → A9 → Nat) (hs : ∀ (n : Nat) (a1 : A1) (a2 : A2) (a3 : A3) (a4 : A4) (a5 : A5) (a6 : A6) (a7 : A7) (a8 : A8) (a9 : A9), I a1 a2 a3 a4 a5 a6 a7 a8 a9 → (∀ (b1 : A1) (b2 : A2) (b3 : A3) (b4 : A4) (b5 : A5) (b6 : A6) (b7 : A7) (b8 : A8) (b9 : A9), I b1 b2 b3 b4 b5 b6 b7 b8 b9 → μ b1 b2 b3 b4 b5 b6 b7 b8 b9 < μ a1 a2 a3 a4 a5 a6 a7 a8 a9 → W n b1 b2 b3 b4 b5 b6 b7 b8 b9) → W (n + 1) a1 a2 a3 a4 a5 a6 a7 a8 a9) (a1 : A1) (a2 : A2) (a3 : A3) (a4 : A4) (a5 : A5) (a6 : A6) (a7 : A7) (a8 : A8) (a9 : A9) (h : I a1 a2 a3 a4 a5 a6 a7 a8 a9) : ∃ n, W n a1 a2 a3 a4 a5 a6 a7 a8 a9 :=
  loop_m (σ := A1 × A2 × A3 × A4 × A5 × A6 × A7 × A8 × A9) (fun n s => W n s.1 s.2.1 s.2.2.1 s.2.2.2.1 s.2.2.2.2.1 s.2.2.2.2.2.1 s.2.2.2.2.2.2.1 s.2.2.2.2.2.2.2.1 s.2.2.2.2.2.2.2.2) (fun s => I s.1 s.2.1 s.2.2.1 s.2.2.2.1 s.2.2.2.2.1 s.2.2.2.2.2.1 s.2.2.2.2.2.2.1 s.2.2.2.2.2.2.2.1 s.2.2.2.2.2.2.2.2) (fun s => μ s.1 s.2.1 s.2.2.1 s.2.2.2.1 s.2.2.2.2.1 s.2.2.2.2.2.1 s.2.2.2.2.2.2.1 s.2.2.2.2.2.2.2.1 s.2.2.2.2.2.2.2.2) (fun n s hI hk => hs n s.1 s.2.1 s.2.2.1 s.2.2.2.1 s.2.2.2.2.1 s.2.2.2.2.2.1 s.2.2.2.2.2.2.1 s.2.2.2.2.2.2.2.1 s.2.2.2.2.2.2.2.2 hI (fun b1 b2 b3 b4 b5 b6 b7 b8 b9 h9 hm => hk (b1, b2, b3, b4, b5, b6, b7, b8, b9) h9 hm)) (a1, a2, a3, a4, a5, a6, a7, a8, a9) h
theorem lp10 {A1 A2 A3 A4 A5 A6 A7 A8 A9 A10 : Type} (W : Nat → A1 → A2 → A3 → A4 → A5 → A6 → A7 → A8 → A9 → A10 → Prop) (I : A1 → A2 → A3 → A4 → A5 → A6 → A7 → A8 → A9 → A10 → Prop) (μ : A1 → A2 → A3 → A4 → A5 → A6 → A7 → A8 → A9 → A10 → Nat) (hs : ∀ (n : Nat) (a1 : A1) (a2 : A2) (a3 : A3) (a4 : A4) (a5 : A5) (a6 : A6) (a7 : A7) (a8 : A8) (a9 : A9) (a10 : A10), I a1 a2 a3 a4 a5 a6 a7 a8 a9 a10 → (∀ (b1 : A1) (b2 : A2) (b3 : A3) (b4 : A4) (b5 : A5) (b6 : A6) (b7 : A7) (b8 : A8) (b9 : A9) (b10 : A10), I b1 b2 b3 b4 b5 b6 b7 b8 b9 b10 → μ b1 b2 b3 b4 b5 b6 b7 b8 b9 b10 < μ a1 a2 a3 a4 a5 a6 a7 a8 a9 a10 → W n b1 b2 b3 b4 b5 b6 b7 b8 b9 b10) → W (n + 1) a1 a2 a3 a4 a5 a6 a7 a8 a9 a10) (a1 : A1) (a2 : A2) (a3 : A3) (a4 : A4) (a5 : A5) (a6 : A6) (a7 : A7) (a8 : A8) (a9 : A9) (a10 : A10) (h : I a1 a2 a3 a4 a5 a6 a7 a8 a9 a10) : ∃ n, W n a1 a2 a3 a4 a5 a6 a7 a8 a9 a10 :=
  loop_m (σ := A1 × A2 × A3 × A4 × A5 × A6 × A7 × A8 × A9 × A10) (fun n s => W n s.1 s.2.1 s.2.2.1 s.2.2.2.1 s.2.2.2.2.1 s.2.2.2.2.2.1 s.2.2.2.2.2.2.1 s.2.2.2.2.2.2.2.1 s.2.2.2.2.2.2.2.2.1 s.2.2.2.2.2.2.2.2.2) (fun s => I s.1 s.2.1 s.2.2.1 s.2.2.2.1 s.2.2.2.2.1 s.2.2.2.2.2.1 s.2.2.2.2.2.2.1 s.2.2.2.2.2.2.2.1 s.2.2.2.2.2.2.2.2.1 s.2.2.2.2.2.2.2.2.2) (fun s => μ s.1 s.2.1 s.2.2.1 s.2.2.2.1 s.2.2.2.2.1 s.2.2.2.2.2.1 s.2.2.2.2.2.2.1 s.2.2.2.2.2.2.2.1 s.2.2.2.2.2.2.2.2.1 s.2.2.2.2.2.2.2.2.2) (fun n s hI hk => hs n s.1 s.2.1 s.2.2.1 s.2.2.2.1 s.2.2.2.2.1 s.2.2.2.2.2.1 s.2.2.2.2.2.2.1 s.2.2.2.2.2.2.2.1 s.2.2.2.2.2.2.2.2.1 s.2.2.2.2.2.2.2.2.2 hI (fun b1 b2 b3 b4 b5 b6 b7 b8 b9 b10 h9 hm => hk (b1, b2, b3, b4, b5, b6, b7, b8, b9, b10) h9 hm)) (a1, a2, a3, a4, a5, a6, a7, a8, a9, a10) h
theorem lp11 {A1 A2 A3 A4 A5 A6 A7 A8 A9 A10 A11 : Type} (W : Nat → A1 → A2 → A3 → A4 → A5 → A6 → A7 → A8 → A9 → A10 → A11 → Prop) (I : A1 → A2 → A3 → A4 → A5 → A6 → A7 → A8 → A9 → A10 → A11 → Prop) (μ : A1 → A2 → A3 → A4 → A5 → A6 → A7 → A8 → A9 → A10 → A11 → Nat) (hs : ∀ (n : Nat) (a1 : A1) (a2 : A2) (a3 : A3) (a4 : A4) (a5 : A5) (a6 : A6) (a7 : A7) (a8 : A8) (a9 : A9) (a10 : A10) (a11 : A11), I a1 a2 a3 a4 a5 a6 a7 a8 a9 a10 a11 → (∀ (b1 : A1) (b2 : A2) (b3 : A3) (b4 : A4) (b5 : A5) (b6 : A6) (b7 : A7) (b8 : A8) (b9 : A9) (b10 : A10) (b11 : A11), I b1 b2 b3 b4 b5 b6 b7 b8 b9 b10 b11 → μ b1 b2 b3 b4 b5 b6 b7 b8 b9 b10 b11 < μ a1 a2 a3 a4 a5 a6 a7 a8 a9 a10 a11 → W n b1 b2 b3 b4 b5 b6 b7 b8 b9 b10 b11) → W (n + 1) a1 a2 a3 a4 a5 a6 a7 a8 a9 a10 a11) (a1 : A1) (a2 : A2) (a3 : A3) (a4 : A4) (a5 : A5) (a6 : A6) (a7 : A7) (a8 : A8) (a9 : A9) (a10 : A10) (a11 : A11) (h : I a1 a2 a3 a4 a5 a6 a7 a8 a9 a10 a11) : ∃ n, W n a1 a2 a3 a4 a5 a6 a7 a8 a9 a10 a11 :=
  loop_m (σ := A1 × A2 × A3 × A4 × A5 × A6 × A7 × A8 × A9 × A10 × A11) (fun n s => W n s.1 s.2.1 s.2.2.1 s.2.2.2.1 s.2.2.2.2.1 s.2.2.2.2.2.1 s.2.2.2.2.2.2.1 s.2.2.2.2.2.2.2.1 s.2.2.2.2.2.2.2.2.1 s.2.2.2.2.2.2.2.2.2.1 s.2.2.2.2.2.2.2.2.2.2) (fun s => I s.1 s.2.1 s.2.2.1 s.2.2.2.1 s.2.2.2.2.1 s.2.2.2.2.2.1 s.2.2.2.2.2.2.1 s.2.2.2.2.2.2.2.1 s.2.2.2.2.2.2.2.2.1 s.2.2.2.2.2.2.2.2.2.1 s.2.2.2.2.2.2.2.2.2.2) (fun s => μ s.1 s.2.1 s.2.2.1 s.2.2.2.1 s.2.2.2.2.1 s.2.2.2.2.2.1 s.2.2.2.2.2.2.1 s.2.2.2.2.2.2.2.1 s.2.2.2.2.2.2.2.2.1 s.2.2.2.2.2.2.2.2.2.1 s.2.2.2.2.2.2.2.2.2.2) (fun n s hI hk => hs n s.1 s.2.1 s.2.2.1 s.2.2.2.1 s.2.2.2.2.1 s.2.2.2.2.2.1 s.2.2.2.2.2.2.1 s.2.2.2.2.2.2.2.1 s.2.2.2.2.2.2.2.2.1 s.2.2.2.2.2.2.2.2.2.1 s.2.2.2.2.2.2.2.2.2.2 hI (fun b1 b2 b3 b4 b5 b6 b7 b8 b9 b10 b11 h9 hm => hk (b1, b2, b3, b4, b5, b6, b7, b8, b9, b10, b11) h9 hm)) (a1, a2, a3, a4, a5, a6, a7, a8, a9, a10, a11) h
theorem lp12 {A1 A2 A3 A4 A5 A6 A7 A8 A9 A10 A11 A12 : Type} (W : Nat → A1 → A2 → A3 → A4 → A5 → A6 → A7 → A8 → A9 → A10 → A11 → A12 → Prop) (I : A1 → A2 → A3 → A4 → A5 → A6 → A7 → A8 → A9 → A10 → A11 → A12 → Prop) (μ : A1 → A2 → A3 → A4 → A5 → A6 → A7 → A8 → A9 → A10 → A11 → A12 → Nat) (hs : ∀ (n : Nat) (a1 : A1) (a2 : A2) (a3 : A3) (a4 : A4) (a5 : A5) (a6 : A6) (a7 : A7) (a8 : A8) (a9 : A9) (a10 : A10) (a11 : A11) (a12 : A12), I a1 a2 a3 a4 a5 a6 a7 a8 a9 a10 a11 a12 → (∀ (b1 : A1) (b2 : A2) (b3 : A3) (b4 : A4) (b5 : A5) (b6 : A6) (b7 : A7) (b8 : A8) (b9 : A9) (b10 : A10) (b11 : A11) (b12 : A12), I b1 b2 b3 b4 b5 b6 b7 b8 b9 b10 b11 b12 → μ b1 b2 b3 b4 b5 b6 b7 b8 b9 b10 b11 b12 < μ a1 a2 a3 a4 a5 a6 a7 a8 a9 a10 a11 a12 → W n b1 b2 b3 b4 b5 b6 b7 b8 b9 b10 b11 b12) → W (n + 1) a1 a2 a3 a4 a5 a6 a7 a8 a9 a10 a11 a12) (a1 : A1) (a2 : A2) (a3 : A3) (a4 : A4) (a5 : A5) (a6 : A6) (a7 : A7) (a8 : A8) (a9 : A9) (a10 : A10) (a11 : A11) (a12 : A12) (h : I a1 a2 a3 a4 a5 a6 a7 a8 a9 a10 a11 a12) : ∃ n, W n a1 a2 a3 a4 a5 a6 a7 a8 a9 a10 a11 a12 :=
  loop_m (σ := A1 × A2 × A3 × A4 × A5 × A6 × A7 × A8 × A9 × A10 × A11 × A12) (fun n s => W n s.1 s.2.1 s.2.2.1 s.2.2.2.1 s.2.2.2.2.1 s.2.2.2.2.2.1 s.2.2.2.2.2.2.1 s.2.2.2.2.2.2.2.1 s.2.2.2.2.2.2.2.2.1 s.2.2.2.2.2.2.2.2.2.1 s.2.2.2.2.2.2.2.2.2.2.1 s.2.2.2.2.2.2.2.2.2.2.2) (fun s => I s.1 s.2.1 s.2.2.1 s.2.2.2.1 s.2.2.2.2.1 s.2.2.2.2.2.1 s.2.2.2.2.2.2.1 s.2.2.2.2.2.2.2.1 s.2.2.2.2.2.2.2.2.1 s.2.2.2.2.2.2.2.2.2.1 s.2.2.2.2.2.2.2.2.2.2.1 s.2.2.2.2.2.2.2.2.2.2.2) (fun s => μ s.1 s.2.1 s.2.2.1 s.2.2.2.1 s.2.2.2.2.1 s.2.2.2.2.2.1 s.2.2.2.2.2.2.1 s.2.2.2.2.2.2.2.1 s.2.2.2.2.2.2.2.2.1 s.2.2.2.2.2.2.2.2.2.1 s.2.2.2.2.2.2.2.2.2.2.1 s.2.2.2.2.2.2.2.2.2.2.2) (fun n s hI hk => hs n s.1 s.2.1 s.2.2.1 s.2.2.2.1 s.2.2.2.2.1 s.2.2.2.2.2.1 s.2.2.2.2.2.2.1 s.2.2.2.2.2.2.2.1 s.2.2.2.2.2.2.2.2.1 s.2.2.2.2.2.2.2.2.2.1 s.2.2.2.2.2.2.2.2.2.2.1 s.2.2.2.2.2.2.2.2.2.2.2 hI (fun b1 b2 b3 b4 b5 b6 b7 b8 b9 b10 b11 b12 h9 hm => hk (b1, b2, b3, b4, b5, b6, b7, b8, b9, b10, b11, b12) h9 hm)) (a1, a2, a3, a4, a5, a6, a7, a8, a9, a10, a11, a12) h
theorem lp13 {A1 A2 A3 A4 A5 A6 A7 A8 A9 A10 A11 A12 A13 : Type} (W : Nat → A1 → A2 → A3 → A4 → A5 → A6 → A7 → A8 → A9 → A10 → A11 → A12 → A13 → Prop) (I : A1 → A2 → A3 → A4 → A5 → A6 → A7 → A8 → A9 → A10 → A11 → A12 → A13 → Prop) (μ : A1 → A2 → A3 → A4 → A5 → A6 → A7 → A8 → A9 → A10 → A11 → A12 → A13 → Nat) (hs : ∀ (n : Nat) (a1 : A1) (a2 : A2) (a3 : A3) (a4 : A4) (a5 : A5) (a6 : A6) (a7 : A7) (a8 : A8) (a9 : A9) (a10 : A10) (a11 : A11) (a12 : A12) (a13 : A13), I a1 a2 a3 a4 a5 a6 a7 a8 a9 a10 a11 a12 a13 → (∀ (b1 : A1) (b2 : A2) (b3 : A3) (b4 : A4) (b5 : A5) (b6 : A6) (b7 : A7) (b8 : A8) (b9 : A9) (b10 : A10) (b11 : A11) (b12 : A12) (b13 : A13), I b1 b2 b3 b4 b5 b6 b7 b8 b9 b10 b11 b12 b13 → μ b1 b2 b3 b4 b5 b6 b7 b8 b9 b10 b11 b12 b13 < μ a1 a2 a3 a4 a5 a6 a7 a8 a9 a10 a11 a12 a13 → W n b1 b2 b3 b4 b5 b6 b7 b8 b9 b10 b11 b12 b13) → W (n + 1) a1 a2 a3 a4 a5 a6 a7 a8 a9 a10 a11 a12 a13) (a1 : A1) (a2 : A2) (a3 : A3) (a4 : A4) (a5 : A5) (a6 : A6) (a7 : A7) (a8 : A8) (a9 : A9) (a10 : A10) (a11 : A11) (a12 : A12) (a13 : A13) (h : I a1 a2 a3 a4 a5 a6 a7 a8 a9 a10 a11 a12 a13) : ∃ n, W n a1 a2 a3 a4 a5 a6 a7 a8 a9 a10 a11 a12 a13 :=
  loop_m (σ := A1 × A2 × A3 × A4 × A5 × A6 × A7 × A8 × A9 × A10 × A11 × A12 × A13) (fun n s => W n s.1 s.2.1 s.2.2.1 s.2.2.2.1 s.2.2.2.2.1 s.2.2.2.2.2.1 s.2.2.2.2.2.2.1 s.2.2.2.2.2.2.2.1 s.2.2.2.2.2.2.2.2.1 s.2.2.2.2.2.2.2.2.2.1 s.2.2.2.2.2.2.2.2.2.2.1 s.2.2.2.2.2.2.2.2.2.2.2.1 s.2.2.2.2.2.2.2.2.2.2.2.2) (fun s => I s.1 s.2.1 s.2.2.1 s.2.2.2.1 s.2.2.2.2.1 s.2.2.2.2.2.1 s.2.2.2.2.2.2.1 s.2.2.2.2.2.2.2.1 s.2.2.2.2.2.2.2.2.1 s.2.2.2.2.2.2.2.2.2.1 s.2.2.2.2.2.2.2.2.2.2.1 s.2.2.2.2.2.2.2.2.2.2.2.1 s.2.2.2.2.2.2.2.2.2.2.2.2) (fun s => μ s.1 s.2.1 s.2.2.1 s.2.2.2.1 s.2.2.2.2.1 s.2.2.2.2.2.1 s.2.2.2.2.2.2.1 s.2.2.2.2.2.2.2.1 s.2.2.2.2.2.2.2.2.1 s.2.2.2.2.2.2.2.2.2.1 s.2.2.2.2.2.2.2.2.2.2.1 s.2.2.2.2.2.2.2.2.2.2.2.1 s.2.2.2.2.2.2.2.2.2.2.2.2) (fun n s hI hk => hs n s.1 s.2.1 s.2.2.1 s.2.2.2.1 s.2.2.2.2.1 s.2.2.2.2.2.1 s.2.2.2.2.2.2.1 s.2.2.2.2.2.2.2.1 s.2.2.2.2.2.2.2.2.1 s.2.2.2.2.2.2.2.2.2.1 s.2.2.2.2.2.2.2.2.2.2.1 s.2.2.2.2.2.2.2.2.2.2.2.1 s.2.2.2.2.2.2.2.2.2.2.2.2 hI (fun b1 b2 b3 b4 b5 b6 b7 b8 b9 b10 b11 b12 b13 h9 hm => hk (b1, b2, b3, b4, b5, b6, b7, b8, b9, b10, b11, b12, b13) h9 hm)) (a1, a2, a3, a4, a5, a6, a7, a8, a9, a10, a11, a12, a13) h
theorem lp14 {A1 A2 A3 A4 A5 A6 A7 A8 A9 A10 A11 A12 A13 A14 : Type} (W : Nat → A1 → A2 → A3 → A4 → A5 → A6 → A7 → A8 → A9 → A10 → A11 → A12 → A13 → A14 → Prop) (I : A1 → A2 → A3 → A4 → A5 → A6 → A7 → A8 → A9 → A10 → A11 → A12 → A13 → A14 → Prop) (μ : A1 → A2 → A3 → A4 → A5 → A6 → A7 → A8 → A9 → A10 → A11 → A12 → A13 → A14 → Nat) (hs : ∀ (n : Nat) (a1 : A1) (a2 : A2) (a3 : A3) (a4 : A4) (a5 : A5) (a6 : A6) (a7 : A7) (a8 : A8) (a9 : A9) (a10 : A10) (a11 : A11) (a12 : A12) (a13 : A13) (a14 : A14), I a1 a2 a3 a4 a5 a6 a7 a8 a9 a10 a11 a12 a13 a14 → (∀ (b1 : A1) (b2 : A2) (b3 : A3) (b4 : A4) (b5 : A5) (b6 : A6) (b7 : A7) (b8 : A8) (b9 : A9) (b10 : A10) (b11 : A11) (b12 : A12) (b13 : A13) (b14 : A14), I b1 b2 b3 b4 b5 b6 b7 b8 b9 b10 b11 b12 b13 b14 → μ b1 b2 b3 b4 b5 b6 b7 b8 b9 b10 b11 b12 b13 b14 < μ a1 a2 a3 a4 a5 a6 a7 a8 a9 a10 a11 a12 a13 a14 → W n b1 b2 b3 b4 b5 b6 b7 b8 b9 b10 b11 b12 b13 b14) → W (n + 1) a1 a2 a3 a4 a5 a6 a7 a8 a9 a10 a11 a12 a13 a14) (a1 : A1) (a2 : A2) (a3 : A3) (a4 : A4) (a5 : A5) (a6 : A6) (a7 : A7) (a8 : A8) (a9 : A9) (a10 : A10) (a11 : A11) (a12 : A12) (a13 : A13) (a14 : A14) (h : I a1 a2 a3 a4 a5 a6 a7 a8 a9 a10 a11 a12 a13 a14) : ∃ n, W n a1 a2 a3 a4 a5 a6 a7 a8 a9 a10 a11 a12 a13 a14 :=
  loop_m (σ := A1 × A2 × A3 × A4 × A5 × A6 × A7 × A8 × A9 × A10 × A11 × A12 × A13 × A14) (fun n s => W n s.1 s.2.1 s.2.2.1 s.2.2.2.1 s.2.2.2.2.1 s.2.2.2.2.2.1 s.2.2.2.2.2.2.1 s.2.2.2.2.2.2.2.1 s.2.2.2.2.2.2.2.2.1 s.2.2.2.2.2.2.2.2.2.1 s.2.2.2.2.2.2.2.2.2.2.1 s.2.2.2.2.2.2.2.2.2.2.2.1 s.2.2.2.2.2.2.2.2.2.2.2.2.1 s.2.2.2.2.2.2.2.2.2.2.2.2.2) (fun s => I s.1 s.2.1 s.2.2.1 s.2.2.2.1 s.2.2.2.2.1 s.2.2.2.2.2.1 s.2.2.2.2.2.2.1 s.2.2.2.2.2.2.2.1 s.2.2.2.2.2.2.2.2.1 s.2.2.2.2.2.2.2.2.2.1 s.2.2.2.2.2.2.2.2.2.2.1 s.2.2.2.2.2.2.2.2.2.2.2.1 s.2.2.2.2.2.2.2.2.2.2.2.2.1 s.2.2.2.2.2.2.2.2.2.2.2.2.2) (fun s => μ s.1 s.2.1 s.2.2.1 s.2.2.2.1 s.2.2.2.2.1 s.2.2.2.2.2.1 s.2.2.2.2.2.2.1 s.2.2.2.2.2.2.2.1 s.2.2.2.2.2.2.2.2.1 s.2.2.2.2.2.2.2.2.2.1 s.2.2.2.2.2.2.2.2.2.2.1 s.2.2.2.2.2.2.2.2.2.2.2.1 s.2.2.2.2.2.2.2.2.2.2.2.2.1 s.2.2.2.2.2.2.2.2.2.2.2.2.2) (fun n s hI hk => hs n s.1 s.2.1 s.2.2.1 s.2.2.2.1 s.2.2.2.2.1 s.2.2.2.2.2.1 s.2.2.2.2.2.2.1 s.2.2.2.2.2.2.2.1 s.2.2.2.2.2.2.2.2.1 s.2.2.2.2.2.2.2.2.2.1 s.2.2.2.2.2.2.2.2.2.2.1 s.2.2.2.2.2.2.2.2.2.2.2.1 s.2.2.2.2.2.2.2.2.2.2.2.2.1 s.2.2.2.2.2.2.2.2.2.2.2.2.2 hI (fun b1 b2 b3 b4 b5 b6 b7 b8 b9 b10 b11 b12 b13 b14 h9 hm => hk (b1, b2, b3, b4, b5, b6, b7, b8, b9, b10, b11, b12, b13, b14) h9 hm)) (a1, a2, a3, a4, a5, a6, a7, a8, a9, a10, a11, a12, a13, a14) h
theorem lp15 {A1 A2 A3 A4 A5 A6 A7 A8 A9 A10 A11 A12 A13 A14 A15 : Type} (W : Nat → A1 → A2 → A3 → A4 → A5 → A6 → A7 → A8 → A9 → A10 → A11 → A12 → A13 → A14 → A15 → Prop) (I : A1 → A2 → A3 → A4 → A5 → A6 → A7 → A8 → A9 → A10 → A11 → A12 → A13 → A14 → A15 → Prop) (μ : A1 → A2 → A3 → A4 → A5 → A6 → A7 → A8 → A9 → A10 → A11 → A12 → A13 → A14 → A15 → Nat) (hs : ∀ (n : Nat) (a1 : A1) (a2 : A2) (a3 : A3) (a4 : A4) (a5 : A5) (a6 : A6) (a7 : A7) (a8 : A8) (a9 : A9) (a10 : A10) (a11 : A11) (a12 : A12) (a13 : A13) (a14 : A14) (a15 : A15), I a1 a2 a3 a4 a5 a6 a7 a8 a9 a10 a11 a12 a13 a14 a15 → (∀ (b1 : A1) (b2 : A2) (b3 : A3) (b4 : A4) (b5 : A5) (b6 : A6) (b7 : A7) (b8 : A8) (b9 : A9) (b10 : A10) (b11 : A11) (b12 : A12) (b13 : A13) (b14 : A14) (b15 : A15), I b1 b2 b3 b4 b5 b6 b7 b8 b9 b10 b11 b12 b13 b14 b15 → μ b1 b2 b3 b4 b5 b6 b7 b8 b9 b10 b11 b12 b13 b14 b15 < μ a1 a2 a3 a4 a5 a6 a7 a8 a9 a10 a11 a12 a13 a14 a15 → W n b1 b2 b3 b4 b5 b6 b7 b8 b9 b10 b11 b12 b13 b14 b15) → W (n + 1) a1 a2 a3 a4 a5 a6 a7 a8 a9 a10 a11 a12 a13 a14 a15) (a1 : A1) (a2 : A2) (a3 : A3) (a4 : A4) (a5 : A5) (a6 : A6) (a7 : A7) (a8 : A8) (a9 : A9) (a10 : A10) (a11 : A11) (a12 : A12) (a13 : A13) (a14 : A14) (a15 : A15) (h : I a1 a2 a3 a4 a5 a6 a7 a8 a9 a10 a11 a12 a13 a14 a15) : ∃ n, W n a1 a2 a3 a4 a5 a6 a7 a8 a9 a10 a11 a12 a13 a14 a15 :=
  loop_m (σ := A1 × A2 × A3 × A4 × A5 × A6 × A7 × A8 × A9 × A10 × A11 × A12 × A13 × A14 × A15) (fun n s => W n s.1 s.2.1 s.2.2.1 s.2.2.2.1 s.2.2.2.2.1 s.2.2.2.2.2.1 s.2.2.2.2.2.2.1 s.2.2.2.2.2.2.2.1 s.2.2.2.2.2.2.2.2.1 s.2.2.2.2.2.2.2.2.2.1 s.2.2.2.2.2.2.2.2.2.2.1 s.2.2.2.2.2.2.2.2.2.2.2.1 s.2.2.2.2.2.2.2.2.2.2.2.2.1 s.2.2.2.2.2.2.2.2.2.2.2.2.2.1 s.2.2.2.2.2.2.2.2.2.2.2.2.2.2) (fun s => I s.1 s.2.1 s.2.2.1 s.2.2.2.1 s.2.2.2.2.1 s.2.2.2.2.2.1 s.2.2.2.2.2.2.1 s.2.2.2.2.2.2.2.1 s.2.2.2.2.2.2.2.2.1 s.2.2.2.2.2.2.2.2.2.1 s.2.2.2.2.2.2.2.2.2.2.1 s.2.2.2.2.2.2.2.2.2.2.2.1 s.2.2.2.2.2.2.2.2.2.2.2.2.1 s.2.2.2.2.2.2.2.2.2.2.2.2.2.1 s.2.2.2.2.2.2.2.2.2.2.2.2.2.2) (fun s => μ s.1 s.2.1 s.2.2.1 s.2.2.2.1 s.2.2.2.2.1 s.2.2.2.2.2.1 s.2.2.2.2.2.2.1 s.2.2.2.2.2.2.2.1 s.2.2.2.2.2.2.2.2.1 s.2.2.2.2.2.2.2.2.2.1 s.2.2.2.2.2.2.2.2.2.2.1 s.2.2.2.2.2.2.2.2.2.2.2.1 s.2.2.2.2.2.2.2.2.2.2.2.2.1 s.2.2.2.2.2.2.2.2.2.2.2.2.2.1 s.2.2.2.2.2.2.2.2.2.2.2.2.2.2) (fun n s hI hk => hs n s.1 s.2.1 s.2.2.1 s.2.2.2.1 s.2.2.2.2.1 s.2.2.2.2.2.1 s.2.2.2.2.2.2.1 s.2.2.2.2.2.2.2.1 s.2.2.2.2.2.2.2.2.1 s.2.2.2.2.2.2.2.2.2.1 s.2.2.2.2.2.2.2.2.2.2.1 s.2.2.2.2.2.2.2.2.2.2.2.1 s.2.2.2.2.2.2.2.2.2.2.2.2.1 s.2.2.2.2.2.2.2.2.2.2.2.2.2.1 s.2.2.2.2.2.2.2.2.2.2.2.2.2.2 hI (fun b1 b2 b3 b4 b5 b6 b7 b8 b9 b10 b11 b12 b13 b14 b15 h9 hm => hk (b1, b2, b3, b4, b5, b6, b7, b8, b9, b10, b11, b12, b13, b14, b15) h9 hm)) (a1, a2, a3, a4, a5, a6, a7, a8, a9, a10, a11, a12, a13, a14, a15) h
theorem lp16 {A1 A2 A3 A4 A5 A6 A7 A8 A9 A10 A11 A12 A13 A14 A15 A16 : Type} (W : Nat → A1 → A2 → A3 → A4 → A5 → A6 → A7 → A8 → A9 → A10 → A11 → A12 → A13 → A14 → A15 → A16 → Prop) (I : A1 → A2 → A3 → A4 → A5 → A6 → A7 → A8 → A9 → A10 → A11 → A12 → A13 → A14 → A15 → A16 → Prop) (μ : A1 → A2 → A3 → A4 → A5 → A6 → A7 → A8 → A9 → A10 → A11 → A12 → A13 → A14 → A15 → A16 → Nat) (hs : ∀ (n : Nat) (a1 : A1) (a2 : A2) (a3 : A3) (a4 : A4) (a5 : A5) (a6 : A6) (a7 : A7) (a8 : A8) (a9 : A9) (a10 : A10) (a11 : A11) (a12 : A12) (a13 : A13) (a14 : A14) (a15 : A15) (a16 : A16), I a1 a2 a3 a4 a5 a6 a7 a8 a9 a10 a11 a12 a13 a14 a15 a16 → (∀ (b1 : A1) (b2 : A2) (b3 : A3) (b4 : A4) (b5 : A5) (b6 : A6) (b7 : A7) (b8 : A8) (b9 : A9) (b10 : A10) (b11 : A11) (b12 : A12) (b13 : A13) (b14 : A14) (b15 : A15) (b16 : A16), I b1 b2 b3 b4 b5 b6 b7 b8 b9 b10 b11 b12 b13 b14 b15 b16 → μ b1 b2 b3 b4 b5 b6 b7 b8 b9 b10 b11 b12 b13 b14 b15 b16 < μ a1 a2 a3 a4 a5 a6 a7 a8 a9 a10 a11 a12 a13 a14 a15 a16 → W n b1 b2 b3 b4 b5 b6 b7 b8 b9 b10 b11 b12 b13 b14 b15 b16) → W (n + 1) a1 a2 a3 a4 a5 a6 a7 a8 a9 a10 a11 a12 a13 a14 a15 a16) (a1 : A1) (a2 : A2) (a3 : A3) (a4 : A4) (a5 : A5) (a6 : A6) (a7 : A7) (a8 : A8) (a9 : A9) (a10 : A10) (a11 : A11) (a12 : A12) (a13 : A13) (a14 : A14) (a15 : A15) (a16 : A16) (h : I a1 a2 a3 a4 a5 a6 a7 a8 a9 a10 a11 a12 a13 a14 a15 a16) : ∃ n, W n a1 a2 a3 a4 a5 a6 a7 a8 a9 a10 a11 a12 a13 a14 a15 a16 :=
  loop_m (σ := A1 × A2 × A3 × A4 × A5 × A6 × A7 × A8 × A9 × A10 × A11 × A12 × A13 × A14 × A15 × A16) (fun n s => W n s.1 s.2.1 s.2.2.1 s.2.2.2.1 s.2.2.2.2.1 s.2.2.2.2.2.1 s.2.2.2.2.2.2.1 s.2.2.2.2.2.2.2.1 s.2.2.2.2.2.2.2.2.1 s.2.2.2.2.2.2.2.2.2.1 s.2.2.2.2.2.2.2.2.2.2.1 s.2.2.2.2.2.2.2.2.2.2.2.1 s.2.2.2.2.2.2.2.2.2.2.2.2.1 s.2.2.2.2.2.2.2.2.2.2.2.2.2.1 s.2.2.2.2.2.2.2.2.2.2.2.2.2.2.1 s.2.2.2.2.2.2.2.2.2.2.2.2.2.2.2) (fun s => I s.1 s.2.1 s.2.2.1 s.2.2.2.1 s.2.2.2.2.1 s.2.2.2.2.2.1 s.2.2.2.2.2.2.1 s.2.2.2.2.2.2.2.1 s.2.2.2.2.2.2.2.2.1 s.2.2.2.2.2.2.2.2.2.1 s.2.2.2.2.2.2.2.2.2.2.1 s.2.2.2.2.2.2.2.2.2.2.2.1 s.2.2.2.2.2.2.2.2.2.2.2.2.1 s.2.2.2.2.2.2.2.2.2.2.2.2.2.1 s.2.2.2.2.2.2.2.2.2.2.2.2.2.2.1 s.2.2.2.2.2.2.2.2.2.2.2.2.2.2.2) (fun s => μ s.1 s.2.1 s.2.2.1 s.2.2.2.1 s.2.2.2.2.1 s.2.2.2.2.2.1 s.2.2.2.2.2.2.1 s.2.2.2.2.2.2.2.1 s.2.2.2.2.2.2.2.2.1 s.2.2.2.2.2.2.2.2.2.1 s.2.2.2.2.2.2.2.2.2.2.1 s.2.2.2.2.2.2.2.2.2.2.2.1 s.2.2.2.2.2.2.2.2.2.2.2.2.1 s.2.2.2.2.2.2.2.2.2.2.2.2.2.1 s.2.2.2.2.2.2.2.2.2.2.2.2.2.2.1 s.2.2.2.2.2.2.2.2.2.2.2.2.2.2.2) (fun n s hI hk => hs n s.1 s.2.1 s.2.2.1 s.2.2.2.1 s.2.2.2.2.1 s.2.2.2.2.2.1 s.2.2.2.2.2.2.1 s.2.2.2.2.2.2.2.1 s.2.2.2.2.2.2.2.2.1 s.2.2.2.2.2.2.2.2.2.1 s.2.2.2.2.2.2.2.2.2.2.1 s.2.2.2.2.2.2.2.2.2.2.2.1 s.2.2.2.2.2.2.2.2.2.2.2.2.1 s.2.2.2.2.2.2.2.2.2.2.2.2.2.1 s.2.2.2.2.2.2.2.2.2.2.2.2.2.2.1 s.2.2.2.2.2.2.2.2.2.2.2.2.2.2.2 hI (fun b1 b2 b3 b4 b5 b6 b7 b8 b9 b10 b11 b12 b13 b14 b15 b16 h9 hm => hk (b1, b2, b3, b4, b5, b6, b7, b8, b9, b10, b11, b12, b13, b14, b15, b16) h9 hm)) (a1, a2, a3, a4, a5, a6, a7, a8, a9, a10, a11, a12, a13, a14, a15, a16) h
theorem pk_least (P : Nat → Prop) (h : ∃ k, P k) : ∃ k, P k ∧ ∀ j, j < k → ¬ P j := by
  obtain ⟨k, hk⟩ := h
  induction k using Nat.strongRecOn with
  | ind k ih =>
    by_cases e : ∃ j, j < k ∧ P j
    · obtain ⟨j, hj, pj⟩ := e
      exact ih j hj pj
    · exact ⟨k, hk, fun j hj pj => e ⟨j, hj, pj⟩⟩
theorem rp1 {ρ A1 : Type} (W : Nat → (ρ → Prop) → A1 → Prop) (ok : A1 → Prop) (μ : A1 → Nat) (val : A1 → ρ)
    (hs : ∀ (d : Nat) (post : ρ → Prop) (a1 : A1), ok a1 → post (val a1) → (∀ (post' : ρ → Prop) (b1 : A1), ok b1 → μ b1 < μ a1 → post' (val b1) → W d post' b1) → W (d + 1) post a1) :
    ∀ (d : Nat) (post : ρ → Prop) (a1 : A1), ok a1 → μ a1 < d → post (val a1) → W d post a1 := by
  intro d
  induction d with
  | zero => intro post a1 _ h; omega
  | succ d ih =>
    intro post a1 ho hm hp
    exact hs d post a1 ho hp (fun post' b1 ho' hm' hp' => ih post' b1 ho' (by omega) hp')
theorem rp2 {ρ A1 A2 : Type} (W : Nat → (ρ → Prop) → A1 → A2 → Prop) (ok : A1 → A2 → Prop) (μ : A1 → A2 → Nat) (val : A1 → A2 → ρ)
    (hs : ∀ (d : Nat) (post : ρ → Prop) (a1 : A1) (a2 : A2), ok a1 a2 → post (val a1 a2) → (∀ (post' : ρ → Prop) (b1 : A1) (b2 : A2), ok b1 b2 → μ b1 b2 < μ a1 a2 → post' (val b1 b2) → W d post' b1 b2) → W (d + 1) post a1 a2) :
    ∀ (d : Nat) (post : ρ → Prop) (a1 : A1) (a2 : A2), ok a1 a2 → μ a1 a2 < d → post (val a1 a2) → W d post a1 a2 := by
  intro d
  induction d with
  | zero => intro post a1 a2 _ h; omega
  | succ d ih =>
    intro post a1 a2 ho hm hp
    exact hs d post a1 a2 ho hp (fun post' b1 b2 ho' hm' hp' => ih post' b1 b2 ho' (by omega) hp')
theorem rp3 {ρ A1 A2 A3 : Type} (W : Nat → (ρ → Prop) → A1 → A2 → A3 → Prop) (ok : A1 → A2 → A3 → Prop) (μ : A1 → A2 → A3 → Nat) (val : A1 → A2 → A3 → ρ)
    (hs : ∀ (d : Nat) (post : ρ → Prop) (a1 : A1) (a2 : A2) (a3 : A3), ok a1 a2 a3 → post (val a1 a2 a3) → (∀ (post' : ρ → Prop) (b1 : A1) (b2 : A2) (b3 : A3), ok b1 b2 b3 → μ b1 b2 b3 < μ a1 a2 a3 → post' (val b1 b2 b3) → W d post' b1 b2 b3) → W (d + 1) post a1 a2 a3) :
    ∀ (d : Nat) (post : ρ → Prop) (a1 : A1) (a2 : A2) (a3 : A3), ok a1 a2 a3 → μ a1 a2 a3 < d → post (val a1 a2 a3) → W d post a1 a2 a3 := by
  intro d
  induction d with
  | zero => intro post a1 a2 a3 _ h; omega
  | succ d ih =>
    intro post a1 a2 a3 ho hm hp
    exact hs d post a1 a2 a3 ho hp (fun post' b1 b2 b3 ho' hm' hp' => ih post' b1 b2 b3 ho' (by omega) hp')
theorem rp4 {ρ A1 A2 A3 A4 : Type} (W : Nat → (ρ → Prop) → A1 → A2 → A3 → A4 → Prop) (ok : A1 → A2 → A3 → A4 → Prop) (μ : A1 → A2 → A3 → A4 → Nat) (val : A1 → A2 → A3 → A4 → ρ)
    (hs : ∀ (d : Nat) (post : ρ → Prop) (a1 : A1) (a2 : A2) (a3 : A3) (a4 : A4), ok a1 a2 a3 a4 → post (val a1 a2 a3 a4) → (∀ (post' : ρ → Prop) (b1 : A1) (b2 : A2) (b3 : A3) (b4 : A4), ok b1 b2 b3 b4 → μ b1 b2 b3 b4 < μ a1 a2 a3 a4 → post' (val b1 b2 b3 b4) → W d post' b1 b2 b3 b4) → W (d + 1) post a1 a2 a3 a4) :
    ∀ (d : Nat) (post : ρ → Prop) (a1 : A1) (a2 : A2) (a3 : A3) (a4 : A4), ok a1 a2 a3 a4 → μ a1 a2 a3 a4 < d → post (val a1 a2 a3 a4) → W d post a1 a2 a3 a4 := by
  intro d
  induction d with
  | zero => intro post a1 a2 a3 a4 _ h; omega
  | succ d ih =>
    intro post a1 a2 a3 a4 ho hm hp
    exact hs d post a1 a2 a3 a4 ho hp (fun post' b1 b2 b3 b4 ho' hm' hp' => ih post' b1 b2 b3 b4 ho' (by omega) hp')
theorem rp5 {ρ A1 A2 A3 A4 A5 : Type} (W : Nat → (ρ → Prop) → A1 → A2 → A3 → A4 → A5 → Prop) (ok : A1 → A2 → A3 → A4 → A5 → Prop) (μ : A1 → A2 → A3 → A4 → A5 → Nat) (val : A1 → A2 → A3 → A4 → A5 → ρ)
    (hs : ∀ (d : Nat) (post : ρ → Prop) (a1 : A1) (a2 : A2) (a3 : A3) (a4 : A4) (a5 : A5), ok a1 a2 a3 a4 a5 → post (val a1 a2 a3 a4 a5) → (∀ (post' : ρ → Prop) (b1 : A1) (b2 : A2) (b3 : A3) (b4 : A4) (b5 : A5), ok b1 b2 b3 b4 b5 → μ b1 b2 b3 b4 b5 < μ a1 a2 a3 a4 a5 → post' (val b1 b2 b3 b4 b5) → W d post' b1 b2 b3 b4 b5) → W (d + 1) post a1 a2 a3 a4 a5) :
    ∀ (d : Nat) (post : ρ → Prop) (a1 : A1) (a2 : A2) (a3 : A3) (a4 : A4) (a5 : A5), ok a1 a2 a3 a4 a5 → μ a1 a2 a3 a4 a5 < d → post (val a1 a2 a3 a4 a5) → W d post a1 a2 a3 a4 a5 := by
  intro d
  induction d with
  | zero => intro post a1 a2 a3 a4 a5 _ h; omega
  | succ d ih =>
    intro post a1 a2 a3 a4 a5 ho hm hp
    exact hs d post a1 a2 a3 a4 a5 ho hp (fun post' b1 b2 b3 b4 b5 ho' hm' hp' => ih post' b1 b2 b3 b4 b5 ho' (by omega) hp')
theorem rp6 {ρ A1 A2 A3 A4 A5 A6 : Type} (W : Nat → (ρ → Prop) → A1 → A2 → A3 → A4 → A5 → A6 → Prop) (ok : A1 → A2 → A3 → A4 → A5 → A6 → Prop) (μ : A1 → A2 → A3 → A4 → A5 → A6 → Nat) (val : A1 → A2 → A3 → A4 → A5 → A6 → ρ)
    (hs : ∀ (d : Nat) (post : ρ → Prop) (a1 : A1) (a2 : A2) (a3 : A3) (a4 : A4) (a5 : A5) (a6 : A6), ok a1 a2 a3 a4 a5 a6 → post (val a1 a2 a3 a4 a5 a6) → (∀ (post' : ρ → Prop) (b1 : A1) (b2 : A2) (b3 : A3) (b4 : A4) (b5 : A5) (b6 : A6), ok b1 b2 b3 b4 b5 b6 → μ b1 b2 b3 b4 b5 b6 < μ a1 a2 a3 a4 a5 a6 → post' (val b1 b2 b3 b4 b5 b6) → W d post' b1 b2 b3 b4 b5 b6) → W (d + 1) post a1 a2 a3 a4 a5 a6) :
    ∀ (d : Nat) (post : ρ → Prop) (a1 : A1) (a2 : A2) (a3 : A3) (a4 : A4) (a5 : A5) (a6 : A6), ok a1 a2 a3 a4 a5 a6 → μ a1 a2 a3 a4 a5 a6 < d → post (val a1 a2 a3 a4 a5 a6) → W d post a1 a2 a3 a4 a5 a6 := by
  intro d
  induction d with
  | zero => intro post a1 a2 a3 a4 a5 a6 _ h; omega
  | succ d ih =>
    intro post a1 a2 a3 a4 a5 a6 ho hm hp
    exact hs d post a1 a2 a3 a4 a5 a6 ho hp (fun post' b1 b2 b3 b4 b5 b6 ho' hm' hp' => ih post' b1 b2 b3 b4 b5 b6 ho' (by omega) hp')
theorem rec_p {σ ρ : Type} (W : Nat → (ρ → Prop) → σ → Prop) (ok : σ → Prop) (μ : σ → Nat) (val : σ → ρ)
    (hs : ∀ d s post, ok s → post (val s) → (∀ s' post', ok s' → μ s' < μ s → post' (val s') → W d post' s') → W (d + 1) post s) :
    ∀ d s post, ok s → μ s < d → post (val s) → W d post s := by
  intro d
  induction d with
  | zero => intro s post _ h; omega
  | succ d ih =>
    intro s post ho hm hp
    exact hs d s post ho hp (fun s' post' ho' hm' hp' => ih s' post' ho' (by omega) hp')
theorem rec_q {σ ρ : Type} (W : Nat → (ρ → Prop) → σ → Prop) (ok : σ → Prop) (μ : σ → Nat) (Q : σ → ρ → Prop)
    (hs : ∀ d s post, ok s → (∀ r, Q s r → post r) → (∀ s' post', ok s' → μ s' < μ s → (∀ r, Q s' r → post' r) → W d post' s') → W (d + 1) post s) :
    ∀ d s post, ok s → μ s < d → (∀ r, Q s r → post r) → W d post s := by
  intro d
  induction d with
  | zero => intro s post _ h; omega
  | succ d ih =>
    intro s post ho hm hp
    exact hs d s post ho hp (fun s' post' ho' hm' hp' => ih s' post' ho' (by omega) hp')
def bx_sum (f : Nat → Int32) : Nat → Int32
  | 0 => 0
  | n + 1 => bx_sum f n + f n
theorem ek_u {A : Prop} {B : Nat → Prop} {k N : Nat} (hk : k < N) (h : B k) : (some k = none → A) ∧ (∀ y : Nat, some k = some y → (y < N ∧ B y)) :=
  ⟨fun z => absurd z (Option.some_ne_none k), fun _ e => (by cases e; exact ⟨hk, h⟩)⟩
theorem ek_nu {A : Prop} {B : Nat → Prop} (h : A) : ((none : Option Nat) = none → A) ∧ (∀ y : Nat, (none : Option Nat) = some y → B y) :=
  ⟨fun _ => h, fun _ e => (by cases e)⟩
theorem ek_if {c d A B : Prop} (e : c ↔ d) (f : d → A) (g : ¬ d → B) : (c → A) ∧ (¬ c → B) :=
  ⟨fun z => f (e.mp z), fun z => g (fun y => z (e.mpr y))⟩
theorem ek_v {α : Sort _} {P : α → Prop} {a b : α} (e : a = b) (h : P b) : P a := e ▸ h
theorem co_some {x : Option Nat} {A : Prop} {B : Nat → Prop} (i : Nat) (h : B i) (hx : x = some i := by rfl) : (x = none → A) ∧ (∀ y : Nat, x = some y → B y) := by
  subst hx
  exact ⟨fun e => (nomatch e), fun y e => Option.some.inj e ▸ h⟩
theorem co_none {x : Option Nat} {A : Prop} {B : Nat → Prop} (h : A) (hx : x = none := by rfl) : (x = none → A) ∧ (∀ y : Nat, x = some y → B y) := by
  subst hx
  exact ⟨fun _ => h, fun y e => (nomatch e)⟩
theorem co_any {x : Option Nat} {A : Prop} {B : Nat → Prop} (hn : x = none → A) (hs : ∀ i : Nat, x = some i → B i) : (x = none → A) ∧ (∀ y : Nat, x = some y → B y) := ⟨hn, hs⟩
theorem co_2 {P : Nat → Prop} (h0 : P 0) (h1 : P 1) {i : Nat} (hi : i < 2) : P i :=
  match i, hi with
  | 0, _ => h0
  | 1, _ => h1
theorem co_3 {P : Nat → Prop} (h0 : P 0) (h1 : P 1) (h2 : P 2) {i : Nat} (hi : i < 3) : P i :=
  match i, hi with
  | 0, _ => h0
  | 1, _ => h1
  | 2, _ => h2
theorem co_4 {P : Nat → Prop} (h0 : P 0) (h1 : P 1) (h2 : P 2) (h3 : P 3) {i : Nat} (hi : i < 4) : P i :=
  match i, hi with
  | 0, _ => h0
  | 1, _ => h1
  | 2, _ => h2
  | 3, _ => h3
theorem co_dec {N : Nat} {P : Nat → Prop} [DecidablePred P] (h : (List.range N).all (fun i => decide (P i)) = true) {i : Nat} (hi : i < N) : P i := by
  have := List.all_eq_true.mp h i (List.mem_range.mpr hi)
  exact of_decide_eq_true this
theorem co_tab {α : Type} {l : List α} {d : α} {P : α → Prop} (h : ∀ a, a ∈ l → P a) {i : Nat} (hi : i < l.length) : P (l.getD i d) := by
  rw [List.getD_eq_getElem?_getD, List.getElem?_eq_getElem hi]
  exact h _ (List.getElem_mem hi)
theorem pk_mu {x : Int32} {L : Nat} (h0 : ¬ x < 0) (h : ¬ nI L ≤ x) (hL : L < 2 ^ 31) : ∃ j : Nat, j < L ∧ x = nI j ∧ x + 1 = nI (j + 1) ∧ x.toNatClampNeg = j ∧ L - (x + 1).toNatClampNeg < L - x.toNatClampNeg := by
  obtain ⟨j, hj, rfl⟩ := nI_of h0
  have hl : j < L := Nat.not_le.mp fun q => h (nI_le q hj)
  refine ⟨j, hl, rfl, nI_1 j, nI_clamp hj, ?_⟩
  rw [nI_1, nI_clamp (by omega), nI_clamp hj]
  omega
theorem op_s {α : Type} {r : Option α} {A : Prop} {B : α → Prop} {y : α} (h : r = some y) (b : B y) : (r = none → A) ∧ ∀ z, r = some z → B z :=
  ⟨fun e => (by rw [h] at e; cases e), fun z e => (by rw [h] at e; cases e; exact b)⟩
def l_holds {α : Type} (a : Nat → Option Nat) (LP : List Nat) (p : Nat → α) (c : Nat) (b : Nat → α) : Prop :=
  ∀ j, j < c → ∃ y, a j = some y ∧ y ∈ LP ∧ p y = b j
theorem l_holds_0 {α : Type} {a : Nat → Option Nat} {LP : List Nat} {p b : Nat → α} : l_holds a LP p 0 b := fun j h => absurd h (Nat.not_lt_zero j)
theorem l_in_new (LP : List Nat) (q : Nat) : q ∈ LP ++ [q] := List.mem_append.mpr (Or.inr (List.mem_singleton.mpr rfl))
def l_sum (b : Nat → Int32) : Nat → Int32
  | 0 => 0
  | k + 1 => l_sum b k + b k
theorem sb_shr0 (x : Int32) : x >>> ((0 : Int32) &&& 31) = x := by
  rw [show ((0 : Int32) &&& 31) = 0 by decide]
  simp
theorem sb_shl0 (x : Int32) : x <<< ((0 : Int32) &&& 31) = x := by
  rw [show ((0 : Int32) &&& 31) = 0 by decide]
  simp
theorem sb_cl0 : (0 : Int32).toNatClampNeg = 0 := by decide
theorem sb_m1 {p : Nat} (h : 0 < p) : nI p + (-1) = nI (p - 1) := by
  obtain ⟨q, rfl⟩ : ∃ q, p = q + 1 := ⟨p - 1, by omega⟩
  exact pk_m1 q
def sb_b (c : Nat) : Int32 := (nI c).toInt8.toInt32
theorem sb_byte : ∀ c, c < 256 → sb_b c &&& 255 = nI c ∧ ((nI c).toUInt32 % 65536).toInt32 = nI c ∧ nI c ≤ 255 := by decide +kernel
def sb_Fit (a : Nat → Int32) : Prop := ∀ j, fits .byte (.int (a j)) = true
def sb_Lat (t : Nat → Nat) (n : Nat) (a : Nat → Int32) : Prop := ∀ j, j < n → t j < 256 ∧ a j = sb_b (t j)
theorem sb_fitB (c : Nat) : fits .byte (.int (sb_b c)) = true := pk_fb _
theorem sb_fit0 : sb_Fit (fun _ => 0) := fun _ => by
  show fits .byte (.int 0) = true
  decide
theorem sb_fitU {a : Nat → Int32} {k : Nat} {x : Int32} (h : sb_Fit a) (hx : fits .byte (.int x) = true) : sb_Fit (upd a k x) := by
  intro j
  by_cases e : j = k
  · subst e
    rw [pk_us]
    exact hx
  · rw [pk_un e]
    exact h j
def sb_cat (t : Nat → Nat) (n : Nat) (s : Nat → Nat) : Nat → Nat := fun j => if j < n then t j else s (j - n)
theorem sb_cat_lo {t s : Nat → Nat} {n j : Nat} (h : j < n) : sb_cat t n s j = t j := if_pos h
theorem sb_cat_hi {t s : Nat → Nat} {n j : Nat} : sb_cat t n s (n + j) = s j := by
  show (if n + j < n then t (n + j) else s (n + j - n)) = s j
  rw [if_neg (by omega), Nat.add_sub_cancel_left]
theorem sb_latPut {t s : Nat → Nat} {n w : Nat} {a a' : Nat → Int32} (h : sb_Lat t n a) (hk : ∀ j, j < n → a' j = a j) (hs : ∀ i, i < w → s i < 256 ∧ a' (n + i) = sb_b (s i)) : sb_Lat (sb_cat t n s) (n + w) a' := by
  intro j hj
  by_cases e : j < n
  · rw [sb_cat_lo e, hk j e]
    exact h j e
  · obtain ⟨i, rfl⟩ : ∃ i, j = n + i := ⟨j - n, by omega⟩
    rw [sb_cat_hi]
    exact hs i (by omega)
theorem sb_latKeep {t : Nat → Nat} {n : Nat} {a a' : Nat → Int32} (h : sb_Lat t n a) (hk : ∀ j, j < n → a' j = a j) : sb_Lat t n a' := fun j hj => by
  rw [hk j hj]
  exact h j hj
def sb_cap (q m : Nat) : Nat := if q ≤ m then m else if 2 * m + 2 < q then q else 2 * m + 2
def sb_Room (q m mc ms : Nat) : Prop := q ≤ m ∨ (1 ≤ mc ∧ sb_cap q m ≤ ms ∧ sb_cap q m ≤ 65536)
theorem sb_cap_ge (q m : Nat) : q ≤ sb_cap q m := by
  unfold sb_cap
  split
  · omega
  · split <;> omega
theorem sb_cap_gem (q m : Nat) : m ≤ sb_cap q m := by
  unfold sb_cap
  split
  · omega
  · split <;> omega
theorem sb_cap_le {q m mc ms : Nat} (hm : m ≤ 65536) (hr : sb_Room q m mc ms) : sb_cap q m ≤ 65536 := by
  rcases hr with h | h
  · rw [sb_cap, if_pos h]
    exact hm
  · exact h.2.2
theorem sb_at {P : Int32 → Prop} {x y : Int32} (e : x = y) (h : P y) : P x := e ▸ h
def sb_dg (w : Nat) : Nat := if w < 10 then 1 else if w < 100 then 2 else if w < 1000 then 3 else if w < 10000 then 4 else if w < 100000 then 5 else if w < 1000000 then 6 else if w < 10000000 then 7 else if w < 100000000 then 8 else if w < 1000000000 then 9 else 10
def sb_dec (v : Nat) : Nat → Nat := fun i => 48 + v / 10 ^ (sb_dg v - 1 - i) % 10
theorem sb_dg_in (w : Nat) : 1 ≤ sb_dg w ∧ sb_dg w ≤ 10 := by
  unfold sb_dg
  constructor <;> (repeat' split) <;> omega
theorem sb_dg100 {w : Nat} (h : 100 ≤ w) (hw : w < 2 ^ 31) : sb_dg w = sb_dg (w / 100) + 2 := by
  rw [sb_dg, sb_dg, if_neg (show ¬ w < 10 by omega), if_neg (show ¬ w < 100 by omega)]
  by_cases h3 : w < 1000
  · rw [if_pos h3, if_pos (show w / 100 < 10 by omega)]
  rw [if_neg h3, if_neg (show ¬ w / 100 < 10 by omega)]
  by_cases h4 : w < 10000
  · rw [if_pos h4, if_pos (show w / 100 < 100 by omega)]
  rw [if_neg h4, if_neg (show ¬ w / 100 < 100 by omega)]
  by_cases h5 : w < 100000
  · rw [if_pos h5, if_pos (show w / 100 < 1000 by omega)]
  rw [if_neg h5, if_neg (show ¬ w / 100 < 1000 by omega)]
  by_cases h6 : w < 1000000
  · rw [if_pos h6, if_pos (show w / 100 < 10000 by omega)]
  rw [if_neg h6, if_neg (show ¬ w / 100 < 10000 by omega)]
  by_cases h7 : w < 10000000
  · rw [if_pos h7, if_pos (show w / 100 < 100000 by omega)]
  rw [if_neg h7, if_neg (show ¬ w / 100 < 100000 by omega)]
  by_cases h8 : w < 100000000
  · rw [if_pos h8, if_pos (show w / 100 < 1000000 by omega)]
  rw [if_neg h8, if_neg (show ¬ w / 100 < 1000000 by omega)]
  by_cases h9 : w < 1000000000
  · rw [if_pos h9, if_pos (show w / 100 < 10000000 by omega)]
  rw [if_neg h9, if_neg (show ¬ w / 100 < 10000000 by omega)]
  rw [if_pos (show w / 100 < 100000000 by omega)]
theorem sb_negT {w : Nat} (h : w < 2 ^ 31) : (-nI w).toInt = -(w : Int) := by
  rw [Int32.toInt_neg, nI_toInt h]
  exact Int.bmod_eq_of_le (by omega) (by omega)
theorem sb_nle {a b : Nat} (ha : a < 2 ^ 31) (hb : b < 2 ^ 31) : -nI a ≤ -nI b ↔ b ≤ a := by
  rw [Int32.le_iff_toInt_le, sb_negT ha, sb_negT hb]
  omega
theorem sb_nlt {a b : Nat} (ha : a < 2 ^ 31) (hb : b < 2 ^ 31) : -nI a < -nI b ↔ b < a := by
  rw [Int32.lt_iff_toInt_lt, sb_negT ha, sb_negT hb]
  omega
theorem sb_cmp {A B : Prop} {x : Int32} (v c : Nat) (f : c ≤ v → A) (g : v < c → B) (hv : v < 2 ^ 31) (hx : x = -nI c := by rfl) (hc : c < 2 ^ 31 := by omega) : (-nI v ≤ x → A) ∧ (¬ -nI v ≤ x → B) := by
  subst hx
  rw [sb_nle hv hc]
  exact ⟨f, fun z => g (by omega)⟩
theorem sb_ndiv {w : Nat} (hw : w < 2 ^ 31) : (-nI w) / 100 = -nI (w / 100) := by
  apply Int32.toInt_inj.mp
  have h100 : (100 : Int32).toInt = 100 := by decide
  rw [Int32.toInt_div, sb_negT hw, h100, sb_negT (by omega), Int.neg_tdiv, Int.tdiv_eq_ediv_of_nonneg (by omega), Int.bmod_eq_of_le (by omega) (by omega)]
  omega
theorem sb_nrem {w : Nat} (hw : w < 2 ^ 31) : (-nI (w / 100)) * 100 - (-nI w) = nI (w % 100) := by
  have h := pk_rem (a := w) (d := 100) hw (by decide) (by decide)
  rw [pk_div hw (by decide) (by decide)] at h
  rw [← h]
  show (-nI (w / 100)) * nI 100 - (-nI w) = nI w - nI (w / 100) * nI 100
  rw [Int32.neg_mul, Int32.sub_neg, Int32.add_comm, ← Int32.sub_eq_add_neg]
end
section
/-! rows in reverse Polish order: heights, the start of the tree that ends at a place, a stretch as k trees -/
def bu_h (a : Nat → Nat) : Nat → Nat
  | 0 => 0
  | j + 1 => bu_h a j + 1 - a j
def bu_wf (a : Nat → Nat) (k : Nat) : Prop := ∀ j, j < k → a j ≤ bu_h a j
def bu_sn (a : Nat → Nat) : Nat → Nat → Nat
  | 0, _ => 0
  | p + 1, need => if need + a p = 1 then p else bu_sn a p (need + a p - 1)
def bu_st (a : Nat → Nat) (i : Nat) : Nat := bu_sn a (i + 1) 1
def bu_T (F : Nat → Nat) : Nat → Nat → Nat → Prop
  | 0, x, y => x = y
  | k + 1, x, y => 0 < y ∧ F (y - 1) < y ∧ bu_T F k x (F (y - 1))
theorem bu_T_le {F : Nat → Nat} : ∀ {k x y : Nat}, bu_T F k x y → x ≤ y
  | 0, _, _, h => Nat.le_of_eq h
  | _ + 1, _, _, h => Nat.le_trans (bu_T_le h.2.2) (Nat.le_of_lt h.2.1)
theorem bu_T_lt {F : Nat → Nat} {k x y : Nat} (h : bu_T F (k + 1) x y) : x < y :=
  Nat.lt_of_le_of_lt (bu_T_le h.2.2) h.2.1
theorem bu_T_un {F : Nat → Nat} : ∀ {k x x' y : Nat}, bu_T F k x y → bu_T F k x' y → x = x'
  | 0, _, _, _, h, h' => Eq.trans h (Eq.symm h')
  | _ + 1, _, _, _, h, h' => bu_T_un h.2.2 h'.2.2
theorem bu_T_split {F : Nat → Nat} : ∀ {i j x y : Nat}, bu_T F (j + i) x y → ∃ z, bu_T F i z y ∧ bu_T F j x z
  | 0, _, _, y, h => ⟨y, rfl, h⟩
  | i + 1, j, _, _, h => by
    obtain ⟨z, h1, h2⟩ := bu_T_split (F := F) (i := i) (j := j) h.2.2
    exact ⟨z, ⟨h.1, h.2.1, h1⟩, h2⟩
theorem bu_T_app {F : Nat → Nat} : ∀ {i j x y z : Nat}, bu_T F i z y → bu_T F j x z → bu_T F (j + i) x y
  | 0, _, _, _, _, h, h' => by cases h; exact h'
  | _ + 1, _, _, _, _, h, h' => ⟨h.1, h.2.1, bu_T_app h.2.2 h'⟩
theorem bu_T_0 {F : Nat → Nat} {x y : Nat} (h : bu_T F 0 x y) : x = y := h
theorem bu_T_1 {F : Nat → Nat} {x y : Nat} (h : bu_T F 1 x y) : 0 < y ∧ F (y - 1) < y ∧ x = F (y - 1) := h
theorem bu_T_2 {F : Nat → Nat} {x y : Nat} (h : bu_T F 2 x y) : 0 < y ∧ F (y - 1) < y ∧ 0 < F (y - 1) ∧ F (F (y - 1) - 1) < F (y - 1) ∧ x = F (F (y - 1) - 1) := h
theorem bu_h_pos {a : Nat → Nat} {x : Nat} (hw : bu_wf a x) (h : 0 < x) : 1 ≤ bu_h a x := by
  obtain ⟨p, rfl⟩ : ∃ p, x = p + 1 := ⟨x - 1, by omega⟩
  have := hw p (by omega)
  show 1 ≤ bu_h a p + 1 - a p
  omega
theorem bu_wf_le {a : Nat → Nat} {x y : Nat} (hw : bu_wf a y) (h : x ≤ y) : bu_wf a x := fun j hj => hw j (by omega)
theorem bu_snT (a : Nat → Nat) : ∀ y k, bu_wf a y → 1 ≤ k → k ≤ bu_h a y → bu_T (bu_st a) k (bu_sn a y k) y ∧ bu_h a (bu_sn a y k) + k = bu_h a y := by
  intro y
  induction y with
  | zero => intro k _ h1 h2; simp only [bu_h] at h2; omega
  | succ p ih =>
    intro k hw h1 h2
    have hp : a p ≤ bu_h a p := hw p (by omega)
    have hw' : bu_wf a p := fun j hj => hw j (by omega)
    have e2 : bu_h a (p + 1) = bu_h a p + 1 - a p := rfl
    have est : bu_st a p = if 1 + a p = 1 then p else bu_sn a p (1 + a p - 1) := rfl
    have hc : bu_T (bu_st a) (a p) (bu_st a p) p ∧ bu_h a (bu_st a p) + a p = bu_h a p := by
      by_cases h0 : a p = 0
      · rw [if_pos (by omega)] at est
        rw [est, h0]; exact ⟨rfl, rfl⟩
      · rw [if_neg (by omega), show 1 + a p - 1 = a p by omega] at est
        have := ih (a p) hw' (by omega) hp
        rw [est]; exact this
    have hlt : bu_st a p < p + 1 := by have := bu_T_le hc.1; omega
    have e3 : bu_sn a (p + 1) k = if k + a p = 1 then p else bu_sn a p (k + a p - 1) := rfl
    by_cases hz : k + a p = 1
    · rw [if_pos hz] at e3
      rw [e3]
      have k1 : k = 1 := by omega
      have a0 : a p = 0 := by omega
      have e := hc.1
      rw [a0] at e
      subst k1
      exact ⟨⟨by omega, hlt, Eq.symm (bu_T_0 e)⟩, by omega⟩
    · rw [if_neg hz] at e3
      rw [e3]
      obtain ⟨k', rfl⟩ : ∃ k', k = k' + 1 := ⟨k - 1, by omega⟩
      have e4 : k' + 1 + a p - 1 = k' + a p := by omega
      rw [e4]
      obtain ⟨i1, i2⟩ := ih (k' + a p) hw' (by omega) (by omega)
      obtain ⟨z, z1, z2⟩ := bu_T_split i1
      have ez := bu_T_un z1 hc.1
      rw [ez] at z2
      exact ⟨⟨by omega, hlt, z2⟩, by omega⟩
/-- the children of place p fill the stretch ahead of it -/
theorem bu_chi {a : Nat → Nat} {n p : Nat} (hw : bu_wf a n) (hp : p < n) : bu_T (bu_st a) (a p) (bu_st a p) p ∧ bu_h a (bu_st a p) + a p = bu_h a p := by
  have est : bu_st a p = if 1 + a p = 1 then p else bu_sn a p (1 + a p - 1) := rfl
  by_cases h0 : a p = 0
  · rw [if_pos (by omega)] at est
    rw [est, h0]; exact ⟨rfl, rfl⟩
  · rw [if_neg (by omega), show 1 + a p - 1 = a p by omega] at est
    rw [est]
    exact bu_snT a p (a p) (bu_wf_le hw (by omega)) (by omega) (hw p hp)
theorem bu_st_le {a : Nat → Nat} {n p : Nat} (hw : bu_wf a n) (hp : p < n) : bu_st a p ≤ p := bu_T_le (bu_chi hw hp).1
theorem bu_st_T {a : Nat → Nat} {n p : Nat} (hw : bu_wf a n) (hp : p < n) : bu_T (bu_st a) 1 (bu_st a p) (p + 1) :=
  ⟨by omega, by have := bu_st_le hw hp; exact Nat.lt_succ_of_le this, rfl⟩
/-- the whole row is as many trees as its height says -/
theorem bu_all {a : Nat → Nat} {n : Nat} (hw : bu_wf a n) : bu_T (bu_st a) (bu_h a n) 0 n := by
  rcases Nat.eq_zero_or_pos n with h | h
  · subst h; exact rfl
  · have h1 := bu_h_pos hw h
    obtain ⟨i1, i2⟩ := bu_snT a n (bu_h a n) hw h1 (Nat.le_refl _)
    have hx : bu_sn a n (bu_h a n) = 0 := by
      rcases Nat.eq_zero_or_pos (bu_sn a n (bu_h a n)) with z | z
      · exact z
      · have := bu_h_pos (bu_wf_le hw (bu_T_le i1)) z
        omega
    rw [hx] at i1
    exact i1
theorem bu_h_cg {a a' : Nat → Nat} : ∀ {y : Nat}, (∀ j, j < y → a j = a' j) → bu_h a y = bu_h a' y
  | 0, _ => rfl
  | y + 1, h => by
    have i := bu_h_cg (y := y) (a := a) (a' := a') (fun j hj => h j (by omega))
    show bu_h a y + 1 - a y = bu_h a' y + 1 - a' y
    rw [i, h y (by omega)]
theorem bu_sn_cg {a a' : Nat → Nat} : ∀ {y : Nat}, (∀ j, j < y → a j = a' j) → ∀ k, bu_sn a y k = bu_sn a' y k
  | 0, _, _ => rfl
  | y + 1, h, k => by
    have i := bu_sn_cg (y := y) (a := a) (a' := a') (fun j hj => h j (by omega))
    show (if k + a y = 1 then y else bu_sn a y (k + a y - 1)) = (if k + a' y = 1 then y else bu_sn a' y (k + a' y - 1))
    rw [h y (by omega), i]
theorem bu_st_cg {a a' : Nat → Nat} {y : Nat} (h : ∀ j, j ≤ y → a j = a' j) : bu_st a y = bu_st a' y :=
  bu_sn_cg (fun j hj => h j (by omega)) 1
theorem bu_wf_cg {a a' : Nat → Nat} {y : Nat} (h : ∀ j, j < y → a j = a' j) (hw : bu_wf a y) : bu_wf a' y := by
  intro j hj
  rw [← h j hj, ← bu_h_cg (a := a) (a' := a') (y := j) (fun i hi => h i (by omega))]
  exact hw j hj
/-- a row that lies at b in a longer one -/
theorem bu_sn_sh {a g : Nat → Nat} {b : Nat} : ∀ {y : Nat}, (∀ j, j < y → g (b + j) = a j) → bu_wf a y → ∀ k, 1 ≤ k → k ≤ bu_h a y → bu_sn g (b + y) k = b + bu_sn a y k
  | 0, _, _, k, h1, h2 => by simp only [bu_h] at h2; omega
  | y + 1, h, hw, k, h1, h2 => by
    have e2 : bu_h a (y + 1) = bu_h a y + 1 - a y := rfl
    have hp : a y ≤ bu_h a y := hw y (by omega)
    show (if k + g (b + y) = 1 then b + y else bu_sn g (b + y) (k + g (b + y) - 1)) = b + (if k + a y = 1 then y else bu_sn a y (k + a y - 1))
    rw [h y (by omega)]
    by_cases hz : k + a y = 1
    · rw [if_pos hz, if_pos hz]
    · rw [if_neg hz, if_neg hz]
      exact bu_sn_sh (fun j hj => h j (by omega)) (bu_wf_le hw (by omega)) _ (by omega) (by omega)
theorem bu_st_sh {a g : Nat → Nat} {b y : Nat} (h : ∀ j, j ≤ y → g (b + j) = a j) (hw : bu_wf a (y + 1)) : bu_st g (b + y) = b + bu_st a y := by
  have := bu_sn_sh (a := a) (g := g) (b := b) (y := y + 1) (fun j hj => h j (by omega)) hw 1 (by omega) (bu_h_pos hw (by omega))
  exact this
theorem bu_h_s (a : Nat → Nat) (j : Nat) : bu_h a (j + 1) = bu_h a j + 1 - a j := rfl
theorem bu_sn_s (a : Nat → Nat) (p k : Nat) : bu_sn a (p + 1) k = if k + a p = 1 then p else bu_sn a p (k + a p - 1) := rfl
theorem bu_wf_s {a : Nat → Nat} {k : Nat} (hw : bu_wf a k) (h : a k ≤ bu_h a k) : bu_wf a (k + 1) := by
  intro j hj
  rcases Nat.lt_or_ge j k with z | z
  · exact hw j z
  · have : j = k := by omega
    rw [this]; exact h
/-- sums -/
def bu_su (f : Nat → Nat) : Nat → Nat
  | 0 => 0
  | k + 1 => bu_su f k + f k
theorem bu_su_s (f : Nat → Nat) (k : Nat) : bu_su f (k + 1) = bu_su f k + f k := rfl
theorem bu_su_cg {f g : Nat → Nat} : ∀ {k : Nat}, (∀ j, j < k → f j = g j) → bu_su f k = bu_su g k
  | 0, _ => rfl
  | k + 1, h => by
    rw [bu_su_s, bu_su_s, bu_su_cg (k := k) (fun j hj => h j (by omega)), h k (by omega)]
theorem bu_su_le {f g : Nat → Nat} : ∀ {k : Nat}, (∀ j, j < k → f j ≤ g j) → bu_su f k ≤ bu_su g k
  | 0, _ => Nat.le_refl _
  | k + 1, h => by
    have := bu_su_le (f := f) (g := g) (k := k) (fun j hj => h j (by omega))
    have := h k (by omega)
    rw [bu_su_s, bu_su_s]; omega
theorem bu_su_mo {f : Nat → Nat} {j : Nat} : ∀ {k : Nat}, j ≤ k → bu_su f j ≤ bu_su f k
  | 0, h => by have : j = 0 := by omega
               subst this; exact Nat.le_refl _
  | k + 1, h => by
    rcases Nat.lt_or_ge j (k + 1) with z | z
    · have := bu_su_mo (f := f) (j := j) (k := k) (by omega)
      rw [bu_su_s]; omega
    · have : j = k + 1 := by omega
      subst this; exact Nat.le_refl _
theorem bu_su_1 {f : Nat → Nat} {j k : Nat} (h : j < k) : f j ≤ bu_su f k := by
  have := bu_su_mo (f := f) (j := j + 1) (k := k) (by omega)
  rw [bu_su_s] at this; omega
end
section
/-! min-plus relaxation: labels as the least solution, Bellman-Ford by ranks -/
def bu_cn (p : Nat → Bool) : Nat → Nat
  | 0 => 0
  | k + 1 => bu_cn p k + (if p k = true then 1 else 0)
theorem bu_cn_s (p : Nat → Bool) (k : Nat) : bu_cn p (k + 1) = bu_cn p k + (if p k = true then 1 else 0) := rfl
theorem bu_cn_le (p : Nat → Bool) : ∀ k, bu_cn p k ≤ k
  | 0 => Nat.le_refl _
  | k + 1 => by
    have := bu_cn_le p k
    rw [bu_cn_s]; split <;> omega
theorem bu_cn_mo {p q : Nat → Bool} : ∀ {k : Nat}, (∀ j, j < k → p j = true → q j = true) → bu_cn p k ≤ bu_cn q k
  | 0, _ => Nat.le_refl _
  | k + 1, h => by
    have i := bu_cn_mo (p := p) (q := q) (k := k) (fun j hj => h j (by omega))
    rw [bu_cn_s, bu_cn_s]
    by_cases z : p k = true
    · rw [if_pos z, if_pos (h k (by omega) z)]; omega
    · rw [if_neg z]; split <;> omega
theorem bu_cn_lt {p q : Nat → Bool} {a : Nat} (hp : p a = false) (hq : q a = true) : ∀ {k : Nat}, (∀ j, j < k → p j = true → q j = true) → a < k → bu_cn p k + 1 ≤ bu_cn q k
  | 0, _, h => by omega
  | k + 1, h, ha => by
    rw [bu_cn_s, bu_cn_s]
    rcases Nat.lt_or_ge a k with z | z
    · have i := bu_cn_lt (p := p) (q := q) hp hq (k := k) (fun j hj => h j (by omega)) z
      by_cases y : p k = true
      · rw [if_pos y, if_pos (h k (by omega) y)]; omega
      · rw [if_neg y]; split <;> omega
    · have e : a = k := by omega
      subst e
      have i := bu_cn_mo (p := p) (q := q) (k := a) (fun j hj => h j (by omega))
      rw [hp, hq, if_pos rfl]
      simp only [Bool.false_eq_true, if_false]
      omega
theorem bu_cn_1 {p : Nat → Bool} {a k : Nat} (h : a < k) (hp : p a = true) : 1 ≤ bu_cn p k := by
  have := bu_cn_lt (p := fun _ => false) (q := p) (a := a) rfl hp (k := k) (fun j _ z => by simp at z) h
  omega
def bu_I : Nat := 1099511627776
def bu_rx (M : Nat → Nat → Bool) (O : Nat → Nat → (Nat → Nat) → Nat) (lh : Nat → Nat) (r n : Nat) (V : Nat → Nat) : Nat → Nat :=
  fun e => if M r n = true ∧ e = 6 * n + lh r then (if O r n V < V e then O r n V else V e) else V e
def bu_ps (M : Nat → Nat → Bool) (O : Nat → Nat → (Nat → Nat) → Nat) (lh : Nat → Nat) (sel : Nat → Bool) (n : Nat) : Nat → (Nat → Nat) → Nat → Nat
  | 0, V => V
  | k + 1, V => if sel k = true then bu_rx M O lh k n (bu_ps M O lh sel n k V) else bu_ps M O lh sel n k V
def bu_rd (M : Nat → Nat → Bool) (O : Nat → Nat → (Nat → Nat) → Nat) (lh : Nat → Nat) (rc : Nat) : Nat → (Nat → Nat) → Nat → Nat
  | 0, V => V
  | k + 1, V => bu_ps M O lh (fun _ => true) k rc (bu_rd M O lh rc k V)
def bu_J (O : Nat → Nat → (Nat → Nat) → Nat) (lh : Nat → Nat) (ch : Nat → Bool) (n : Nat) : Nat → (Nat → Nat) → Nat → Nat
  | 0, V => V
  | k + 1, V => fun e => if ch k = true ∧ e = 6 * n + lh k ∧ O k n V < bu_J O lh ch n k V e then O k n V else bu_J O lh ch n k V e
def bu_it (f : (Nat → Nat) → Nat → Nat) : Nat → (Nat → Nat) → Nat → Nat
  | 0, V => V
  | k + 1, V => f (bu_it f k V)
def bu_lab (M : Nat → Nat → Bool) (O : Nat → Nat → (Nat → Nat) → Nat) (lh : Nat → Nat) (ch : Nat → Bool) (rc nt : Nat) : Nat → Nat → Nat
  | 0 => fun _ => bu_I
  | n + 1 => bu_it (bu_J O lh ch n rc) (nt - 1) (bu_ps M O lh (fun r => !ch r) n rc (bu_lab M O lh ch rc nt n))
/-- the system: left sides, monotone offers that read below, chains -/
def bu_Sys (M : Nat → Nat → Bool) (O : Nat → Nat → (Nat → Nat) → Nat) (lh : Nat → Nat) (ch : Nat → Bool) (cs w : Nat → Nat) (rc nc nt : Nat) : Prop :=
  (∀ r, r < rc → lh r < nt) ∧ nt ≤ 6 ∧ 1 ≤ nt ∧
  (∀ r n (V W : Nat → Nat), r < rc → n < nc → ch r = false → M r n = true → (∀ e, e < 6 * n → V e ≤ W e) → O r n V ≤ O r n W) ∧
  (∀ r n, r < rc → n < nc → ch r = true → M r n = true ∧ cs r < nt ∧ ∀ V : Nat → Nat, O r n V = w r + V (6 * n + cs r))
section
variable {M : Nat → Nat → Bool} {O : Nat → Nat → (Nat → Nat) → Nat} {lh : Nat → Nat} {ch : Nat → Bool} {cs w : Nat → Nat} {rc nc nt : Nat}
theorem bu_rx_le (r n : Nat) (V : Nat → Nat) (e : Nat) : bu_rx M O lh r n V e ≤ V e := by
  unfold bu_rx; split
  · split <;> omega
  · exact Nat.le_refl _
theorem bu_rx_ne {r n : Nat} {V : Nat → Nat} {e : Nat} (h : e ≠ 6 * n + lh r) : bu_rx M O lh r n V e = V e := by
  unfold bu_rx; exact if_neg (fun z => h z.2)
theorem bu_rx_own {r n : Nat} {V : Nat → Nat} (h : M r n = true) : bu_rx M O lh r n V (6 * n + lh r) ≤ O r n V := by
  unfold bu_rx; rw [if_pos ⟨h, rfl⟩]; split <;> omega
theorem bu_rx_cs (r n : Nat) (V : Nat → Nat) (e : Nat) : bu_rx M O lh r n V e = V e ∨ (M r n = true ∧ e = 6 * n + lh r ∧ bu_rx M O lh r n V e = O r n V ∧ O r n V < V e) := by
  unfold bu_rx
  by_cases h : M r n = true ∧ e = 6 * n + lh r
  · rw [if_pos h]
    by_cases z : O r n V < V e
    · rw [if_pos z]; exact Or.inr ⟨h.1, h.2, rfl, z⟩
    · rw [if_neg z]; exact Or.inl rfl
  · rw [if_neg h]; exact Or.inl rfl
theorem bu_ps_s (sel : Nat → Bool) (n k : Nat) (V : Nat → Nat) : bu_ps M O lh sel n (k + 1) V = if sel k = true then bu_rx M O lh k n (bu_ps M O lh sel n k V) else bu_ps M O lh sel n k V := rfl
theorem bu_ps_le (sel : Nat → Bool) (n : Nat) (V : Nat → Nat) (e : Nat) : ∀ k, bu_ps M O lh sel n k V e ≤ V e
  | 0 => Nat.le_refl _
  | k + 1 => by
    have i := bu_ps_le sel n V e k
    rw [bu_ps_s]; split
    · exact Nat.le_trans (bu_rx_le _ _ _ _) i
    · exact i
theorem bu_ps_ne {sel : Nat → Bool} {n : Nat} {V : Nat → Nat} {e : Nat} : ∀ {k : Nat}, (∀ r, r < k → lh r < 6) → (e < 6 * n ∨ 6 * n + 6 ≤ e) → bu_ps M O lh sel n k V e = V e
  | 0, _, _ => rfl
  | k + 1, hl, h => by
    have i := bu_ps_ne (sel := sel) (n := n) (V := V) (e := e) (k := k) (fun r hr => hl r (by omega)) h
    have := hl k (by omega)
    rw [bu_ps_s]; split
    · rw [bu_rx_ne (by omega)]; exact i
    · exact i
theorem bu_ps_own {sel : Nat → Bool} {n r : Nat} {V : Nat → Nat} (hs : sel r = true) (hM : M r n = true) (hO : ∀ V W : Nat → Nat, (∀ e, V e ≤ W e) → O r n V ≤ O r n W) : ∀ {k : Nat}, r < k → bu_ps M O lh sel n k V (6 * n + lh r) ≤ O r n V
  | 0, h => by omega
  | k + 1, h => by
    rcases Nat.lt_or_ge r k with z | z
    · have i := bu_ps_own (sel := sel) (n := n) (r := r) (V := V) hs hM hO (k := k) z
      rw [bu_ps_s]; split
      · exact Nat.le_trans (bu_rx_le _ _ _ _) i
      · exact i
    · have e : r = k := by omega
      subst e
      rw [bu_ps_s, if_pos hs]
      exact Nat.le_trans (bu_rx_own hM) (hO _ _ (fun e => bu_ps_le sel n V e r))
theorem bu_ps_lo {sel : Nat → Bool} {n : Nat} {L V : Nat → Nat} (hL : ∀ e, L e ≤ V e) : ∀ {k : Nat}, (∀ r, r < k → sel r = true → M r n = true → L (6 * n + lh r) ≤ O r n L ∧ ∀ V W : Nat → Nat, (∀ e, V e ≤ W e) → O r n V ≤ O r n W) → ∀ e, L e ≤ bu_ps M O lh sel n k V e
  | 0, _, e => hL e
  | k + 1, h, e => by
    have i := bu_ps_lo (sel := sel) (n := n) hL (k := k) (fun r hr => h r (by omega))
    rw [bu_ps_s]
    by_cases z : sel k = true
    · rw [if_pos z]
      rcases bu_rx_cs (M := M) (O := O) (lh := lh) k n (bu_ps M O lh sel n k V) e with y | ⟨y1, y2, y3, _⟩
      · rw [y]; exact i e
      · rw [y3, y2]
        obtain ⟨h1, h2⟩ := h k (by omega) z y1
        exact Nat.le_trans h1 (h2 _ _ i)
    · rw [if_neg z]; exact i e
theorem bu_rd_s (k : Nat) (V : Nat → Nat) : bu_rd M O lh rc (k + 1) V = bu_ps M O lh (fun _ => true) k rc (bu_rd M O lh rc k V) := rfl
theorem bu_rd_le (V : Nat → Nat) (e : Nat) : ∀ k, bu_rd M O lh rc k V e ≤ V e
  | 0 => Nat.le_refl _
  | k + 1 => Nat.le_trans (bu_ps_le _ _ _ _ _) (bu_rd_le V e k)
theorem bu_rd_own {n r : Nat} {V : Nat → Nat} (hr : r < rc) (hM : M r n = true) (hO : ∀ V W : Nat → Nat, (∀ e, V e ≤ W e) → O r n V ≤ O r n W) : ∀ {k : Nat}, n < k → bu_rd M O lh rc k V (6 * n + lh r) ≤ O r n V
  | 0, h => by omega
  | k + 1, h => by
    rw [bu_rd_s]
    rcases Nat.lt_or_ge n k with z | z
    · exact Nat.le_trans (bu_ps_le _ _ _ _ _) (bu_rd_own hr hM hO z)
    · have e : n = k := by omega
      subst e
      exact Nat.le_trans (bu_ps_own rfl hM hO hr) (hO _ _ (fun e => bu_rd_le V e n))
theorem bu_rd_lo {L V : Nat → Nat} (hL : ∀ e, L e ≤ V e) : ∀ {k : Nat}, (∀ r n, r < rc → n < k → M r n = true → L (6 * n + lh r) ≤ O r n L ∧ ∀ V W : Nat → Nat, (∀ e, V e ≤ W e) → O r n V ≤ O r n W) → ∀ e, L e ≤ bu_rd M O lh rc k V e
  | 0, _, e => hL e
  | k + 1, h, e => by
    rw [bu_rd_s]
    exact bu_ps_lo (bu_rd_lo hL (fun r n hr hn => h r n hr (by omega))) (fun r hr _ hM => h r k hr (by omega) hM) e
theorem bu_J_s (n k : Nat) (V : Nat → Nat) (e : Nat) : bu_J O lh ch n (k + 1) V e = if ch k = true ∧ e = 6 * n + lh k ∧ O k n V < bu_J O lh ch n k V e then O k n V else bu_J O lh ch n k V e := rfl
theorem bu_J_st (n k : Nat) (V : Nat → Nat) (e : Nat) : bu_J O lh ch n (k + 1) V e ≤ bu_J O lh ch n k V e := by
  rw [bu_J_s]; split
  · omega
  · exact Nat.le_refl _
theorem bu_J_le (n : Nat) (V : Nat → Nat) (e : Nat) : ∀ k, bu_J O lh ch n k V e ≤ V e
  | 0 => Nat.le_refl _
  | k + 1 => Nat.le_trans (bu_J_st _ _ _ _) (bu_J_le n V e k)
theorem bu_J_own {n r : Nat} {V : Nat → Nat} (hc : ch r = true) : ∀ {k : Nat}, r < k → bu_J O lh ch n k V (6 * n + lh r) ≤ O r n V
  | 0, h => by omega
  | k + 1, h => by
    rcases Nat.lt_or_ge r k with z | z
    · exact Nat.le_trans (bu_J_st _ _ _ _) (bu_J_own hc z)
    · have e : r = k := by omega
      subst e
      rw [bu_J_s]
      by_cases y : O r n V < bu_J O lh ch n r V (6 * n + lh r)
      · rw [if_pos ⟨hc, rfl, y⟩]; exact Nat.le_refl _
      · rw [if_neg (fun q => y q.2.2)]; omega
theorem bu_J_cs (n : Nat) (V : Nat → Nat) (e : Nat) : ∀ k, bu_J O lh ch n k V e = V e ∨ ∃ r, r < k ∧ ch r = true ∧ e = 6 * n + lh r ∧ bu_J O lh ch n k V e = O r n V
  | 0 => Or.inl rfl
  | k + 1 => by
    rw [bu_J_s]
    by_cases y : ch k = true ∧ e = 6 * n + lh k ∧ O k n V < bu_J O lh ch n k V e
    · rw [if_pos y]; exact Or.inr ⟨k, by omega, y.1, y.2.1, rfl⟩
    · rw [if_neg y]
      rcases bu_J_cs n V e k with z | ⟨r, hr, z⟩
      · exact Or.inl z
      · exact Or.inr ⟨r, by omega, z⟩
theorem bu_it_s (f : (Nat → Nat) → Nat → Nat) (k : Nat) (V : Nat → Nat) : bu_it f (k + 1) V = f (bu_it f k V) := rfl
theorem bu_it_le {f : (Nat → Nat) → Nat → Nat} (hf : ∀ V e, f V e ≤ V e) (V : Nat → Nat) (e : Nat) {j : Nat} : ∀ {k : Nat}, j ≤ k → bu_it f k V e ≤ bu_it f j V e
  | 0, h => by have : j = 0 := by omega
               subst this; exact Nat.le_refl _
  | k + 1, h => by
    rcases Nat.lt_or_ge j (k + 1) with z | z
    · exact Nat.le_trans (hf _ _) (bu_it_le hf V e (k := k) (by omega))
    · have : j = k + 1 := by omega
      subst this; exact Nat.le_refl _
/-- if a round changes nothing, no later one does -/
theorem bu_it_fix {f : (Nat → Nat) → Nat → Nat} {V : Nat → Nat} {j : Nat} (h : f (bu_it f j V) = bu_it f j V) : ∀ {k : Nat}, j ≤ k → bu_it f k V = bu_it f j V
  | 0, h0 => by have : j = 0 := by omega
                subst this; rfl
  | k + 1, h0 => by
    rcases Nat.lt_or_ge j (k + 1) with z | z
    · rw [bu_it_s, bu_it_fix h (k := k) (by omega), h]
    · have : j = k + 1 := by omega
      subst this; rfl
theorem bu_Sys_mo (S : bu_Sys M O lh ch cs w rc nc nt) {r n : Nat} (hr : r < rc) (hn : n < nc) (hM : M r n = true) (V W : Nat → Nat) (h : ∀ e, V e ≤ W e) : O r n V ≤ O r n W := by
  obtain ⟨_, _, _, s4, s5⟩ := S
  rcases hb : ch r with _ | _
  · exact s4 r n V W hr hn hb hM (fun e _ => h e)
  · obtain ⟨_, _, q⟩ := s5 r n hr hn hb
    rw [q, q]; exact Nat.add_le_add_left (h _) _
theorem bu_Sys_l6 (S : bu_Sys M O lh ch cs w rc nc nt) {r : Nat} (hr : r < rc) : lh r < 6 := by
  have := S.1 r hr; have := S.2.1; omega
theorem bu_ps_cs (S : bu_Sys M O lh ch cs w rc nc nt) {n : Nat} (hn : n < nc) (V : Nat → Nat) (e : Nat) : ∀ k, k ≤ rc → bu_ps M O lh (fun r => !ch r) n k V e = V e ∨ ∃ r, r < k ∧ ch r = false ∧ M r n = true ∧ e = 6 * n + lh r ∧ bu_ps M O lh (fun r => !ch r) n k V e = O r n V
  | 0, _ => Or.inl rfl
  | k + 1, hk => by
    rw [bu_ps_s]
    rcases hb : ch k with _ | _
    · rw [if_pos (by simp)]
      rcases bu_rx_cs (M := M) (O := O) (lh := lh) k n (bu_ps M O lh (fun r => !ch r) n k V) e with y | ⟨y1, y2, y3, _⟩
      · rw [y]
        rcases bu_ps_cs S hn V e k (by omega) with z | ⟨r, hr, z⟩
        · exact Or.inl z
        · exact Or.inr ⟨r, by omega, z⟩
      · refine Or.inr ⟨k, by omega, hb, y1, y2, y3.trans ?_⟩
        have q : ∀ e, e < 6 * n → bu_ps M O lh (fun r => !ch r) n k V e = V e := fun e he => bu_ps_ne (fun r hr => bu_Sys_l6 S (by omega)) (Or.inl he)
        exact Nat.le_antisymm (S.2.2.2.1 k n _ _ (by omega) hn hb y1 (fun e he => Nat.le_of_eq (q e he))) (S.2.2.2.1 k n _ _ (by omega) hn hb y1 (fun e he => Nat.le_of_eq (q e he).symm))
    · rw [if_neg (by simp)]
      rcases bu_ps_cs S hn V e k (by omega) with z | ⟨r, hr, z⟩
      · exact Or.inl z
      · exact Or.inr ⟨r, by omega, z⟩
theorem bu_J_ne (S : bu_Sys M O lh ch cs w rc nc nt) {n k : Nat} (hk : k ≤ rc) {V : Nat → Nat} {e : Nat} (h : ∀ t, t < nt → e ≠ 6 * n + t) : bu_J O lh ch n k V e = V e := by
  rcases bu_J_cs (O := O) (lh := lh) (ch := ch) n V e k with z | ⟨r, hr, _, z, _⟩
  · exact z
  · exact absurd z (h _ (S.1 r (by omega)))
/-- Bellman-Ford: an entry that still got better in step k has more than k entries at most as dear -/
theorem bu_bf (S : bu_Sys M O lh ch cs w rc nc nt) {n : Nat} (hn : n < nc) (B : Nat → Nat) : ∀ k t, t < nt → (k = 0 ∨ bu_it (bu_J O lh ch n rc) k B (6 * n + t) < bu_it (bu_J O lh ch n rc) (k - 1) B (6 * n + t)) →
    k + 1 ≤ bu_cn (fun u => decide (bu_it (bu_J O lh ch n rc) k B (6 * n + u) ≤ bu_it (bu_J O lh ch n rc) k B (6 * n + t))) nt := by
  intro k
  induction k with
  | zero => intro t ht _; exact bu_cn_1 ht (decide_eq_true (Nat.le_refl _))
  | succ k ih =>
    intro t ht h
    rcases h with h | h
    · omega
    · rw [Nat.add_sub_cancel] at h
      rcases bu_J_cs (O := O) (lh := lh) (ch := ch) n (bu_it (bu_J O lh ch n rc) k B) (6 * n + t) rc with z | ⟨r, hr, hc, z, y⟩
      · rw [bu_it_s] at h; omega
      · obtain ⟨_, hs, q⟩ := S.2.2.2.2 r n hr hn hc
        have e1 : bu_it (bu_J O lh ch n rc) (k + 1) B (6 * n + t) = w r + bu_it (bu_J O lh ch n rc) k B (6 * n + cs r) := by rw [bu_it_s, y, q]
        have i := ih (cs r) hs (by
          rcases Nat.eq_zero_or_pos k with k0 | k0
          · exact Or.inl k0
          · refine Or.inr ?_
            obtain ⟨j, rfl⟩ : ∃ j, k = j + 1 := ⟨k - 1, by omega⟩
            rw [Nat.add_sub_cancel]
            have o := bu_J_own (O := O) (lh := lh) (ch := ch) (n := n) (r := r) (V := bu_it (bu_J O lh ch n rc) j B) hc (k := rc) hr
            rw [q, ← z, ← bu_it_s (bu_J O lh ch n rc) j B] at o
            omega)
        refine Nat.le_trans (Nat.add_le_add_right i 1) (bu_cn_lt (a := t) ?_ ?_ ?_ ht)
        · exact decide_eq_false (by omega)
        · exact decide_eq_true (Nat.le_refl _)
        · intro u _ hu
          have hu := of_decide_eq_true hu
          refine decide_eq_true ?_
          have d := bu_J_le (O := O) (lh := lh) (ch := ch) n (bu_it (bu_J O lh ch n rc) k B) (6 * n + u) rc
          rw [← bu_it_s (bu_J O lh ch n rc) k B] at d
          omega
theorem bu_bf2 (S : bu_Sys M O lh ch cs w rc nc nt) {n : Nat} (hn : n < nc) (B : Nat → Nat) : bu_it (bu_J O lh ch n rc) nt B = bu_it (bu_J O lh ch n rc) (nt - 1) B := by
  funext e
  obtain ⟨k, hk⟩ : ∃ k, nt = k + 1 := ⟨nt - 1, by have := S.2.2.1; omega⟩
  have e0 : bu_it (bu_J O lh ch n rc) nt B = bu_J O lh ch n rc (bu_it (bu_J O lh ch n rc) (nt - 1) B) := by rw [hk, bu_it_s, Nat.add_sub_cancel]
  rcases Classical.em (∃ t, t < nt ∧ e = 6 * n + t) with ⟨t, ht, rfl⟩ | z
  · have d := bu_J_le (O := O) (lh := lh) (ch := ch) n (bu_it (bu_J O lh ch n rc) (nt - 1) B) (6 * n + t) rc
    rw [← e0] at d
    rcases Nat.lt_or_ge (bu_it (bu_J O lh ch n rc) nt B (6 * n + t)) (bu_it (bu_J O lh ch n rc) (nt - 1) B (6 * n + t)) with y | y
    · have b := bu_bf S hn B nt t ht (Or.inr y)
      have c := bu_cn_le (fun u => decide (bu_it (bu_J O lh ch n rc) nt B (6 * n + u) ≤ bu_it (bu_J O lh ch n rc) nt B (6 * n + t))) nt
      omega
    · omega
  · rw [e0]
    exact bu_J_ne S (Nat.le_refl _) (fun t ht q => z ⟨t, ht, q⟩)
theorem bu_bf3 (S : bu_Sys M O lh ch cs w rc nc nt) {n : Nat} (hn : n < nc) (B : Nat → Nat) {r : Nat} (hr : r < rc) (hc : ch r = true) : bu_it (bu_J O lh ch n rc) (nt - 1) B (6 * n + lh r) ≤ O r n (bu_it (bu_J O lh ch n rc) (nt - 1) B) := by
  have o := bu_J_own (O := O) (lh := lh) (ch := ch) (n := n) (r := r) (V := bu_it (bu_J O lh ch n rc) (nt - 1) B) hc (k := rc) hr
  rw [← bu_it_s (bu_J O lh ch n rc) (nt - 1) B, show nt - 1 + 1 = nt by have := S.2.2.1; omega, bu_bf2 S hn B] at o
  exact o
theorem bu_itJ_ne (S : bu_Sys M O lh ch cs w rc nc nt) {n : Nat} {V : Nat → Nat} {e : Nat} (h : e < 6 * n ∨ 6 * n + 6 ≤ e) : ∀ k, bu_it (bu_J O lh ch n rc) k V e = V e
  | 0 => rfl
  | k + 1 => by
    rw [bu_it_s, bu_J_ne S (Nat.le_refl _) (fun t ht q => by have := S.2.1; omega)]
    exact bu_itJ_ne S h k
theorem bu_lab_s (n : Nat) : bu_lab M O lh ch rc nt (n + 1) = bu_it (bu_J O lh ch n rc) (nt - 1) (bu_ps M O lh (fun r => !ch r) n rc (bu_lab M O lh ch rc nt n)) := rfl
theorem bu_lab_ne (S : bu_Sys M O lh ch cs w rc nc nt) {n e : Nat} (h : e < 6 * n ∨ 6 * n + 6 ≤ e) : bu_lab M O lh ch rc nt (n + 1) e = bu_lab M O lh ch rc nt n e := by
  rw [bu_lab_s, bu_itJ_ne S h, bu_ps_ne (fun r hr => bu_Sys_l6 S hr) h]
theorem bu_lab_hi (S : bu_Sys M O lh ch cs w rc nc nt) {e : Nat} : ∀ {n : Nat}, 6 * n ≤ e → bu_lab M O lh ch rc nt n e = bu_I
  | 0, _ => rfl
  | n + 1, h => by rw [bu_lab_ne S (Or.inr (by omega))]; exact bu_lab_hi S (by omega)
theorem bu_lab_lo (S : bu_Sys M O lh ch cs w rc nc nt) {e n : Nat} (he : e < 6 * n) : ∀ {m : Nat}, n ≤ m → bu_lab M O lh ch rc nt m e = bu_lab M O lh ch rc nt n e
  | 0, h => by omega
  | m + 1, h => by
    rcases Nat.lt_or_ge n (m + 1) with z | z
    · rw [bu_lab_ne S (Or.inl (by omega))]; exact bu_lab_lo S he (by omega)
    · have : n = m + 1 := by omega
      subst this; rfl
theorem bu_lab_st (n e : Nat) : bu_lab M O lh ch rc nt (n + 1) e ≤ bu_lab M O lh ch rc nt n e := by
  rw [bu_lab_s]
  exact Nat.le_trans (bu_it_le (fun V e => bu_J_le n V e rc) _ e (Nat.zero_le _)) (bu_ps_le _ _ _ _ _)
theorem bu_lab_I (e : Nat) : ∀ n, bu_lab M O lh ch rc nt n e ≤ bu_I
  | 0 => Nat.le_refl _
  | n + 1 => Nat.le_trans (bu_lab_st n e) (bu_lab_I e n)
/-- the labels are closed under every rule -/
theorem bu_lab_cl (S : bu_Sys M O lh ch cs w rc nc nt) {n m r : Nat} (hn : n < nc) (hm : n < m) (hr : r < rc) (hM : M r n = true) : bu_lab M O lh ch rc nt m (6 * n + lh r) ≤ O r n (bu_lab M O lh ch rc nt m) := by
  have l6 := bu_Sys_l6 S hr
  have e1 : bu_lab M O lh ch rc nt m (6 * n + lh r) = bu_lab M O lh ch rc nt (n + 1) (6 * n + lh r) := bu_lab_lo S (by omega) (by omega)
  rw [e1]
  rcases hb : ch r with _ | _
  · have a1 : bu_lab M O lh ch rc nt (n + 1) (6 * n + lh r) ≤ bu_ps M O lh (fun r => !ch r) n rc (bu_lab M O lh ch rc nt n) (6 * n + lh r) := by
      rw [bu_lab_s]; exact bu_it_le (fun V e => bu_J_le n V e rc) _ _ (Nat.zero_le _)
    have a2 := bu_ps_own (M := M) (O := O) (lh := lh) (sel := fun r => !ch r) (n := n) (r := r) (V := bu_lab M O lh ch rc nt n) (by simp [hb]) hM (bu_Sys_mo S hr hn hM) hr
    have a3 := S.2.2.2.1 r n (bu_lab M O lh ch rc nt n) (bu_lab M O lh ch rc nt m) hr hn hb hM (fun e he => Nat.le_of_eq (bu_lab_lo S he (by omega)).symm)
    omega
  · obtain ⟨_, hs, q⟩ := S.2.2.2.2 r n hr hn hb
    have b := bu_bf3 S hn (bu_ps M O lh (fun r => !ch r) n rc (bu_lab M O lh ch rc nt n)) hr hb
    rw [← bu_lab_s, q] at b
    rw [q, bu_lab_lo S (e := 6 * n + cs r) (n := n + 1) (by have := S.2.1; omega) (by omega)]
    exact b
/-- the component: patterns once, then nt chain passes -/
theorem bu_comp (S : bu_Sys M O lh ch cs w rc nc nt) {n : Nat} (hn : n < nc) : bu_it (fun V => bu_ps M O lh ch n rc V) nt (bu_ps M O lh (fun r => !ch r) n rc (bu_lab M O lh ch rc nt n)) = bu_lab M O lh ch rc nt (n + 1) := by
  funext e
  have cl : ∀ r, r < rc → M r n = true → bu_lab M O lh ch rc nt (n + 1) (6 * n + lh r) ≤ O r n (bu_lab M O lh ch rc nt (n + 1)) ∧ ∀ V W : Nat → Nat, (∀ e, V e ≤ W e) → O r n V ≤ O r n W :=
    fun r hr hM => ⟨bu_lab_cl S hn (by omega) hr hM, bu_Sys_mo S hr hn hM⟩
  refine Nat.le_antisymm ?_ ?_
  · have key : ∀ j e, bu_it (fun V => bu_ps M O lh ch n rc V) j (bu_ps M O lh (fun r => !ch r) n rc (bu_lab M O lh ch rc nt n)) e ≤ bu_it (bu_J O lh ch n rc) j (bu_ps M O lh (fun r => !ch r) n rc (bu_lab M O lh ch rc nt n)) e := by
      intro j
      induction j with
      | zero => intro e; exact Nat.le_refl _
      | succ j ih =>
        intro e
        rw [bu_it_s, bu_it_s]
        rcases bu_J_cs (O := O) (lh := lh) (ch := ch) n (bu_it (bu_J O lh ch n rc) j (bu_ps M O lh (fun r => !ch r) n rc (bu_lab M O lh ch rc nt n))) e rc with z | ⟨r, hr, hc, z, y⟩
        · rw [z]; exact Nat.le_trans (bu_ps_le _ _ _ _ _) (ih e)
        · rw [y, z]
          have hM := (S.2.2.2.2 r n hr hn hc).1
          exact Nat.le_trans (bu_ps_own hc hM (bu_Sys_mo S hr hn hM) hr) (bu_Sys_mo S hr hn hM _ _ ih)
    have k := key nt e
    rw [bu_bf2 S hn] at k
    exact k
  · have key : ∀ j e, bu_lab M O lh ch rc nt (n + 1) e ≤ bu_it (fun V => bu_ps M O lh ch n rc V) j (bu_ps M O lh (fun r => !ch r) n rc (bu_lab M O lh ch rc nt n)) e := by
      intro j
      induction j with
      | zero => exact bu_ps_lo (fun e => bu_lab_st n e) (fun r hr _ hM => cl r hr hM)
      | succ j ih => exact bu_ps_lo ih (fun r hr _ hM => cl r hr hM)
    exact key nt e
/-- the reference: rounds over all nodes and rules -/
theorem bu_ref (S : bu_Sys M O lh ch cs w rc nc nt) {e : Nat} (he : e < 6 * nc) {k : Nat} (hk : 6 * nc ≤ k) : bu_it (bu_rd M O lh rc nc) k (fun _ => bu_I) e = bu_lab M O lh ch rc nt nc e := by
  have dec : ∀ V e, bu_rd M O lh rc nc V e ≤ V e := fun V e => bu_rd_le V e nc
  have low : ∀ k e, bu_lab M O lh ch rc nt nc e ≤ bu_it (bu_rd M O lh rc nc) k (fun _ => bu_I) e := by
    intro k
    induction k with
    | zero => intro e; exact bu_lab_I e nc
    | succ k ih => exact bu_rd_lo ih (fun r n hr hn hM => ⟨bu_lab_cl S hn hn hr hM, bu_Sys_mo S hr hn hM⟩)
  have top : ∀ k e, bu_it (bu_rd M O lh rc nc) k (fun _ => bu_I) e ≤ bu_I := fun k e => bu_it_le dec (fun _ => bu_I) e (Nat.zero_le k)
  have up : ∀ n, n ≤ nc → ∀ e, e < 6 * n → bu_it (bu_rd M O lh rc nc) (6 * n) (fun _ => bu_I) e ≤ bu_lab M O lh ch rc nt nc e := by
    intro n
    induction n with
    | zero => intro _ e he; omega
    | succ n ih =>
      intro hn e he
      have ih := ih (by omega)
      have s1 : ∀ e, e < 6 * n + 6 → bu_it (bu_rd M O lh rc nc) (6 * n + 1) (fun _ => bu_I) e ≤ bu_ps M O lh (fun r => !ch r) n rc (bu_lab M O lh ch rc nt n) e := by
        intro e he
        rcases bu_ps_cs S (n := n) (by omega) (bu_lab M O lh ch rc nt n) e rc (Nat.le_refl _) with z | ⟨r, hr, hc, hM, z, y⟩
        · rw [z]
          rcases Nat.lt_or_ge e (6 * n) with x | x
          · have := ih e x
            rw [bu_lab_lo S x (by omega)] at this
            exact Nat.le_trans (dec _ _) this
          · rw [bu_lab_hi S x]; exact top _ _
        · rw [y, z, bu_it_s]
          refine Nat.le_trans (bu_rd_own hr hM (bu_Sys_mo S hr (by omega) hM) (by omega)) ?_
          refine S.2.2.2.1 r n _ _ hr (by omega) hc hM (fun e he => ?_)
          have := ih e he
          rw [bu_lab_lo S he (by omega)] at this
          exact this
      have s2 : ∀ j e, e < 6 * n + 6 → bu_it (bu_rd M O lh rc nc) (6 * n + 1 + j) (fun _ => bu_I) e ≤ bu_it (bu_J O lh ch n rc) j (bu_ps M O lh (fun r => !ch r) n rc (bu_lab M O lh ch rc nt n)) e := by
        intro j
        induction j with
        | zero => exact s1
        | succ j ij =>
          intro e he
          rw [bu_it_s (k := j)]
          rw [show 6 * n + 1 + (j + 1) = 6 * n + 1 + j + 1 by omega, bu_it_s]
          rcases bu_J_cs (O := O) (lh := lh) (ch := ch) n (bu_it (bu_J O lh ch n rc) j (bu_ps M O lh (fun r => !ch r) n rc (bu_lab M O lh ch rc nt n))) e rc with z | ⟨r, hr, hc, z, y⟩
          · rw [z]; exact Nat.le_trans (dec _ _) (ij e he)
          · rw [y, z]
            obtain ⟨hM, hs, q⟩ := S.2.2.2.2 r n hr (by omega) hc
            refine Nat.le_trans (bu_rd_own hr hM (bu_Sys_mo S hr (by omega) hM) (by omega)) ?_
            rw [q, q]
            have := ij (6 * n + cs r) (by have := S.2.1; omega)
            omega
      have s3 := s2 (nt - 1) e (by omega)
      rw [← bu_lab_s] at s3
      rw [bu_lab_lo S (e := e) (n := n + 1) (by omega) hn]
      refine Nat.le_trans (bu_it_le dec _ _ ?_) s3
      have := S.2.1; have := S.2.2.1; omega
  exact Nat.le_antisymm (Nat.le_trans (bu_it_le dec _ _ hk) (up nc (Nat.le_refl _) e he)) (low k e)
end
end
section
/-! how dear a label can get: by the rank among the labels of its node -/
def bu_rk (V : Nat → Nat) (n t : Nat) : Nat := bu_cn (fun s => decide (V (6 * n + s) ≤ V (6 * n + t))) 6
def bu_Bd (g : Nat → Nat) (nc : Nat) (V : Nat → Nat) : Prop :=
  ∀ n t, n < nc → t < 6 → V (6 * n + t) < bu_I → V (6 * n + t) / 65536 ≤ 99 * (g n + bu_rk V n t) ∧ V (6 * n + t) % 65536 ≤ g n + bu_rk V n t
def bu_Wt (M : Nat → Nat → Bool) (O : Nat → Nat → (Nat → Nat) → Nat) (ch : Nat → Bool) (w g : Nat → Nat) (rc nc : Nat) : Prop :=
  (∀ r, r < rc → w r / 65536 ≤ 99 ∧ w r % 65536 ≤ 1) ∧ (∀ n, n < nc → g n ≤ 114) ∧
  (∀ r n (V : Nat → Nat), r < rc → n < nc → ch r = false → M r n = true →
    (∀ m t, m < n → t < 6 → V (6 * m + t) < bu_I → V (6 * m + t) / 65536 ≤ 99 * (g m + 6) ∧ V (6 * m + t) % 65536 ≤ g m + 6) →
    O r n V < bu_I → O r n V / 65536 ≤ 99 * (g n + 1) ∧ O r n V % 65536 ≤ g n + 1)
theorem bu_rk_6 (V : Nat → Nat) (n t : Nat) : bu_rk V n t ≤ 6 := bu_cn_le _ 6
section
variable {M : Nat → Nat → Bool} {O : Nat → Nat → (Nat → Nat) → Nat} {lh : Nat → Nat} {ch : Nat → Bool} {cs w g : Nat → Nat} {rc nc nt : Nat}
theorem bu_Bd_6 {V : Nat → Nat} (h : bu_Bd g nc V) {n t : Nat} (hn : n < nc) (ht : t < 6) (hV : V (6 * n + t) < bu_I) : V (6 * n + t) / 65536 ≤ 99 * (g n + 6) ∧ V (6 * n + t) % 65536 ≤ g n + 6 := by
  have a := h n t hn ht hV
  have b := bu_rk_6 V n t
  omega
theorem bu_Bd_rx (S : bu_Sys M O lh ch cs w rc nc nt) (W : bu_Wt M O ch w g rc nc) {V : Nat → Nat} (h : bu_Bd g nc V) {r n : Nat} (hr : r < rc) (hn : n < nc) : bu_Bd g nc (bu_rx M O lh r n V) := by
  intro m t hm ht hV
  have le : ∀ e, bu_rx M O lh r n V e ≤ V e := bu_rx_le r n V
  rcases bu_rx_cs (M := M) (O := O) (lh := lh) r n V (6 * m + t) with y | ⟨y1, y2, y3, y4⟩
  · have mo : bu_rk V m t ≤ bu_rk (bu_rx M O lh r n V) m t := by
      refine bu_cn_mo (fun j _ hj => ?_)
      have hj := of_decide_eq_true hj
      refine decide_eq_true ?_
      have := le (6 * m + j)
      omega
    rw [y] at hV ⊢
    have a := h m t hm ht hV
    omega
  · have l6 := bu_Sys_l6 S hr
    have e1 : m = n := by omega
    have e2 : t = lh r := by omega
    subst e1
    rw [y3] at hV
    rcases hb : ch r with _ | _
    · have a := W.2.2 r m V hr hm hb y1 (fun m' t' hm' ht' hV' => bu_Bd_6 h (by omega) ht' hV') hV
      have b : 1 ≤ bu_rk (bu_rx M O lh r m V) m t := bu_cn_1 ht (decide_eq_true (Nat.le_refl _))
      rw [y3]
      omega
    · obtain ⟨_, hs, q⟩ := S.2.2.2.2 r m hr hn hb
      have hs6 : cs r < 6 := by have := S.2.1; omega
      have eq := q V
      have a := h m (cs r) hm hs6 (by omega)
      have c := W.1 r hr
      have d := W.2.1 m hm
      have d6 := bu_rk_6 V m (cs r)
      have b : bu_rk V m (cs r) + 1 ≤ bu_rk (bu_rx M O lh r m V) m t := by
        refine bu_cn_lt (a := t) (decide_eq_false (by omega)) (decide_eq_true (Nat.le_refl _)) (fun j _ hj => ?_) ht
        have hj := of_decide_eq_true hj
        refine decide_eq_true ?_
        have := le (6 * m + j)
        omega
      rw [y3, eq]
      clear q y3 y4 le
      omega
theorem bu_Bd_ps (S : bu_Sys M O lh ch cs w rc nc nt) (W : bu_Wt M O ch w g rc nc) {sel : Nat → Bool} {V : Nat → Nat} (h : bu_Bd g nc V) {n : Nat} (hn : n < nc) : ∀ {k : Nat}, k ≤ rc → bu_Bd g nc (bu_ps M O lh sel n k V)
  | 0, _ => h
  | k + 1, hk => by
    have i := bu_Bd_ps S W (sel := sel) h hn (k := k) (by omega)
    rw [bu_ps_s]; split
    · exact bu_Bd_rx S W i (by omega) hn
    · exact i
theorem bu_Bd_I : bu_Bd g nc (fun _ => bu_I) := fun _ _ _ _ h => absurd h (Nat.lt_irrefl _)
theorem bu_Bd_lab (S : bu_Sys M O lh ch cs w rc nc nt) (W : bu_Wt M O ch w g rc nc) : ∀ {n : Nat}, n ≤ nc → bu_Bd g nc (bu_lab M O lh ch rc nt n)
  | 0, _ => bu_Bd_I
  | n + 1, hn => by
    have i := bu_Bd_lab S W (n := n) (by omega)
    rw [← bu_comp S (n := n) (by omega)]
    have key : ∀ j, bu_Bd g nc (bu_it (fun V => bu_ps M O lh ch n rc V) j (bu_ps M O lh (fun r => !ch r) n rc (bu_lab M O lh ch rc nt n))) := by
      intro j
      induction j with
      | zero => exact bu_Bd_ps S W i (by omega) (Nat.le_refl _)
      | succ j ih => exact bu_Bd_ps S W ih (by omega) (Nat.le_refl _)
    exact key nt
end
end
section
/-! a pattern laid on a tree -/
def bu_ar (x : Int32) : Nat := if x = 2 then 1 else if x = 3 then 1 else if x < 4 then 0 else if 8 < x then 0 else 2
theorem bu_ar_2 (x : Int32) : bu_ar x ≤ 2 := by
  unfold bu_ar; split
  · omega
  · split
    · omega
    · split
      · omega
      · split <;> omega
theorem bu_i16 {x : Int32} (h : ¬ x < 16) : 16 ≤ x.toInt := by
  have := Int32.not_lt.mp h
  rw [Int32.le_iff_toInt_le] at this
  exact this
theorem bu_ar_16 {x : Int32} (h : ¬ x < 16) : bu_ar x = 0 := by
  have h1 := bu_i16 h
  have n2 : ¬ x = 2 := fun e => by rw [e] at h; exact h (by decide)
  have n3 : ¬ x = 3 := fun e => by rw [e] at h; exact h (by decide)
  have n8 : 8 < x := by
    rw [Int32.lt_iff_toInt_lt]
    show (8 : Int32).toInt < x.toInt
    have : (8 : Int32).toInt = 8 := by decide
    omega
  unfold bu_ar
  rw [if_neg n2, if_neg n3]; split <;> first | rfl | exact if_pos n8
def bu_F (no : Nat → Int32) : Nat → Nat := bu_st (fun j => bu_ar (no j))
def bu_cu (tk no : Nat → Int32) (b s n : Nat) : Nat → Nat
  | 0 => n + 1
  | d + 1 => if tk (b + (s - 1 - d)) < 16 then bu_cu tk no b s n d - 1 else bu_F no (bu_cu tk no b s n d - 1)
def bu_lie (tk lo hi no nv : Nat → Int32) (e p : Nat) : Prop := no p = tk e ∧ ((tk e = 0 ∨ tk e = 1) → lo e ≤ nv p ∧ nv p ≤ hi e)
def bu_ok (tk lo hi no nv : Nat → Int32) (b s n d : Nat) : Prop := ∀ d', d' < d → tk (b + (s - 1 - d')) < 16 → bu_lie tk lo hi no nv (b + (s - 1 - d')) (bu_cu tk no b s n d' - 1)
def bu_cv (tk no : Nat → Int32) (b s n d j : Nat) : Prop := ∃ d', d' < d ∧ tk (b + (s - 1 - d')) < 16 ∧ bu_cu tk no b s n d' = j + 1
def bu_cf (x y : Int32) : Prop := (x = 3 ∨ x = 7) ∧ (y = 3 ∨ y = 7) ∧ (x = 7 ∨ y = 7)
def bu_SF (no : Nat → Int32) (cv : Nat → Prop) (first e : Nat) : Prop := ∀ m k, first ≤ m → m < k → k < e → cv m → ¬ cv k → ¬ bu_cf (no m) (no k)
def bu_sf (tk no : Nat → Int32) (b s n : Nat) : Prop := bu_SF no (bu_cv tk no b s n s) (bu_F no n) (n + 1)
/-- a row of a pattern: s tokens at b that make one tree -/
def bu_Row (tk : Nat → Int32) (b s : Nat) : Prop := 1 ≤ s ∧ s ≤ 7 ∧ bu_wf (fun i => bu_ar (tk (b + i))) s ∧ bu_h (fun i => bu_ar (tk (b + i))) s = 1
def bu_Nod (no : Nat → Int32) (nc : Nat) : Prop := bu_wf (fun i => bu_ar (no i)) nc
section
variable {tk lo hi no nv : Nat → Int32} {b s n nc : Nat}
theorem bu_cu_s (d : Nat) : bu_cu tk no b s n (d + 1) = if tk (b + (s - 1 - d)) < 16 then bu_cu tk no b s n d - 1 else bu_F no (bu_cu tk no b s n d - 1) := rfl
theorem bu_ok_le {d d' : Nat} (h : bu_ok tk lo hi no nv b s n d) (hd : d' ≤ d) : bu_ok tk lo hi no nv b s n d' := fun q hq => h q (by omega)
theorem bu_F_le (hN : bu_Nod no nc) {p : Nat} (hp : p < nc) : bu_F no p ≤ p := bu_st_le hN hp
/-- while the pattern lies, what is left of it and of the tree are equally many trees -/
theorem bu_inv (hN : bu_Nod no nc) (hn : n < nc) (hR : bu_Row tk b s) : ∀ d, d ≤ s → bu_ok tk lo hi no nv b s n d → bu_T (bu_F no) (bu_h (fun i => bu_ar (tk (b + i))) (s - d)) (bu_F no n) (bu_cu tk no b s n d) ∧ bu_cu tk no b s n d ≤ n + 1 := by
  intro d
  induction d with
  | zero =>
    intro _ _
    rw [show s - 0 = s by omega, hR.2.2.2]
    exact ⟨bu_st_T hN hn, Nat.le_refl _⟩
  | succ d ih =>
    intro hd hok
    obtain ⟨i1, i2⟩ := ih (by omega) (bu_ok_le hok (by omega))
    obtain ⟨k, hk⟩ : ∃ k, s - d = k + 1 := ⟨s - d - 1, by omega⟩
    have ek : s - (d + 1) = k := by omega
    have ek2 : s - 1 - d = k := by omega
    have hak : bu_ar (tk (b + k)) ≤ bu_h (fun i => bu_ar (tk (b + i))) k := hR.2.2.1 k (by omega)
    rw [hk, bu_h_s] at i1
    rw [ek, bu_cu_s, ek2]
    have l := hok d (by omega)
    rw [ek2] at l
    generalize bu_cu tk no b s n d = c at *
    generalize bu_h (fun i => bu_ar (tk (b + i))) k = h at *
    by_cases z : tk (b + k) < 16
    · rw [if_pos z]
      have l1 := (l z).1
      generalize hA : bu_ar (tk (b + k)) = A at *
      rw [show h + 1 - A = (h - A) + 1 by omega] at i1
      obtain ⟨j1, j2, j3⟩ := i1
      have cc := (bu_chi hN (p := c - 1) (by omega)).1
      have cA : bu_ar (no (c - 1)) = A := by rw [l1]; exact hA
      have cc : bu_T (bu_F no) A (bu_F no (c - 1)) (c - 1) := by rw [← cA]; exact cc
      have q := bu_T_app cc j3
      rw [show h - A + A = h by omega] at q
      exact ⟨q, by omega⟩
    · rw [if_neg z]
      rw [bu_ar_16 z] at i1
      rw [show h + 1 - 0 = h + 1 by omega] at i1
      obtain ⟨j1, j2, j3⟩ := i1
      exact ⟨j3, by omega⟩
theorem bu_inv_lt (hN : bu_Nod no nc) (hn : n < nc) (hR : bu_Row tk b s) {d : Nat} (hd : d < s) (hok : bu_ok tk lo hi no nv b s n d) : bu_F no n < bu_cu tk no b s n d ∧ bu_cu tk no b s n d ≤ n + 1 ∧ bu_F no (bu_cu tk no b s n d - 1) < bu_cu tk no b s n d := by
  obtain ⟨i1, i2⟩ := bu_inv hN hn hR d (by omega) hok
  have hp := bu_h_pos (a := fun i => bu_ar (tk (b + i))) (x := s - d) (bu_wf_le hR.2.2.1 (by omega)) (by omega)
  obtain ⟨k, hk⟩ : ∃ k, bu_h (fun i => bu_ar (tk (b + i))) (s - d) = k + 1 := ⟨_, (Nat.succ_pred_eq_of_pos hp).symm⟩
  rw [hk] at i1
  exact ⟨bu_T_lt i1, i2, i1.2.1⟩
theorem bu_inv_ge (hN : bu_Nod no nc) (hn : n < nc) (hR : bu_Row tk b s) {d : Nat} (hd : d ≤ s) (hok : bu_ok tk lo hi no nv b s n d) : bu_F no n ≤ bu_cu tk no b s n d ∧ bu_cu tk no b s n d ≤ n + 1 := by
  obtain ⟨i1, i2⟩ := bu_inv hN hn hR d (by omega) hok
  exact ⟨bu_T_le i1, i2⟩
theorem bu_cu_st (hN : bu_Nod no nc) (hn : n < nc) (hR : bu_Row tk b s) {d : Nat} (hd : d < s) (hok : bu_ok tk lo hi no nv b s n d) : bu_cu tk no b s n (d + 1) < bu_cu tk no b s n d := by
  obtain ⟨i1, i2, i3⟩ := bu_inv_lt hN hn hR hd hok
  rw [bu_cu_s]; split <;> omega
theorem bu_cu_an (hN : bu_Nod no nc) (hn : n < nc) (hR : bu_Row tk b s) (hok : bu_ok tk lo hi no nv b s n s) {d : Nat} : ∀ {d' : Nat}, d ≤ d' → d' ≤ s → bu_cu tk no b s n d' ≤ bu_cu tk no b s n d
  | 0, h, _ => by have : d = 0 := by omega
                  subst this; exact Nat.le_refl _
  | d' + 1, h, hs => by
    rcases Nat.lt_or_ge d (d' + 1) with z | z
    · have i := bu_cu_an hN hn hR hok (d := d) (d' := d') (by omega) (by omega)
      have j := bu_cu_st hN hn hR (d := d') (by omega) (bu_ok_le hok (by omega))
      omega
    · have : d = d' + 1 := by omega
      subst this; exact Nat.le_refl _
/-- the last token of a row that is no chain is an operator -/
theorem bu_last (hR : bu_Row tk b s) (hc : ¬ (s = 1 ∧ ¬ tk b < 16)) : tk (b + (s - 1)) < 16 := by
  rcases Classical.em (tk (b + (s - 1)) < 16) with z | z
  · exact z
  · obtain ⟨r1, r2, r3, r4⟩ := hR
    rcases Nat.lt_or_ge s 2 with y | y
    · have : s = 1 := by omega
      subst this
      exact absurd ⟨rfl, z⟩ hc
    · obtain ⟨k, rfl⟩ : ∃ k, s = k + 1 := ⟨s - 1, by omega⟩
      rw [Nat.add_sub_cancel] at z
      have e := bu_ar_16 z
      have p := bu_h_pos (a := fun i => bu_ar (tk (b + i))) (x := k) (bu_wf_le r3 (by omega)) (by omega)
      rw [bu_h_s] at r4
      simp only [e] at r4
      omega
/-- congruence: what is laid at n reads nothing behind n -/
theorem bu_F_cg {no' : Nat → Int32} {p : Nat} (h : ∀ j, j ≤ p → no j = no' j) : bu_F no p = bu_F no' p :=
  bu_st_cg (fun j hj => by rw [h j hj])
theorem bu_Nod_cg {no' : Nat → Int32} (h : ∀ j, j < nc → no j = no' j) (hN : bu_Nod no nc) : bu_Nod no' nc :=
  bu_wf_cg (fun j hj => by rw [h j hj]) hN
theorem bu_cu_cg {no' : Nat → Int32} (hN : bu_Nod no nc) (hn : n < nc) (h : ∀ j, j < nc → no j = no' j) : ∀ d, bu_cu tk no b s n d = bu_cu tk no' b s n d ∧ bu_cu tk no b s n d ≤ nc
  | 0 => ⟨rfl, hn⟩
  | d + 1 => by
    obtain ⟨i1, i2⟩ := bu_cu_cg hN hn h d
    rw [bu_cu_s, bu_cu_s, ← i1]
    split
    · exact ⟨rfl, by omega⟩
    · have := bu_F_le hN (p := bu_cu tk no b s n d - 1) (by omega)
      exact ⟨bu_F_cg (fun j hj => h j (by omega)), by omega⟩
theorem bu_ok_cg {no' nv' : Nat → Int32} (hN : bu_Nod no nc) (hn : n < nc) (h : ∀ j, j < nc → no j = no' j) (h' : ∀ j, j < nc → nv j = nv' j) (d : Nat) : bu_ok tk lo hi no nv b s n d ↔ bu_ok tk lo hi no' nv' b s n d := by
  have key : ∀ d', bu_lie tk lo hi no nv (b + (s - 1 - d')) (bu_cu tk no b s n d' - 1) ↔ bu_lie tk lo hi no' nv' (b + (s - 1 - d')) (bu_cu tk no' b s n d' - 1) := by
    intro d'
    obtain ⟨i1, i2⟩ := bu_cu_cg (tk := tk) (b := b) (s := s) hN hn h d'
    unfold bu_lie
    rw [← i1, h _ (by omega), h' _ (by omega)]
  constructor
  · intro q d' hd z; exact (key d').mp (q d' hd z)
  · intro q d' hd z; exact (key d').mpr (q d' hd z)
theorem bu_sf_cg {no' : Nat → Int32} (hN : bu_Nod no nc) (hn : n < nc) (h : ∀ j, j < nc → no j = no' j) : bu_sf tk no b s n ↔ bu_sf tk no' b s n := by
  have e : ∀ j, bu_cv tk no b s n s j ↔ bu_cv tk no' b s n s j := by
    intro j
    constructor
    · rintro ⟨d, h1, h2, h3⟩; exact ⟨d, h1, h2, by rw [← (bu_cu_cg hN hn h d).1]; exact h3⟩
    · rintro ⟨d, h1, h2, h3⟩; exact ⟨d, h1, h2, by rw [(bu_cu_cg hN hn h d).1]; exact h3⟩
  have eF : bu_F no n = bu_F no' n := bu_F_cg (fun j hj => h j (by omega))
  unfold bu_sf bu_SF
  constructor
  · intro q m k h1 h2 h3 h4 h5
    rw [← h m (by omega), ← h k (by omega)]
    exact q m k (by omega) h2 h3 ((e m).mpr h4) (fun z => h5 ((e k).mp z))
  · intro q m k h1 h2 h3 h4 h5
    rw [h m (by omega), h k (by omega)]
    exact q m k (by omega) h2 h3 ((e m).mp h4) (fun z => h5 ((e k).mpr z))
end
/-! the concrete system of rules -/
noncomputable def bu_b (P : Prop) : Bool := @decide P (Classical.propDecidable P)
theorem bu_b_t {P : Prop} : bu_b P = true ↔ P := by
  unfold bu_b
  exact @decide_eq_true_iff P (Classical.propDecidable P)
noncomputable def bu_M (tk lo hi no nv : Nat → Int32) (sz : Nat → Nat) (r n : Nat) : Bool := bu_b (bu_ok tk lo hi no nv (7 * r) (sz r) n (sz r) ∧ bu_sf tk no (7 * r) (sz r) n)
/-- the entry of token i of rule r at node n -/
def bu_en (tk no : Nat → Int32) (sz : Nat → Nat) (r n i : Nat) : Nat := 6 * (bu_cu tk no (7 * r) (sz r) n (sz r - 1 - i) - 1) + ((tk (7 * r + i)).toNatClampNeg - 16)
def bu_lf (tk no : Nat → Int32) (sz : Nat → Nat) (r n : Nat) (V : Nat → Nat) (i : Nat) : Nat := if tk (7 * r + i) < 16 then 0 else V (bu_en tk no sz r n i)
def bu_O (tk no : Nat → Int32) (sz w : Nat → Nat) (r n : Nat) (V : Nat → Nat) : Nat := w r + bu_su (bu_lf tk no sz r n V) (sz r)
def bu_ch (tk : Nat → Int32) (sz : Nat → Nat) (r : Nat) : Bool := decide (sz r = 1 ∧ ¬ tk (7 * r) < 16)
def bu_cs (tk : Nat → Int32) (r : Nat) : Nat := (tk (7 * r)).toNatClampNeg - 16
/-- a token: an operator, or one of nt nonterminals -/
def bu_tok (nt : Nat) (x : Int32) : Prop := ∃ j : Nat, x = nI j ∧ (j ≤ 8 ∨ (16 ≤ j ∧ j < 16 + nt)) ∧ j < 22
def bu_Rul (tk : Nat → Int32) (sz lh : Nat → Nat) (nt rc : Nat) : Prop := ∀ r, r < rc → bu_Row tk (7 * r) (sz r) ∧ lh r < nt ∧ ∀ i, i < sz r → bu_tok nt (tk (7 * r + i))
section
variable {tk lo hi no nv : Nat → Int32} {sz lh w : Nat → Nat} {nc rc nt : Nat}
theorem bu_tok_lt {x : Int32} (h : bu_tok nt x) (hx : ¬ x < 16) : ∃ t, t < nt ∧ x = nI (16 + t) ∧ t < 6 := by
  obtain ⟨j, rfl, h1, h2⟩ := h
  rcases h1 with h1 | h1
  · exact absurd (nI_lt (a := j) (b := 16) (by omega) (by decide)) hx
  · exact ⟨j - 16, by omega, by rw [show 16 + (j - 16) = j by omega], by omega⟩
theorem bu_en_lt (hN : bu_Nod no nc) (hR : bu_Rul tk sz lh nt rc) {r n i : Nat} (hr : r < rc) (hn : n < nc) (hM : bu_M tk lo hi no nv sz r n = true) (hi' : i < sz r) (ht : ¬ tk (7 * r + i) < 16) (hc : bu_ch tk sz r = false) (h6 : nt ≤ 6) : bu_en tk no sz r n i < 6 * n := by
  obtain ⟨R, _, T⟩ := hR r hr
  obtain ⟨ok, _⟩ := bu_b_t.mp hM
  obtain ⟨t, t1, t2, _⟩ := bu_tok_lt (T i hi') ht
  have hl := bu_last R (of_decide_eq_false hc)
  have i1 : i ≠ sz r - 1 := fun e => ht (by rw [e]; exact hl)
  have c1 := bu_cu_an hN hn R ok (d := 1) (d' := sz r - 1 - i) (by omega) (by omega)
  have c2 : bu_cu tk no (7 * r) (sz r) n 1 = n := by
    rw [bu_cu_s, show sz r - 1 - 0 = sz r - 1 by omega, if_pos hl]; rfl
  have c3 := bu_inv_lt hN hn R (d := sz r - 1 - i) (by omega) (bu_ok_le ok (by omega))
  unfold bu_en
  rw [t2, nI_clamp (by omega)]
  omega
theorem bu_cu1 {r n : Nat} (hl : tk (7 * r + (sz r - 1)) < 16) : bu_cu tk no (7 * r) (sz r) n 1 = n := by
  rw [bu_cu_s, show sz r - 1 - 0 = sz r - 1 by omega, if_pos hl]; rfl
theorem bu_chain_ok (hN : bu_Nod no nc) {r n : Nat} (hc : bu_ch tk sz r = true) : bu_M tk lo hi no nv sz r n = true := by
  obtain ⟨c1, c2⟩ := of_decide_eq_true hc
  refine bu_b_t.mpr ⟨?_, ?_⟩
  · intro d hd z
    have : d = 0 := by omega
    subst this
    rw [c1] at z
    exact absurd z c2
  · rintro m k _ _ _ ⟨d, d1, d2, _⟩
    have : d = 0 := by omega
    subst this
    rw [c1] at d2
    exact absurd d2 c2
theorem bu_sys (hN : bu_Nod no nc) (hR : bu_Rul tk sz lh nt rc) (h1 : 1 ≤ nt) (h6 : nt ≤ 6) : bu_Sys (bu_M tk lo hi no nv sz) (bu_O tk no sz w) lh (bu_ch tk sz) (bu_cs tk) w rc nc nt := by
  refine ⟨fun r hr => (hR r hr).2.1, h6, h1, ?_, ?_⟩
  · intro r n V W hr hn hc hM h
    unfold bu_O
    refine Nat.add_le_add_left (bu_su_le (fun i hi' => ?_)) _
    unfold bu_lf
    by_cases z : tk (7 * r + i) < 16
    · rw [if_pos z, if_pos z]; exact Nat.le_refl _
    · rw [if_neg z, if_neg z]
      exact h _ (bu_en_lt hN hR hr hn hM hi' z hc h6)
  · intro r n hr hn hc
    have hM := bu_chain_ok (lo := lo) (hi := hi) (nv := nv) hN (n := n) hc
    obtain ⟨c1, c2⟩ := of_decide_eq_true hc
    obtain ⟨R, _, T⟩ := hR r hr
    obtain ⟨t, t1, t2, _⟩ := bu_tok_lt (T 0 (by omega)) c2
    refine ⟨hM, ?_, ?_⟩
    · show (tk (7 * r + 0)).toNatClampNeg - 16 < nt
      rw [t2, nI_clamp (by omega)]; omega
    · intro V
      unfold bu_O
      rw [c1]
      show w r + (0 + bu_lf tk no sz r n V 0) = _
      unfold bu_lf
      have c2' : ¬ tk (7 * r + 0) < 16 := c2
      rw [if_neg c2', Nat.zero_add]
      unfold bu_en
      rw [c1]
      rfl
/-- the sum over the tokens below i is bounded by the nodes that they span -/
theorem bu_sum_bd (hN : bu_Nod no nc) (hnc : nc ≤ 20) (hR : bu_Rul tk sz lh nt rc) (h6 : nt ≤ 6) {r n : Nat} (hr : r < rc) (hn : n < nc) (hM : bu_M tk lo hi no nv sz r n = true) {V : Nat → Nat} :
    ∀ i, i ≤ sz r → (∀ j, j < i → ¬ tk (7 * r + j) < 16 → V (bu_en tk no sz r n j) / 65536 ≤ 99 * (6 * (bu_cu tk no (7 * r) (sz r) n (sz r - 1 - j) - 1 - bu_F no (bu_cu tk no (7 * r) (sz r) n (sz r - 1 - j) - 1)) + 6) ∧ V (bu_en tk no sz r n j) % 65536 ≤ 6 * (bu_cu tk no (7 * r) (sz r) n (sz r - 1 - j) - 1 - bu_F no (bu_cu tk no (7 * r) (sz r) n (sz r - 1 - j) - 1)) + 6) →
      bu_su (bu_lf tk no sz r n V) i / 65536 ≤ 594 * (bu_cu tk no (7 * r) (sz r) n (sz r - i) - bu_F no n) ∧ bu_su (bu_lf tk no sz r n V) i % 65536 ≤ 6 * (bu_cu tk no (7 * r) (sz r) n (sz r - i) - bu_F no n) := by
  obtain ⟨R, _, T⟩ := hR r hr
  obtain ⟨ok, _⟩ := bu_b_t.mp hM
  intro i
  induction i with
  | zero => intro _ _; exact ⟨by show 0 / 65536 ≤ _; omega, by show 0 % 65536 ≤ _; omega⟩
  | succ i ih =>
    intro hi' h
    obtain ⟨i1, i2⟩ := ih (by omega) (fun j hj => h j (by omega))
    have c3 := bu_inv_lt hN hn R (d := sz r - 1 - i) (by omega) (bu_ok_le ok (by omega))
    have c4 := bu_inv_ge hN hn R (d := sz r - i) (by omega) (bu_ok_le ok (by omega))
    have e1 : sz r - i = (sz r - 1 - i) + 1 := by omega
    have e2 : sz r - (i + 1) = sz r - 1 - i := by omega
    have e3 : sz r - 1 - (sz r - 1 - i) = i := by omega
    have c5 := bu_cu_s (tk := tk) (no := no) (b := 7 * r) (s := sz r) (n := n) (sz r - 1 - i)
    rw [e3, ← e1] at c5
    have hh := h i (by omega)
    rw [e2, bu_su_s]
    have el : bu_lf tk no sz r n V i = if tk (7 * r + i) < 16 then 0 else V (bu_en tk no sz r n i) := rfl
    generalize bu_cu tk no (7 * r) (sz r) n (sz r - 1 - i) = c at *
    generalize bu_cu tk no (7 * r) (sz r) n (sz r - i) = c' at *
    generalize bu_su (bu_lf tk no sz r n V) i = S at *
    generalize bu_lf tk no sz r n V i = L at *
    clear ih h ok hM
    by_cases z : tk (7 * r + i) < 16
    · rw [if_pos z] at el c5
      omega
    · rw [if_neg z] at el c5
      have hh := hh z
      generalize V (bu_en tk no sz r n i) = X at *
      generalize bu_F no (c - 1) = f at *
      generalize bu_F no n = f0 at *
      omega
theorem bu_wt (hN : bu_Nod no nc) (hnc : nc ≤ 20) (hR : bu_Rul tk sz lh nt rc) (h6 : nt ≤ 6) (hw : ∀ r, r < rc → w r / 65536 ≤ 99 ∧ w r % 65536 ≤ 1) : bu_Wt (bu_M tk lo hi no nv sz) (bu_O tk no sz w) (bu_ch tk sz) w (fun n => 6 * (n - bu_F no n)) rc nc := by
  refine ⟨hw, fun n hn => by show 6 * (n - bu_F no n) ≤ 114; omega, ?_⟩
  intro r n V hr hn hc hM h hO
  obtain ⟨R, _, T⟩ := hR r hr
  obtain ⟨ok, _⟩ := bu_b_t.mp hM
  have hl := bu_last R (of_decide_eq_false hc)
  have s1 := R.1
  have b := bu_sum_bd hN hnc hR h6 hr hn hM (V := V) (sz r - 1) (by omega) (fun j hj hz => by
    have c1 := bu_cu_an hN hn R ok (d := 1) (d' := sz r - 1 - j) (by omega) (by omega)
    rw [bu_cu1 hl] at c1
    have c3 := bu_inv_lt hN hn R (d := sz r - 1 - j) (by omega) (bu_ok_le ok (by omega))
    obtain ⟨t, t1, t2, t6⟩ := bu_tok_lt (T j (by omega)) hz
    have le := bu_su_1 (f := bu_lf tk no sz r n V) (j := j) (k := sz r) (by omega)
    have ef : bu_lf tk no sz r n V j = V (bu_en tk no sz r n j) := if_neg hz
    have ee : bu_en tk no sz r n j = 6 * (bu_cu tk no (7 * r) (sz r) n (sz r - 1 - j) - 1) + t := by
      unfold bu_en; rw [t2, nI_clamp (by omega)]; omega
    have oe : bu_O tk no sz w r n V = w r + bu_su (bu_lf tk no sz r n V) (sz r) := rfl
    rw [ef] at le
    rw [ee] at le ⊢
    exact h _ t (by omega) t6 (by omega))
  rw [show sz r - (sz r - 1) = 1 by omega, bu_cu1 hl] at b
  have e : bu_su (bu_lf tk no sz r n V) (sz r) = bu_su (bu_lf tk no sz r n V) (sz r - 1) := by
    obtain ⟨k, hk⟩ : ∃ k, sz r = k + 1 := ⟨sz r - 1, by omega⟩
    have q : bu_lf tk no sz r n V (sz r - 1) = 0 := if_pos hl
    rw [hk, Nat.add_sub_cancel] at q ⊢
    rw [bu_su_s, q]; rfl
  have hw' := hw r hr
  show (w r + bu_su (bu_lf tk no sz r n V) (sz r)) / 65536 ≤ 99 * (6 * (n - bu_F no n) + 1) ∧ (w r + bu_su (bu_lf tk no sz r n V) (sz r)) % 65536 ≤ 6 * (n - bu_F no n) + 1
  rw [e]
  generalize bu_su (bu_lf tk no sz r n V) (sz r - 1) = Q at *
  generalize w r = W at *
  generalize bu_F no n = f at *
  clear h hO
  omega
end
end
section
/-! the component's layOut -/
theorem bu_m1 (x : Int32) : x + (-1) = x - 1 := by rw [Int32.sub_eq_add_neg]
theorem bu_x7 (r : Nat) : nI r * 7 = nI (7 * r) := by
  have := pk_mul r 7
  rw [Nat.mul_comm] at this
  exact this
theorem bu_x6 (r : Nat) : nI r * 6 = nI (6 * r) := by
  have := pk_mul r 6
  rw [Nat.mul_comm] at this
  exact this
def bu_Ex (no : Nat → Int32) (cv : Nat → Prop) (first k : Nat) (v : Int32) : Prop := ∃ m, first ≤ m ∧ m < k ∧ cv m ∧ no m = v
theorem bu_Ex_n {no : Nat → Int32} {cv : Nat → Prop} {first k : Nat} {v : Int32} (h : ¬ (cv k ∧ no k = v)) : bu_Ex no cv first (k + 1) v ↔ bu_Ex no cv first k v := by
  constructor
  · rintro ⟨m, m1, m2, m3, m4⟩
    rcases Nat.lt_or_ge m k with z | z
    · exact ⟨m, m1, z, m3, m4⟩
    · have : m = k := by omega
      subst this; exact absurd ⟨m3, m4⟩ h
  · rintro ⟨m, m1, m2, m3⟩; exact ⟨m, m1, by omega, m3⟩
theorem bu_SF_s {no : Nat → Int32} {cv : Nat → Prop} {first k : Nat} (h : bu_SF no cv first k) (hk : ¬ cv k → ∀ m, first ≤ m → m < k → cv m → ¬ bu_cf (no m) (no k)) : bu_SF no cv first (k + 1) := by
  intro m j h1 h2 h3 h4 h5
  rcases Nat.lt_or_ge j k with z | z
  · exact h m j h1 h2 z h4 h5
  · have : j = k := by omega
    subst this; exact hk h5 m h1 h2 h4
section
variable {f_registers f_nonterminals f_words f_treeLimit f_openSize f_openHeight f_ruleCount f_nodeCount f_rootCount f_labelled f_statementCount f_programNodes f_depth f_lastValue f_spent : Int32} {a_openToken a_openLow a_openHigh a_ruleLhs a_ruleCost a_ruleSize a_ruleToken a_ruleLow a_ruleHigh a_nodeOperator a_nodeValue a_subtreeFirst a_bestCost a_bestLength a_place a_covered a_statementStart a_statementNodes a_statementCost a_statementLength a_programOperator a_programValue a_memory a_arguments a_stack : Nat → Int32}
variable {cv : Nat → Prop} {n first : Nat}
theorem xs_ord {post : Int32 → Prop} (hn : n < 20) (hc : ∀ j, first ≤ j → j ≤ n → (a_covered j = 0 ↔ ¬ cv j)) (h1 : bu_SF a_nodeOperator cv first (n + 1) → post 1) (h0 : ¬ bu_SF a_nodeOperator cv first (n + 1) → post 0) :
    ∀ (fuel k : Nat) (x3 x4 : Int32), n + 1 < k + fuel → first ≤ k → k ≤ n + 1 → (x3 = 0 ↔ ¬ bu_Ex a_nodeOperator cv first k 3) → (x4 = 0 ↔ ¬ bu_Ex a_nodeOperator cv first k 7) → bu_SF a_nodeOperator cv first k → wX_isOrderSafe_8 post (nI n) f_registers f_nonterminals f_words f_treeLimit f_openSize f_openHeight f_ruleCount f_nodeCount f_rootCount f_labelled f_statementCount f_programNodes f_depth f_lastValue f_spent a_openToken a_openLow a_openHigh a_ruleLhs a_ruleCost a_ruleSize a_ruleToken a_ruleLow a_ruleHigh a_nodeOperator a_nodeValue a_subtreeFirst a_bestCost a_bestLength a_place a_covered a_statementStart a_statementNodes a_statementCost a_statementLength a_programOperator a_programValue a_memory a_arguments a_stack fuel x3 x4 (nI k) := by
  intro fuel
  induction fuel with
  | zero => intro k x3 x4 hf _ hk; omega
  | succ fuel ih =>
    intro k x3 x4 hf h1k hk i3 i4 iS
    rw [wX_isOrderSafe_8]
    rcases Nat.lt_or_ge n k with z | z
    · have ek : k = n + 1 := by omega
      subst ek
      exact br_t (nI_lt (by omega) (by omega)) (h1 iS)
    · refine br_f (nI_nlt (by omega) (by omega)) ?_
      rw [nI_clamp (n := k) (by omega)]
      have hi := vp_in_nI (n := k) (N := 20) (by omega) (by decide)
      refine ⟨hi, nm_e ⟨hi, ?_⟩⟩
      have hck := hc k h1k z
      by_cases hcov : a_covered k = 0
      · refine br_t hcov ?_
        have ncv := hck.mp hcov
        have j3 : x3 = 0 ↔ ¬ bu_Ex a_nodeOperator cv first (k + 1) 3 := by rw [bu_Ex_n (fun q => ncv q.1)]; exact i3
        have j4 : x4 = 0 ↔ ¬ bu_Ex a_nodeOperator cv first (k + 1) 7 := by rw [bu_Ex_n (fun q => ncv q.1)]; exact i4
        by_cases h7 : a_nodeOperator k = 7
        · refine br_t h7 ?_
          by_cases e3 : x3 = 0
          · refine br_t e3 ?_
            by_cases e4 : x4 = 0
            · refine br_t e4 ?_
              unfold wX_isOrderSafe_75
              refine br_f (by rw [h7]; decide) (nm_r (nI_1 k) ?_)
              refine ih (k + 1) x3 x4 (by omega) (by omega) (by omega) j3 j4 (bu_SF_s iS (fun _ m m1 m2 m3 q => ?_))
              rcases q.1 with y | y
              · exact i3.mp e3 ⟨m, m1, m2, m3, y⟩
              · exact i4.mp e4 ⟨m, m1, m2, m3, y⟩
            · refine br_f e4 (h0 (fun q => ?_))
              rcases Classical.em (bu_Ex a_nodeOperator cv first k 7) with ⟨m, m1, m2, m3, m4⟩ | y
              · exact q m k m1 m2 (by omega) m3 ncv ⟨Or.inr m4, Or.inr h7, Or.inr h7⟩
              · exact e4 (i4.mpr y)
          · refine br_f e3 (h0 (fun q => ?_))
            rcases Classical.em (bu_Ex a_nodeOperator cv first k 3) with ⟨m, m1, m2, m3, m4⟩ | y
            · exact q m k m1 m2 (by omega) m3 ncv ⟨Or.inl m4, Or.inr h7, Or.inr h7⟩
            · exact e3 (i3.mpr y)
        · refine br_f h7 ?_
          unfold wX_isOrderSafe_75
          by_cases h3 : a_nodeOperator k = 3
          · refine br_t h3 ?_
            by_cases e4 : x4 = 0
            · refine br_t e4 (nm_r (nI_1 k) ?_)
              refine ih (k + 1) x3 x4 (by omega) (by omega) (by omega) j3 j4 (bu_SF_s iS (fun _ m m1 m2 m3 q => ?_))
              rcases q.2.2 with y | y
              · exact i4.mp e4 ⟨m, m1, m2, m3, y⟩
              · exact h7 y
            · refine br_f e4 (h0 (fun q => ?_))
              rcases Classical.em (bu_Ex a_nodeOperator cv first k 7) with ⟨m, m1, m2, m3, m4⟩ | y
              · exact q m k m1 m2 (by omega) m3 ncv ⟨Or.inr m4, Or.inl h3, Or.inl m4⟩
              · exact e4 (i4.mpr y)
          · refine br_f h3 (nm_r (nI_1 k) ?_)
            refine ih (k + 1) x3 x4 (by omega) (by omega) (by omega) j3 j4 (bu_SF_s iS (fun _ m m1 m2 m3 q => ?_))
            rcases q.2.1 with y | y
            · exact h3 y
            · exact h7 y
      · refine br_f hcov ?_
        have ycv : cv k := Classical.byContradiction (fun q => hcov (hck.mpr q))
        have iS' : bu_SF a_nodeOperator cv first (k + 1) := bu_SF_s iS (fun q => absurd ycv q)
        by_cases h3 : a_nodeOperator k = 3
        · refine br_t h3 (nm_r (nI_1 k) ?_)
          refine ih (k + 1) 1 x4 (by omega) (by omega) (by omega) ?_ ?_ iS'
          · exact ⟨fun q => absurd q (by decide), fun q => absurd ⟨k, h1k, by omega, ycv, h3⟩ q⟩
          · rw [bu_Ex_n (fun q => by have := q.2; rw [h3] at this; exact absurd this (by decide))]; exact i4
        · refine br_f h3 ?_
          by_cases h7 : a_nodeOperator k = 7
          · refine br_t h7 (nm_r (nI_1 k) ?_)
            refine ih (k + 1) x3 1 (by omega) (by omega) (by omega) ?_ ?_ iS'
            · rw [bu_Ex_n (fun q => h3 q.2)]; exact i3
            · exact ⟨fun q => absurd q (by decide), fun q => absurd ⟨k, h1k, by omega, ycv, h7⟩ q⟩
          · refine br_f h7 (nm_r (nI_1 k) ?_)
            refine ih (k + 1) x3 x4 (by omega) (by omega) (by omega) ?_ ?_ iS'
            · rw [bu_Ex_n (fun q => h3 q.2)]; exact i3
            · rw [bu_Ex_n (fun q => h7 q.2)]; exact i4
theorem xs_ord0 {post : Int32 → Prop} (hn : n < 20) (hf : first ≤ n) (hc : ∀ j, first ≤ j → j ≤ n → (a_covered j = 0 ↔ ¬ cv j)) (h1 : bu_SF a_nodeOperator cv first (n + 1) → post 1) (h0 : ¬ bu_SF a_nodeOperator cv first (n + 1) → post 0) : wpX_isOrderSafe post (f_registers, f_nonterminals, f_words, f_treeLimit, f_openSize, f_openHeight, f_ruleCount, f_nodeCount, f_rootCount, f_labelled, f_statementCount, f_programNodes, f_depth, f_lastValue, f_spent, a_openToken, a_openLow, a_openHigh, a_ruleLhs, a_ruleCost, a_ruleSize, a_ruleToken, a_ruleLow, a_ruleHigh, a_nodeOperator, a_nodeValue, a_subtreeFirst, a_bestCost, a_bestLength, a_place, a_covered, a_statementStart, a_statementNodes, a_statementCost, a_statementLength, a_programOperator, a_programValue, a_memory, a_arguments, a_stack) (nI first) (nI n) :=
  ⟨n + 2, xs_ord hn hc h1 h0 (n + 2) first 0 0 (by omega) (by omega) (by omega)
    ⟨fun _ ⟨m, m1, m2, _⟩ => by omega, fun _ => rfl⟩ ⟨fun _ ⟨m, m1, m2, _⟩ => by omega, fun _ => rfl⟩
    (fun m k m1 m2 m3 => by omega)⟩
theorem xl_lie {post : Int32 → Prop} {e p : Nat} (he : e < 168) (hp : p < 20) (h1 : bu_lie a_ruleToken a_ruleLow a_ruleHigh a_nodeOperator a_nodeValue e p → post 1) (h0 : ¬ bu_lie a_ruleToken a_ruleLow a_ruleHigh a_nodeOperator a_nodeValue e p → post 0) : wpX_tokenLiesOn post (f_registers, f_nonterminals, f_words, f_treeLimit, f_openSize, f_openHeight, f_ruleCount, f_nodeCount, f_rootCount, f_labelled, f_statementCount, f_programNodes, f_depth, f_lastValue, f_spent, a_openToken, a_openLow, a_openHigh, a_ruleLhs, a_ruleCost, a_ruleSize, a_ruleToken, a_ruleLow, a_ruleHigh, a_nodeOperator, a_nodeValue, a_subtreeFirst, a_bestCost, a_bestLength, a_place, a_covered, a_statementStart, a_statementNodes, a_statementCost, a_statementLength, a_programOperator, a_programValue, a_memory, a_arguments, a_stack) (nI e) (nI p) := by
  unfold wpX_tokenLiesOn
  dsimp only
  rw [nI_clamp (n := e) (by omega), nI_clamp (n := p) (by omega)]
  have ie := vp_in_nI (n := e) (N := 168) he (by decide)
  have ip := vp_in_nI (n := p) (N := 20) hp (by decide)
  refine ⟨ie, nm_e ⟨ip, ?_⟩⟩
  by_cases z : a_nodeOperator p = a_ruleToken e
  · refine br_t z ?_
    unfold wpX_hasOwnValue
    have fin : ∀ r : Int32, r = 1 → (a_ruleToken e = 0 ∨ a_ruleToken e = 1) → ((r = 0 → post 1) ∧ (¬ r = 0 → (vp_in (nI p) 20 ∧ ∀ x4_48 : Int32, x4_48 = a_nodeValue p → (vp_in (nI e) 168 ∧ ((x4_48 < a_ruleLow e → post 0) ∧ (¬ x4_48 < a_ruleLow e → (vp_in (nI e) 168 ∧ ((a_ruleHigh e < x4_48 → post 0) ∧ (¬ a_ruleHigh e < x4_48 → post 1)))))))) ) := by
      rintro r rfl ho
      refine br_f (by decide) ⟨ip, nm_e ⟨ie, ?_⟩⟩
      by_cases y : a_nodeValue p < a_ruleLow e
      · refine br_t y (h0 (fun q => ?_))
        exact absurd (q.2 ho).1 (Int32.not_le.mpr y)
      · refine br_f y ⟨ie, ?_⟩
        by_cases x : a_ruleHigh e < a_nodeValue p
        · exact br_t x (h0 (fun q => absurd (q.2 ho).2 (Int32.not_le.mpr x)))
        · exact br_f x (h1 ⟨z, fun _ => ⟨Int32.not_lt.mp y, Int32.not_lt.mp x⟩⟩)
    by_cases t0 : a_ruleToken e = 0
    · exact br_t t0 (fin 1 rfl (Or.inl t0))
    · refine br_f t0 ?_
      by_cases t1 : a_ruleToken e = 1
      · exact br_t t1 (fin 1 rfl (Or.inr t1))
      · exact br_f t1 (br_t rfl (h1 ⟨z, fun q => absurd q (fun q => q.elim t0 t1)⟩))
  · exact br_f z (h0 (fun q => z q.1))
variable {s r nc : Nat}
theorem xl_49 {post : Int32 → SX → Prop} (hN : bu_Nod a_nodeOperator nc) (hnc : nc ≤ 20) (hn : n < nc) (hr : r < 24) (hR : bu_Row a_ruleToken (7 * r) s)
    (hF : ∀ j, j < nc → a_subtreeFirst j = nI (bu_F a_nodeOperator j))
    (p0 : ¬ bu_ok a_ruleToken a_ruleLow a_ruleHigh a_nodeOperator a_nodeValue (7 * r) s n s → ∀ P C, post 0 (f_registers, f_nonterminals, f_words, f_treeLimit, f_openSize, f_openHeight, f_ruleCount, f_nodeCount, f_rootCount, f_labelled, f_statementCount, f_programNodes, f_depth, f_lastValue, f_spent, a_openToken, a_openLow, a_openHigh, a_ruleLhs, a_ruleCost, a_ruleSize, a_ruleToken, a_ruleLow, a_ruleHigh, a_nodeOperator, a_nodeValue, a_subtreeFirst, a_bestCost, a_bestLength, P, C, a_statementStart, a_statementNodes, a_statementCost, a_statementLength, a_programOperator, a_programValue, a_memory, a_arguments, a_stack))
    (p1 : bu_ok a_ruleToken a_ruleLow a_ruleHigh a_nodeOperator a_nodeValue (7 * r) s n s → ¬ bu_sf a_ruleToken a_nodeOperator (7 * r) s n → ∀ P C, post 1 (f_registers, f_nonterminals, f_words, f_treeLimit, f_openSize, f_openHeight, f_ruleCount, f_nodeCount, f_rootCount, f_labelled, f_statementCount, f_programNodes, f_depth, f_lastValue, f_spent, a_openToken, a_openLow, a_openHigh, a_ruleLhs, a_ruleCost, a_ruleSize, a_ruleToken, a_ruleLow, a_ruleHigh, a_nodeOperator, a_nodeValue, a_subtreeFirst, a_bestCost, a_bestLength, P, C, a_statementStart, a_statementNodes, a_statementCost, a_statementLength, a_programOperator, a_programValue, a_memory, a_arguments, a_stack))
    (p2 : bu_ok a_ruleToken a_ruleLow a_ruleHigh a_nodeOperator a_nodeValue (7 * r) s n s → bu_sf a_ruleToken a_nodeOperator (7 * r) s n → ∀ P C, (∀ i, i < s → P i = nI (bu_cu a_ruleToken a_nodeOperator (7 * r) s n (s - 1 - i) - 1)) → post 2 (f_registers, f_nonterminals, f_words, f_treeLimit, f_openSize, f_openHeight, f_ruleCount, f_nodeCount, f_rootCount, f_labelled, f_statementCount, f_programNodes, f_depth, f_lastValue, f_spent, a_openToken, a_openLow, a_openHigh, a_ruleLhs, a_ruleCost, a_ruleSize, a_ruleToken, a_ruleLow, a_ruleHigh, a_nodeOperator, a_nodeValue, a_subtreeFirst, a_bestCost, a_bestLength, P, C, a_statementStart, a_statementNodes, a_statementCost, a_statementLength, a_programOperator, a_programValue, a_memory, a_arguments, a_stack)) :
    ∀ (fuel d : Nat) (P C : Nat → Int32), s < d + fuel → d ≤ s → bu_ok a_ruleToken a_ruleLow a_ruleHigh a_nodeOperator a_nodeValue (7 * r) s n d →
      (∀ i, s - d ≤ i → i < s → P i = nI (bu_cu a_ruleToken a_nodeOperator (7 * r) s n (s - 1 - i) - 1)) →
      (∀ j, bu_F a_nodeOperator n ≤ j → j ≤ n → (C j = 0 ↔ ¬ bu_cv a_ruleToken a_nodeOperator (7 * r) s n d j)) →
      wX_layOut_49 post (nI n) (nI (bu_F a_nodeOperator n)) (nI (7 * r)) f_registers f_nonterminals f_words f_treeLimit f_openSize f_openHeight f_ruleCount f_nodeCount f_rootCount f_labelled f_statementCount f_programNodes f_depth f_lastValue f_spent fuel (nI (bu_cu a_ruleToken a_nodeOperator (7 * r) s n d) - 1) (nI (s - d) - 1) a_openToken a_openLow a_openHigh a_ruleLhs a_ruleCost a_ruleSize a_ruleToken a_ruleLow a_ruleHigh a_nodeOperator a_nodeValue a_subtreeFirst a_bestCost a_bestLength P C a_statementStart a_statementNodes a_statementCost a_statementLength a_programOperator a_programValue a_memory a_arguments a_stack := by
  intro fuel
  induction fuel with
  | zero => intro d P C hf hd; omega
  | succ fuel ih =>
    intro d P C hf hd hok hP hC
    have hFn := bu_F_le hN hn
    rw [wX_layOut_49]
    dsimp only
    rcases Nat.lt_or_ge d s with hds | hds
    · obtain ⟨c1, c2, c3⟩ := bu_inv_lt hN hn hR hds hok
      obtain ⟨k, hk⟩ : ∃ k, s - d = k + 1 := ⟨s - d - 1, by omega⟩
      obtain ⟨c, hcu⟩ : ∃ c, bu_cu a_ruleToken a_nodeOperator (7 * r) s n d = c + 1 := ⟨_, (Nat.succ_pred_eq_of_pos (by omega)).symm⟩
      have ek : s - 1 - d = k := by omega
      have s7 := hR.2.1
      have hcs := bu_cu_s (tk := a_ruleToken) (no := a_nodeOperator) (b := 7 * r) (s := s) (n := n) d
      have hl : a_ruleToken (7 * r + k) < 16 → (bu_ok a_ruleToken a_ruleLow a_ruleHigh a_nodeOperator a_nodeValue (7 * r) s n s → bu_lie a_ruleToken a_ruleLow a_ruleHigh a_nodeOperator a_nodeValue (7 * r + k) c) := by
        intro z q
        have := q d hds
        rw [ek, hcu, Nat.add_sub_cancel] at this
        exact this z
      rw [ek, hcu, Nat.add_sub_cancel] at hcs
      have hP' : ∀ P', P' = upd P k (nI c) → ∀ i, s - (d + 1) ≤ i → i < s → P' i = nI (bu_cu a_ruleToken a_nodeOperator (7 * r) s n (s - 1 - i) - 1) := by
        rintro P' rfl i hi1 hi2
        by_cases e : i = k
        · subst e
          rw [pk_us, show s - 1 - i = d by omega, hcu, Nat.add_sub_cancel]
        · rw [pk_un e]
          exact hP i (by omega) hi2
      rw [hk, hcu, nI_pred, nI_pred, nI_add, nI_clamp (n := k) (by omega), nI_clamp (n := c) (by omega), nI_clamp (n := 7 * r + k) (by omega)]
      refine br_f (nI_pos (by omega)) (br_t (nI_le (by omega) (by omega)) ⟨vp_in_nI (by omega) (by decide), nm_e ⟨vp_in_nI (by omega) (by decide), ?_⟩⟩)
      by_cases z : a_ruleToken (7 * r + k) < 16
      · refine br_t z ?_
        rw [if_pos z] at hcs
        refine xl_lie (by omega) (by omega) (fun hli => br_f (by decide) ⟨vp_in_nI (by omega) (by decide), nm_e (nm_r (bu_m1 _) (nm_r (bu_m1 _) ?_))⟩) (fun hli => br_t rfl (p0 (fun q => hli (hl z q)) _ _))
        have hok' : bu_ok a_ruleToken a_ruleLow a_ruleHigh a_nodeOperator a_nodeValue (7 * r) s n (d + 1) := by
          intro d' hd' z'
          rcases Nat.lt_or_ge d' d with y | y
          · exact hok d' y z'
          · have : d' = d := by omega
            subst this
            rw [ek, hcu, Nat.add_sub_cancel]
            exact hli
        have := ih (d + 1) (upd P k (nI c)) (upd C c (vp_nar .boolean 1)) (by omega) (by omega) hok' (hP' _ rfl) (by
          intro j j1 j2
          by_cases e : j = c
          · subst e
            rw [pk_us]
            exact ⟨fun q => absurd q (by decide), fun q => absurd ⟨d, by omega, by rw [ek]; exact z, hcu⟩ q⟩
          · rw [pk_un e, hC j j1 j2]
            constructor
            · rintro q ⟨d', e1, e2, e3⟩
              rcases Nat.lt_or_ge d' d with y | y
              · exact q ⟨d', y, e2, e3⟩
              · have : d' = d := by omega
                subst this
                omega
            · rintro q ⟨d', e1, e2, e3⟩
              exact q ⟨d', by omega, e2, e3⟩)
        rw [hcs, show s - (d + 1) = k by omega] at this
        exact this
      · refine br_f z ⟨vp_in_nI (by omega) (by decide), ?_⟩
        rw [if_neg z] at hcs
        rw [hF c (by omega)]
        refine nm_e (nm_r (bu_m1 _) ?_)
        have hok' : bu_ok a_ruleToken a_ruleLow a_ruleHigh a_nodeOperator a_nodeValue (7 * r) s n (d + 1) := by
          intro d' hd' z'
          rcases Nat.lt_or_ge d' d with y | y
          · exact hok d' y z'
          · have : d' = d := by omega
            subst this
            rw [ek] at z'
            exact absurd z' z
        have := ih (d + 1) (upd P k (nI c)) C (by omega) (by omega) hok' (hP' _ rfl) (by
          intro j j1 j2
          rw [hC j j1 j2]
          constructor
          · rintro q ⟨d', e1, e2, e3⟩
            rcases Nat.lt_or_ge d' d with y | y
            · exact q ⟨d', y, e2, e3⟩
            · have : d' = d := by omega
              subst this
              rw [ek] at e2
              exact absurd e2 z
          · rintro q ⟨d', e1, e2, e3⟩
            exact q ⟨d', by omega, e2, e3⟩)
        rw [hcs, show s - (d + 1) = k by omega] at this
        exact this
    · have ed : d = s := by omega
      subst ed
      rw [show d - d = 0 by omega]
      refine br_t (by decide) ?_
      refine xs_ord0 (cv := bu_cv a_ruleToken a_nodeOperator (7 * r) d n d) (by omega) hFn hC (fun q => br_f (by decide) (p2 hok q P C (fun i hi' => hP i (by omega) hi'))) (fun q => br_t rfl (p1 hok q P C))
theorem xl_10 {post : Int32 → SX → Prop} (hN : bu_Nod a_nodeOperator nc) (hnc : nc ≤ 20) (hn : n < nc) (hr : r < 24) (hs : a_ruleSize r = nI s) (hR : bu_Row a_ruleToken (7 * r) s)
    (hF : ∀ j, j < nc → a_subtreeFirst j = nI (bu_F a_nodeOperator j))
    (p0 : ¬ bu_ok a_ruleToken a_ruleLow a_ruleHigh a_nodeOperator a_nodeValue (7 * r) s n s → ∀ P C, post 0 (f_registers, f_nonterminals, f_words, f_treeLimit, f_openSize, f_openHeight, f_ruleCount, f_nodeCount, f_rootCount, f_labelled, f_statementCount, f_programNodes, f_depth, f_lastValue, f_spent, a_openToken, a_openLow, a_openHigh, a_ruleLhs, a_ruleCost, a_ruleSize, a_ruleToken, a_ruleLow, a_ruleHigh, a_nodeOperator, a_nodeValue, a_subtreeFirst, a_bestCost, a_bestLength, P, C, a_statementStart, a_statementNodes, a_statementCost, a_statementLength, a_programOperator, a_programValue, a_memory, a_arguments, a_stack))
    (p1 : bu_ok a_ruleToken a_ruleLow a_ruleHigh a_nodeOperator a_nodeValue (7 * r) s n s → ¬ bu_sf a_ruleToken a_nodeOperator (7 * r) s n → ∀ P C, post 1 (f_registers, f_nonterminals, f_words, f_treeLimit, f_openSize, f_openHeight, f_ruleCount, f_nodeCount, f_rootCount, f_labelled, f_statementCount, f_programNodes, f_depth, f_lastValue, f_spent, a_openToken, a_openLow, a_openHigh, a_ruleLhs, a_ruleCost, a_ruleSize, a_ruleToken, a_ruleLow, a_ruleHigh, a_nodeOperator, a_nodeValue, a_subtreeFirst, a_bestCost, a_bestLength, P, C, a_statementStart, a_statementNodes, a_statementCost, a_statementLength, a_programOperator, a_programValue, a_memory, a_arguments, a_stack))
    (p2 : bu_ok a_ruleToken a_ruleLow a_ruleHigh a_nodeOperator a_nodeValue (7 * r) s n s → bu_sf a_ruleToken a_nodeOperator (7 * r) s n → ∀ P C, (∀ i, i < s → P i = nI (bu_cu a_ruleToken a_nodeOperator (7 * r) s n (s - 1 - i) - 1)) → post 2 (f_registers, f_nonterminals, f_words, f_treeLimit, f_openSize, f_openHeight, f_ruleCount, f_nodeCount, f_rootCount, f_labelled, f_statementCount, f_programNodes, f_depth, f_lastValue, f_spent, a_openToken, a_openLow, a_openHigh, a_ruleLhs, a_ruleCost, a_ruleSize, a_ruleToken, a_ruleLow, a_ruleHigh, a_nodeOperator, a_nodeValue, a_subtreeFirst, a_bestCost, a_bestLength, P, C, a_statementStart, a_statementNodes, a_statementCost, a_statementLength, a_programOperator, a_programValue, a_memory, a_arguments, a_stack)) :
    ∀ (fuel k : Nat) (C : Nat → Int32), n + 1 < k + fuel → k ≤ n + 1 → (∀ j, bu_F a_nodeOperator n ≤ j → j < k → C j = 0) →
      wX_layOut_10 post (nI r) (nI n) (nI (bu_F a_nodeOperator n)) f_registers f_nonterminals f_words f_treeLimit f_openSize f_openHeight f_ruleCount f_nodeCount f_rootCount f_labelled f_statementCount f_programNodes f_depth f_lastValue f_spent fuel (nI k) a_openToken a_openLow a_openHigh a_ruleLhs a_ruleCost a_ruleSize a_ruleToken a_ruleLow a_ruleHigh a_nodeOperator a_nodeValue a_subtreeFirst a_bestCost a_bestLength a_place C a_statementStart a_statementNodes a_statementCost a_statementLength a_programOperator a_programValue a_memory a_arguments a_stack := by
  intro fuel
  induction fuel with
  | zero => intro k C hf hk; omega
  | succ fuel ih =>
    intro k C hf hk hC
    rw [wX_layOut_10]
    dsimp only
    rcases Nat.lt_or_ge n k with z | z
    · refine br_t (nI_lt (by omega) (by omega)) (nm_r (bu_x7 r) ⟨vp_in_nI hr (by decide), ?_⟩)
      rw [nI_clamp (n := r) (by omega), hs]
      refine nm_e ⟨s + 1, ?_⟩
      have := xl_49 (post := post) hN hnc hn hr hR hF p0 p1 p2 (s + 1) 0 a_place C (by omega) (by omega) (fun d' hd' => by omega) (fun i h1 h2 => by omega) (by
        intro j j1 j2
        rw [hC j j1 (by omega)]
        exact ⟨fun _ ⟨d', e1, _⟩ => by omega, fun _ => rfl⟩)
      have e0 : bu_cu a_ruleToken a_nodeOperator (7 * r) s n 0 = n + 1 := rfl
      rw [e0, nI_pred, show s - 0 = s by omega] at this
      exact this
    · refine br_f (nI_nlt (by omega) (by omega)) ⟨vp_in_nI (by omega) (by decide), ?_⟩
      rw [nI_clamp (n := k) (by omega)]
      refine nm_e (nm_r (nI_1 k) (ih (k + 1) _ (by omega) (by omega) ?_))
      intro j j1 j2
      by_cases e : j = k
      · subst e; rw [pk_us]; decide
      · rw [pk_un e]; exact hC j j1 (by omega)
theorem xl_lay {post : Int32 → SX → Prop} (hN : bu_Nod a_nodeOperator nc) (hnc : nc ≤ 20) (hn : n < nc) (hr : r < 24) (hs : a_ruleSize r = nI s) (hR : bu_Row a_ruleToken (7 * r) s)
    (hF : ∀ j, j < nc → a_subtreeFirst j = nI (bu_F a_nodeOperator j))
    (p0 : ¬ bu_ok a_ruleToken a_ruleLow a_ruleHigh a_nodeOperator a_nodeValue (7 * r) s n s → ∀ P C, post 0 (f_registers, f_nonterminals, f_words, f_treeLimit, f_openSize, f_openHeight, f_ruleCount, f_nodeCount, f_rootCount, f_labelled, f_statementCount, f_programNodes, f_depth, f_lastValue, f_spent, a_openToken, a_openLow, a_openHigh, a_ruleLhs, a_ruleCost, a_ruleSize, a_ruleToken, a_ruleLow, a_ruleHigh, a_nodeOperator, a_nodeValue, a_subtreeFirst, a_bestCost, a_bestLength, P, C, a_statementStart, a_statementNodes, a_statementCost, a_statementLength, a_programOperator, a_programValue, a_memory, a_arguments, a_stack))
    (p1 : bu_ok a_ruleToken a_ruleLow a_ruleHigh a_nodeOperator a_nodeValue (7 * r) s n s → ¬ bu_sf a_ruleToken a_nodeOperator (7 * r) s n → ∀ P C, post 1 (f_registers, f_nonterminals, f_words, f_treeLimit, f_openSize, f_openHeight, f_ruleCount, f_nodeCount, f_rootCount, f_labelled, f_statementCount, f_programNodes, f_depth, f_lastValue, f_spent, a_openToken, a_openLow, a_openHigh, a_ruleLhs, a_ruleCost, a_ruleSize, a_ruleToken, a_ruleLow, a_ruleHigh, a_nodeOperator, a_nodeValue, a_subtreeFirst, a_bestCost, a_bestLength, P, C, a_statementStart, a_statementNodes, a_statementCost, a_statementLength, a_programOperator, a_programValue, a_memory, a_arguments, a_stack))
    (p2 : bu_ok a_ruleToken a_ruleLow a_ruleHigh a_nodeOperator a_nodeValue (7 * r) s n s → bu_sf a_ruleToken a_nodeOperator (7 * r) s n → ∀ P C, (∀ i, i < s → P i = nI (bu_cu a_ruleToken a_nodeOperator (7 * r) s n (s - 1 - i) - 1)) → post 2 (f_registers, f_nonterminals, f_words, f_treeLimit, f_openSize, f_openHeight, f_ruleCount, f_nodeCount, f_rootCount, f_labelled, f_statementCount, f_programNodes, f_depth, f_lastValue, f_spent, a_openToken, a_openLow, a_openHigh, a_ruleLhs, a_ruleCost, a_ruleSize, a_ruleToken, a_ruleLow, a_ruleHigh, a_nodeOperator, a_nodeValue, a_subtreeFirst, a_bestCost, a_bestLength, P, C, a_statementStart, a_statementNodes, a_statementCost, a_statementLength, a_programOperator, a_programValue, a_memory, a_arguments, a_stack)) :
    wpX_layOut post (f_registers, f_nonterminals, f_words, f_treeLimit, f_openSize, f_openHeight, f_ruleCount, f_nodeCount, f_rootCount, f_labelled, f_statementCount, f_programNodes, f_depth, f_lastValue, f_spent, a_openToken, a_openLow, a_openHigh, a_ruleLhs, a_ruleCost, a_ruleSize, a_ruleToken, a_ruleLow, a_ruleHigh, a_nodeOperator, a_nodeValue, a_subtreeFirst, a_bestCost, a_bestLength, a_place, a_covered, a_statementStart, a_statementNodes, a_statementCost, a_statementLength, a_programOperator, a_programValue, a_memory, a_arguments, a_stack) (nI r) (nI n) := by
  have hFn := bu_F_le hN hn
  unfold wpX_layOut
  dsimp only
  rw [nI_clamp (n := n) (by omega), hF n hn]
  exact ⟨vp_in_nI (by omega) (by decide), nm_e ⟨n + 2, xl_10 hN hnc hn hr hs hR hF p0 p1 p2 (n + 2) _ a_covered (by omega) (by omega) (fun j j1 j2 => by omega)⟩⟩
end
end
section
/-! the component's labels -/
def bu_cl (a : Nat → Int32) (r : Nat) : Nat := (a r).toNatClampNeg
def bu_w (rg : Nat) (lhs cost : Nat → Int32) (r : Nat) : Nat := (cost r).toNatClampNeg * 65536 + (if (lhs r).toNatClampNeg < rg then 1 else 0)
def bu_Rs (tk lhs cost size : Nat → Int32) (nt rc : Nat) : Prop := ∀ r, r < rc → ∃ s t c : Nat, size r = nI s ∧ lhs r = nI t ∧ cost r = nI c ∧ t < nt ∧ c ≤ 99 ∧ bu_Row tk (7 * r) s ∧ ∀ i, i < s → bu_tok nt (tk (7 * r + i))
def bu_Dat (rg nt rc nc : Nat) (tk lhs cost size no : Nat → Int32) : Prop := 1 ≤ rg ∧ rg ≤ nt ∧ nt ≤ 6 ∧ rc ≤ 24 ∧ nc ≤ 20 ∧ bu_Nod no nc ∧ bu_Rs tk lhs cost size nt rc
noncomputable def bu_L (rg nt rc : Nat) (tk lo hi size lhs cost no nv : Nat → Int32) (k : Nat) : Nat → Nat :=
  bu_lab (bu_M tk lo hi no nv (bu_cl size)) (bu_O tk no (bu_cl size) (bu_w rg lhs cost)) (bu_cl lhs) (bu_ch tk (bu_cl size)) rc nt k
def bu_Cor (m : Nat) (V : Nat → Nat) (c l : Nat → Int32) : Prop := ∀ e, e < m → (V e = bu_I ∧ c e = -1) ∨ (V e < bu_I ∧ c e = nI (V e / 65536) ∧ l e = nI (V e % 65536))
section
variable {tk lo hi size lhs cost no nv : Nat → Int32} {rg nt rc nc : Nat}
theorem bu_Rs_1 (h : bu_Rs tk lhs cost size nt rc) {r : Nat} (hr : r < rc) (h6 : nt ≤ 6) : size r = nI (bu_cl size r) ∧ lhs r = nI (bu_cl lhs r) ∧ cost r = nI (bu_cl cost r) ∧ bu_cl lhs r < nt ∧ bu_cl cost r ≤ 99 ∧ bu_Row tk (7 * r) (bu_cl size r) ∧ ∀ i, i < bu_cl size r → bu_tok nt (tk (7 * r + i)) := by
  obtain ⟨s, t, c, h1, h2, h3, h4, h5, h6', h7⟩ := h r hr
  have s7 := h6'.2.1
  have e1 : bu_cl size r = s := by unfold bu_cl; rw [h1, nI_clamp (by omega)]
  have e2 : bu_cl lhs r = t := by unfold bu_cl; rw [h2, nI_clamp (by omega)]
  have e3 : bu_cl cost r = c := by unfold bu_cl; rw [h3, nI_clamp (by omega)]
  rw [e1, e2, e3]
  exact ⟨h1, h2, h3, h4, h5, h6', h7⟩
theorem bu_D_Rul (D : bu_Dat rg nt rc nc tk lhs cost size no) : bu_Rul tk (bu_cl size) (bu_cl lhs) nt rc := by
  obtain ⟨d1, d2, d3, d4, d5, d6, d7⟩ := D
  intro r hr
  obtain ⟨_, _, _, h4, _, h6', h7⟩ := bu_Rs_1 d7 hr d3
  exact ⟨h6', h4, h7⟩
theorem bu_dsys (D : bu_Dat rg nt rc nc tk lhs cost size no) : bu_Sys (bu_M tk lo hi no nv (bu_cl size)) (bu_O tk no (bu_cl size) (bu_w rg lhs cost)) (bu_cl lhs) (bu_ch tk (bu_cl size)) (bu_cs tk) (bu_w rg lhs cost) rc nc nt :=
  bu_sys D.2.2.2.2.2.1 (bu_D_Rul D) (Nat.le_trans D.1 D.2.1) D.2.2.1
theorem bu_w_bd (D : bu_Dat rg nt rc nc tk lhs cost size no) : ∀ r, r < rc → bu_w rg lhs cost r / 65536 ≤ 99 ∧ bu_w rg lhs cost r % 65536 ≤ 1 := by
  intro r hr
  obtain ⟨_, _, _, _, h5, _, _⟩ := bu_Rs_1 D.2.2.2.2.2.2 hr D.2.2.1
  have e : bu_w rg lhs cost r = bu_cl cost r * 65536 + (if (lhs r).toNatClampNeg < rg then 1 else 0) := rfl
  rw [e]
  split <;> omega
theorem bu_dwt (D : bu_Dat rg nt rc nc tk lhs cost size no) : bu_Wt (bu_M tk lo hi no nv (bu_cl size)) (bu_O tk no (bu_cl size) (bu_w rg lhs cost)) (bu_ch tk (bu_cl size)) (bu_w rg lhs cost) (fun n => 6 * (n - bu_F no n)) rc nc :=
  bu_wt D.2.2.2.2.2.1 D.2.2.2.2.1 (bu_D_Rul D) D.2.2.1 (bu_w_bd D)
end
theorem bu_Cor_up {m : Nat} {V V' : Nat → Nat} {c l : Nat → Int32} {e x y : Nat} (h : bu_Cor m V c l) (hV : ∀ j, j ≠ e → V' j = V j) (hx : V' e = x * 65536 + y) (hy : y < 65536) (hI : V' e < bu_I) : bu_Cor m V' (upd c e (nI x)) (upd l e (nI y)) := by
  intro j hj
  by_cases q : j = e
  · subst q
    rw [pk_us, pk_us]
    refine Or.inr ⟨hI, ?_, ?_⟩
    · rw [hx, show (x * 65536 + y) / 65536 = x by omega]
    · rw [hx, show (x * 65536 + y) % 65536 = y by omega]
  · rw [pk_un q, pk_un q, hV j q]
    exact h j hj
section
variable {f_registers f_nonterminals f_words f_treeLimit f_openSize f_openHeight f_ruleCount f_nodeCount f_rootCount f_labelled f_statementCount f_programNodes f_depth f_lastValue f_spent : Int32} {a_openToken a_openLow a_openHigh a_ruleLhs a_ruleCost a_ruleSize a_ruleToken a_ruleLow a_ruleHigh a_nodeOperator a_nodeValue a_subtreeFirst a_bestCost a_bestLength a_place a_covered a_statementStart a_statementNodes a_statementCost a_statementLength a_programOperator a_programValue a_memory a_arguments a_stack : Nat → Int32}
theorem xa_offer {post : Int32 → SX → Prop} {m o x y : Nat} {V : Nat → Nat} (hC : bu_Cor m V a_bestCost a_bestLength) (ho : o < m) (hm : m ≤ 120) (hx : x < 1000000) (hy : y < 65536)
    (hlt : x * 65536 + y < V o → post 1 (f_registers, f_nonterminals, f_words, f_treeLimit, f_openSize, f_openHeight, f_ruleCount, f_nodeCount, f_rootCount, f_labelled, f_statementCount, f_programNodes, f_depth, f_lastValue, f_spent, a_openToken, a_openLow, a_openHigh, a_ruleLhs, a_ruleCost, a_ruleSize, a_ruleToken, a_ruleLow, a_ruleHigh, a_nodeOperator, a_nodeValue, a_subtreeFirst, (upd a_bestCost o (nI x)), (upd a_bestLength o (nI y)), a_place, a_covered, a_statementStart, a_statementNodes, a_statementCost, a_statementLength, a_programOperator, a_programValue, a_memory, a_arguments, a_stack))
    (hge : ¬ x * 65536 + y < V o → post 0 (f_registers, f_nonterminals, f_words, f_treeLimit, f_openSize, f_openHeight, f_ruleCount, f_nodeCount, f_rootCount, f_labelled, f_statementCount, f_programNodes, f_depth, f_lastValue, f_spent, a_openToken, a_openLow, a_openHigh, a_ruleLhs, a_ruleCost, a_ruleSize, a_ruleToken, a_ruleLow, a_ruleHigh, a_nodeOperator, a_nodeValue, a_subtreeFirst, a_bestCost, a_bestLength, a_place, a_covered, a_statementStart, a_statementNodes, a_statementCost, a_statementLength, a_programOperator, a_programValue, a_memory, a_arguments, a_stack)) : wpX_offer post (f_registers, f_nonterminals, f_words, f_treeLimit, f_openSize, f_openHeight, f_ruleCount, f_nodeCount, f_rootCount, f_labelled, f_statementCount, f_programNodes, f_depth, f_lastValue, f_spent, a_openToken, a_openLow, a_openHigh, a_ruleLhs, a_ruleCost, a_ruleSize, a_ruleToken, a_ruleLow, a_ruleHigh, a_nodeOperator, a_nodeValue, a_subtreeFirst, a_bestCost, a_bestLength, a_place, a_covered, a_statementStart, a_statementNodes, a_statementCost, a_statementLength, a_programOperator, a_programValue, a_memory, a_arguments, a_stack) (nI o) (nI x) (nI y) := by
  unfold wpX_offer
  dsimp only
  rw [nI_clamp (n := o) (by omega)]
  have hi := vp_in_nI (n := o) (N := 120) (by omega) (by decide)
  have t35 : x * 65536 + y < V o → wX_offer_35 post (nI o) (nI x) (nI y) f_registers f_nonterminals f_words f_treeLimit f_openSize f_openHeight f_ruleCount f_nodeCount f_rootCount f_labelled f_statementCount f_programNodes f_depth f_lastValue f_spent a_openToken a_openLow a_openHigh a_ruleLhs a_ruleCost a_ruleSize a_ruleToken a_ruleLow a_ruleHigh a_nodeOperator a_nodeValue a_subtreeFirst a_bestCost a_bestLength a_place a_covered a_statementStart a_statementNodes a_statementCost a_statementLength a_programOperator a_programValue a_memory a_arguments a_stack := by
    intro q
    unfold wX_offer_35 wX_offer_40
    refine br_f (by decide) ⟨hi, ?_⟩
    rw [nI_clamp (n := o) (by omega)]
    exact nm_e ⟨hi, nm_e ⟨rfl, hlt q⟩⟩
  have t39 : ¬ x * 65536 + y < V o → wX_offer_39 post (nI o) (nI x) (nI y) f_registers f_nonterminals f_words f_treeLimit f_openSize f_openHeight f_ruleCount f_nodeCount f_rootCount f_labelled f_statementCount f_programNodes f_depth f_lastValue f_spent a_openToken a_openLow a_openHigh a_ruleLhs a_ruleCost a_ruleSize a_ruleToken a_ruleLow a_ruleHigh a_nodeOperator a_nodeValue a_subtreeFirst a_bestCost a_bestLength a_place a_covered a_statementStart a_statementNodes a_statementCost a_statementLength a_programOperator a_programValue a_memory a_arguments a_stack := by
    intro q
    unfold wX_offer_39 wX_offer_40
    exact br_t rfl ⟨rfl, hge q⟩
  refine ⟨hi, nm_e ?_⟩
  rcases hC o ho with ⟨c1, c2⟩ | ⟨c1, c2, c3⟩
  · rw [c2]
    refine br_t (by decide) (t35 ?_)
    rw [c1]; unfold bu_I; omega
  · rw [c2, c3]
    have b : V o < 1099511627776 := c1
    generalize hvo : V o = v at *
    have n1 : v / 65536 < 2 ^ 31 := by omega
    have n2 : v % 65536 < 2 ^ 31 := by omega
    refine br_f (nI_pos n1) ?_
    rcases Nat.lt_or_ge x (v / 65536) with z | z
    · exact br_t ((nI_ltI (by omega) n1).mpr z) (t35 (by omega))
    · refine br_f (fun q => by have := (nI_ltI (by omega) n1).mp q; omega) ?_
      rcases Nat.lt_or_ge (v / 65536) x with u | u
      · exact br_f (fun q => by have := (nI_eq (by omega) n1).mp q; omega) (t39 (by omega))
      · have e : x = v / 65536 := by omega
        refine br_t (by rw [e]) ⟨hi, ?_⟩
        rcases Nat.lt_or_ge y (v % 65536) with k | k
        · exact br_f (fun q => by have := (nI_leI n2 (by omega)).mp q; omega) (t35 (by omega))
        · exact br_t ((nI_leI n2 (by omega)).mpr k) (t39 (by omega))
variable {rg nt rc nc : Nat}
theorem xa_63 {post : Int32 → SX → Prop} {m r n : Nat} {V : Nat → Nat} (D : bu_Dat rg nt rc nc a_ruleToken a_ruleLhs a_ruleCost a_ruleSize a_nodeOperator) (hr : r < rc) (hn : n < nc) (hm : 6 * n + 6 ≤ m) (hm2 : m ≤ 120)
    (hB : bu_Bd (fun n => 6 * (n - bu_F a_nodeOperator n)) nc V) (hI : ∀ e, V e ≤ bu_I) (hC : bu_Cor m V a_bestCost a_bestLength)
    (hM : (bu_M a_ruleToken a_ruleLow a_ruleHigh a_nodeOperator a_nodeValue (bu_cl a_ruleSize)) r n = true)
    (hP : ∀ i, i < bu_cl a_ruleSize r → a_place i = nI (bu_cu a_ruleToken a_nodeOperator (7 * r) (bu_cl a_ruleSize r) n (bu_cl a_ruleSize r - 1 - i) - 1))
    (h : ∀ bc' bl' z, bu_Cor m (bu_rx (bu_M a_ruleToken a_ruleLow a_ruleHigh a_nodeOperator a_nodeValue (bu_cl a_ruleSize)) (bu_O a_ruleToken a_nodeOperator (bu_cl a_ruleSize) (bu_w rg a_ruleLhs a_ruleCost)) (bu_cl a_ruleLhs) r n V) bc' bl' → ((z = 0 ∧ bu_rx (bu_M a_ruleToken a_ruleLow a_ruleHigh a_nodeOperator a_nodeValue (bu_cl a_ruleSize)) (bu_O a_ruleToken a_nodeOperator (bu_cl a_ruleSize) (bu_w rg a_ruleLhs a_ruleCost)) (bu_cl a_ruleLhs) r n V = V) ∨ z = 1) → post z (f_registers, f_nonterminals, f_words, f_treeLimit, f_openSize, f_openHeight, f_ruleCount, f_nodeCount, f_rootCount, f_labelled, f_statementCount, f_programNodes, f_depth, f_lastValue, f_spent, a_openToken, a_openLow, a_openHigh, a_ruleLhs, a_ruleCost, a_ruleSize, a_ruleToken, a_ruleLow, a_ruleHigh, a_nodeOperator, a_nodeValue, a_subtreeFirst, bc', bl', a_place, a_covered, a_statementStart, a_statementNodes, a_statementCost, a_statementLength, a_programOperator, a_programValue, a_memory, a_arguments, a_stack)) :
    ∀ (fuel i q : Nat), bu_cl a_ruleSize r < i + fuel → i ≤ bu_cl a_ruleSize r → q = bu_w rg a_ruleLhs a_ruleCost r + bu_su (bu_lf a_ruleToken a_nodeOperator (bu_cl a_ruleSize) r n V) i → q / 65536 ≤ 99 + 11880 * i → q % 65536 ≤ 1 + 120 * i →
      wX_applyRule_63 post (nI n) (nI (bu_cl a_ruleLhs r)) (nI (7 * r)) (nI (bu_cl a_ruleSize r)) f_registers f_nonterminals f_words f_treeLimit f_openSize f_openHeight f_ruleCount f_nodeCount f_rootCount f_labelled f_statementCount f_programNodes f_depth f_lastValue f_spent a_openToken a_openLow a_openHigh a_ruleLhs a_ruleCost a_ruleSize a_ruleToken a_ruleLow a_ruleHigh a_nodeOperator a_nodeValue a_subtreeFirst a_bestCost a_bestLength a_place a_covered a_statementStart a_statementNodes a_statementCost a_statementLength a_programOperator a_programValue a_memory a_arguments a_stack fuel (nI (q / 65536)) (nI (q % 65536)) (nI i) := by
  obtain ⟨d1, d2, d3, d4, d5, d6, d7⟩ := D
  obtain ⟨r1, r2, r3, r4, r5, r6, r7⟩ := bu_Rs_1 d7 hr d3
  have s7 := r6.2.1
  have own : 6 * n + bu_cl a_ruleLhs r < m := by omega
  have hrx : ∀ j, j ≠ 6 * n + bu_cl a_ruleLhs r → bu_rx (bu_M a_ruleToken a_ruleLow a_ruleHigh a_nodeOperator a_nodeValue (bu_cl a_ruleSize)) (bu_O a_ruleToken a_nodeOperator (bu_cl a_ruleSize) (bu_w rg a_ruleLhs a_ruleCost)) (bu_cl a_ruleLhs) r n V j = V j := fun j hj => bu_rx_ne hj
  have erx : bu_rx (bu_M a_ruleToken a_ruleLow a_ruleHigh a_nodeOperator a_nodeValue (bu_cl a_ruleSize)) (bu_O a_ruleToken a_nodeOperator (bu_cl a_ruleSize) (bu_w rg a_ruleLhs a_ruleCost)) (bu_cl a_ruleLhs) r n V (6 * n + bu_cl a_ruleLhs r) = if (bu_O a_ruleToken a_nodeOperator (bu_cl a_ruleSize) (bu_w rg a_ruleLhs a_ruleCost)) r n V < V (6 * n + bu_cl a_ruleLhs r) then (bu_O a_ruleToken a_nodeOperator (bu_cl a_ruleSize) (bu_w rg a_ruleLhs a_ruleCost)) r n V else V (6 * n + bu_cl a_ruleLhs r) := if_pos ⟨hM, rfl⟩
  have oe : (bu_O a_ruleToken a_nodeOperator (bu_cl a_ruleSize) (bu_w rg a_ruleLhs a_ruleCost)) r n V = bu_w rg a_ruleLhs a_ruleCost r + bu_su (bu_lf a_ruleToken a_nodeOperator (bu_cl a_ruleSize) r n V) (bu_cl a_ruleSize r) := rfl
  have same : ¬ (bu_O a_ruleToken a_nodeOperator (bu_cl a_ruleSize) (bu_w rg a_ruleLhs a_ruleCost)) r n V < V (6 * n + bu_cl a_ruleLhs r) → bu_rx (bu_M a_ruleToken a_ruleLow a_ruleHigh a_nodeOperator a_nodeValue (bu_cl a_ruleSize)) (bu_O a_ruleToken a_nodeOperator (bu_cl a_ruleSize) (bu_w rg a_ruleLhs a_ruleCost)) (bu_cl a_ruleLhs) r n V = V := by
    intro z
    funext j
    by_cases e : j = 6 * n + bu_cl a_ruleLhs r
    · subst e; rw [erx, if_neg z]
    · exact hrx j e
  obtain ⟨ok, _⟩ := bu_b_t.mp hM
  intro fuel
  induction fuel with
  | zero => intro i q hf hi; omega
  | succ fuel ih =>
    intro i q hf hi hq q1 q2
    rw [wX_applyRule_63]
    dsimp only
    rcases Nat.lt_or_ge i (bu_cl a_ruleSize r) with z | z
    · refine br_f (nI_ge z (by omega)) ?_
      rw [nI_add, nI_clamp (n := 7 * r + i) (by omega), nI_clamp (n := i) (by omega)]
      refine ⟨vp_in_nI (by omega) (by decide), nm_e ?_⟩
      have lf : bu_lf a_ruleToken a_nodeOperator (bu_cl a_ruleSize) r n V i = if a_ruleToken (7 * r + i) < 16 then 0 else V (bu_en a_ruleToken a_nodeOperator (bu_cl a_ruleSize) r n i) := rfl
      by_cases t16 : a_ruleToken (7 * r + i) < 16
      · rw [if_pos t16] at lf
        refine br_t t16 (nm_r (nI_1 i) (ih (i + 1) q (by omega) (by omega) ?_ (by omega) (by omega)))
        rw [bu_su_s, lf]; exact hq
      · rw [if_neg t16] at lf
        refine br_f t16 ⟨vp_in_nI (by omega) (by decide), ?_⟩
        obtain ⟨t, t1, t2, t6⟩ := bu_tok_lt (r7 i z) t16
        obtain ⟨c1, c2, c3⟩ := bu_inv_lt d6 hn r6 (d := bu_cl a_ruleSize r - 1 - i) (by omega) (bu_ok_le ok (by omega))
        have hPi := hP i z
        have ee : bu_en a_ruleToken a_nodeOperator (bu_cl a_ruleSize) r n i = 6 * (bu_cu a_ruleToken a_nodeOperator (7 * r) (bu_cl a_ruleSize r) n (bu_cl a_ruleSize r - 1 - i) - 1) + t := by
          unfold bu_en; rw [t2, nI_clamp (by omega)]; omega
        rw [ee] at lf
        have hp : bu_cu a_ruleToken a_nodeOperator (7 * r) (bu_cl a_ruleSize r) n (bu_cl a_ruleSize r - 1 - i) - 1 ≤ n := by omega
        generalize bu_cu a_ruleToken a_nodeOperator (7 * r) (bu_cl a_ruleSize r) n (bu_cl a_ruleSize r - 1 - i) - 1 = p at *
        have ex : nI p * 6 + nI (16 + t) - 16 = nI (6 * p + t) := by
          rw [bu_x6, nI_add]
          have := pk_sub (a := 6 * p + (16 + t)) (b := 16) (by omega)
          rw [show 6 * p + (16 + t) - 16 = 6 * p + t by omega] at this
          exact this
        rw [hPi, t2]
        refine nm_r ex ⟨vp_in_nI (by omega) (by decide), ?_⟩
        rw [nI_clamp (n := 6 * p + t) (by omega)]
        rcases hC (6 * p + t) (by omega) with ⟨k1, k2⟩ | ⟨k1, k2, k3⟩
        · refine br_f (by rw [k2]; decide) ?_
          have big : ¬ (bu_O a_ruleToken a_nodeOperator (bu_cl a_ruleSize) (bu_w rg a_ruleLhs a_ruleCost)) r n V < V (6 * n + bu_cl a_ruleLhs r) := by
            have a1 := bu_su_1 (f := bu_lf a_ruleToken a_nodeOperator (bu_cl a_ruleSize) r n V) (j := i) (k := bu_cl a_ruleSize r) z
            have a2 := hI (6 * n + bu_cl a_ruleLhs r)
            omega
          refine h a_bestCost a_bestLength 0 ?_ (Or.inl ⟨rfl, same big⟩)
          rw [same big]; exact hC
        · have bd := bu_Bd_6 hB (n := p) (t := t) (by omega) t6 k1
          have g1 : 6 * (p - bu_F a_nodeOperator p) ≤ 114 := by omega
          have bd : V (6 * p + t) / 65536 ≤ 11880 ∧ V (6 * p + t) % 65536 ≤ 120 := by
            have bd' : V (6 * p + t) / 65536 ≤ 99 * (6 * (p - bu_F a_nodeOperator p) + 6) ∧ V (6 * p + t) % 65536 ≤ 6 * (p - bu_F a_nodeOperator p) + 6 := bd
            omega
          rw [k2, k3]
          have hin : vp_in (nI (6 * p + t)) 120 := vp_in_nI (by omega) (by decide)
          have a1 : nI (q / 65536) + nI (V (6 * p + t) / 65536) = nI ((q + V (6 * p + t)) / 65536) := by
            rw [nI_add]; exact congrArg nI (by omega)
          have a2 : nI (q % 65536) + nI (V (6 * p + t) % 65536) = nI ((q + V (6 * p + t)) % 65536) := by
            rw [nI_add]; exact congrArg nI (by omega)
          refine br_t (nI_pos' (by omega)) ⟨hin, nm_r a1 ⟨hin, nm_r a2 (nm_r (nI_1 i) (ih (i + 1) _ (by omega) (by omega) ?_ (by omega) (by omega)))⟩⟩
          rw [bu_su_s, lf, hq]; omega
    · have ei : i = bu_cl a_ruleSize r := by omega
      subst ei
      refine br_t (nI_le (by omega) (by omega)) ?_
      rw [bu_x6, nI_add]
      have oq : (bu_O a_ruleToken a_nodeOperator (bu_cl a_ruleSize) (bu_w rg a_ruleLhs a_ruleCost)) r n V = q := by rw [oe, hq]
      have qd : q / 65536 * 65536 + q % 65536 = q := by omega
      refine xa_offer (V := V) hC own hm2 (by omega) (by omega) (fun y => ?_) (fun y => ?_)
      · rw [qd] at y
        refine ⟨rfl, h _ _ 1 ?_ (Or.inr rfl)⟩
        have erx' : bu_rx (bu_M a_ruleToken a_ruleLow a_ruleHigh a_nodeOperator a_nodeValue (bu_cl a_ruleSize)) (bu_O a_ruleToken a_nodeOperator (bu_cl a_ruleSize) (bu_w rg a_ruleLhs a_ruleCost)) (bu_cl a_ruleLhs) r n V (6 * n + bu_cl a_ruleLhs r) = q := by rw [erx, oq, if_pos y]
        refine bu_Cor_up hC hrx ?_ (by omega) ?_
        · rw [erx', qd]
        · rw [erx']; have := hI (6 * n + bu_cl a_ruleLhs r); omega
      · rw [qd] at y
        rw [← oq] at y
        refine ⟨rfl, h _ _ 0 ?_ (Or.inl ⟨rfl, same y⟩)⟩
        rw [same y]; exact hC
theorem xa_apply {post : Int32 → SX → Prop} {m r n : Nat} {V : Nat → Nat} (D : bu_Dat rg nt rc nc a_ruleToken a_ruleLhs a_ruleCost a_ruleSize a_nodeOperator) (hr : r < rc) (hn : n < nc) (hm : 6 * n + 6 ≤ m) (hm2 : m ≤ 120)
    (hF : ∀ j, j < nc → a_subtreeFirst j = nI (bu_F a_nodeOperator j))
    (hB : bu_Bd (fun n => 6 * (n - bu_F a_nodeOperator n)) nc V) (hI : ∀ e, V e ≤ bu_I) (hC : bu_Cor m V a_bestCost a_bestLength)
    (h : ∀ P C bc' bl' z, bu_Cor m (bu_rx (bu_M a_ruleToken a_ruleLow a_ruleHigh a_nodeOperator a_nodeValue (bu_cl a_ruleSize)) (bu_O a_ruleToken a_nodeOperator (bu_cl a_ruleSize) (bu_w rg a_ruleLhs a_ruleCost)) (bu_cl a_ruleLhs) r n V) bc' bl' → ((z = 0 ∧ bu_rx (bu_M a_ruleToken a_ruleLow a_ruleHigh a_nodeOperator a_nodeValue (bu_cl a_ruleSize)) (bu_O a_ruleToken a_nodeOperator (bu_cl a_ruleSize) (bu_w rg a_ruleLhs a_ruleCost)) (bu_cl a_ruleLhs) r n V = V) ∨ z = 1) → post z ((nI rg), f_nonterminals, f_words, f_treeLimit, f_openSize, f_openHeight, f_ruleCount, f_nodeCount, f_rootCount, f_labelled, f_statementCount, f_programNodes, f_depth, f_lastValue, f_spent, a_openToken, a_openLow, a_openHigh, a_ruleLhs, a_ruleCost, a_ruleSize, a_ruleToken, a_ruleLow, a_ruleHigh, a_nodeOperator, a_nodeValue, a_subtreeFirst, bc', bl', P, C, a_statementStart, a_statementNodes, a_statementCost, a_statementLength, a_programOperator, a_programValue, a_memory, a_arguments, a_stack)) :
    wpX_applyRule post ((nI rg), f_nonterminals, f_words, f_treeLimit, f_openSize, f_openHeight, f_ruleCount, f_nodeCount, f_rootCount, f_labelled, f_statementCount, f_programNodes, f_depth, f_lastValue, f_spent, a_openToken, a_openLow, a_openHigh, a_ruleLhs, a_ruleCost, a_ruleSize, a_ruleToken, a_ruleLow, a_ruleHigh, a_nodeOperator, a_nodeValue, a_subtreeFirst, a_bestCost, a_bestLength, a_place, a_covered, a_statementStart, a_statementNodes, a_statementCost, a_statementLength, a_programOperator, a_programValue, a_memory, a_arguments, a_stack) (nI r) (nI n) := by
  have D' := D
  obtain ⟨d1, d2, d3, d4, d5, d6, d7⟩ := D
  obtain ⟨r1, r2, r3, r4, r5, r6, r7⟩ := bu_Rs_1 d7 hr d3
  have s7 := r6.2.1
  have no : ¬ (bu_M a_ruleToken a_ruleLow a_ruleHigh a_nodeOperator a_nodeValue (bu_cl a_ruleSize)) r n = true → bu_rx (bu_M a_ruleToken a_ruleLow a_ruleHigh a_nodeOperator a_nodeValue (bu_cl a_ruleSize)) (bu_O a_ruleToken a_nodeOperator (bu_cl a_ruleSize) (bu_w rg a_ruleLhs a_ruleCost)) (bu_cl a_ruleLhs) r n V = V := by
    intro z; funext j
    unfold bu_rx; exact if_neg (fun q => z q.1)
  unfold wpX_applyRule
  refine xl_lay (s := bu_cl a_ruleSize r) d6 d5 hn (by omega) r1 r6 hF (fun q P C => ?_) (fun q1 q2 P C => ?_) (fun q1 q2 P C hP => ?_)
  · have hM : ¬ (bu_M a_ruleToken a_ruleLow a_ruleHigh a_nodeOperator a_nodeValue (bu_cl a_ruleSize)) r n = true := fun z => q (bu_b_t.mp z).1
    refine br_f (by decide) (h P C _ _ 0 ?_ (Or.inl ⟨rfl, no hM⟩))
    rw [no hM]; exact hC
  · have hM : ¬ (bu_M a_ruleToken a_ruleLow a_ruleHigh a_nodeOperator a_nodeValue (bu_cl a_ruleSize)) r n = true := fun z => q2 (bu_b_t.mp z).2
    refine br_f (by decide) (h P C _ _ 0 ?_ (Or.inl ⟨rfl, no hM⟩))
    rw [no hM]; exact hC
  · have hM : (bu_M a_ruleToken a_ruleLow a_ruleHigh a_nodeOperator a_nodeValue (bu_cl a_ruleSize)) r n = true := bu_b_t.mpr ⟨q1, q2⟩
    have hv := vp_in_nI (n := r) (N := 24) (by omega) (by decide)
    refine br_t rfl ⟨hv, ?_⟩
    rw [nI_clamp (n := r) (by omega)]
    refine nm_e ⟨hv, nm_e ?_⟩
    rw [r2]
    have key : ∀ l : Nat, l = (if bu_cl a_ruleLhs r < rg then 1 else 0) → wX_applyRule_44 post (nI r) (nI n) (nI (bu_cl a_ruleLhs r)) (a_ruleCost r) (nI l) (nI rg) f_nonterminals f_words f_treeLimit f_openSize f_openHeight f_ruleCount f_nodeCount f_rootCount f_labelled f_statementCount f_programNodes f_depth f_lastValue f_spent a_openToken a_openLow a_openHigh a_ruleLhs a_ruleCost a_ruleSize a_ruleToken a_ruleLow a_ruleHigh a_nodeOperator a_nodeValue a_subtreeFirst a_bestCost a_bestLength P C a_statementStart a_statementNodes a_statementCost a_statementLength a_programOperator a_programValue a_memory a_arguments a_stack := by
      intro l hl
      have l1 : l ≤ 1 := by rw [hl]; split <;> omega
      have ew : bu_w rg a_ruleLhs a_ruleCost r = bu_cl a_ruleCost r * 65536 + l := by rw [hl]; rfl
      unfold wX_applyRule_44
      refine nm_r (bu_x7 r) ⟨hv, ?_⟩
      rw [nI_clamp (n := r) (by omega), r1, r3]
      refine nm_e ⟨bu_cl a_ruleSize r + 1, ?_⟩
      have := xa_63 (post := post) (f_registers := nI rg) (a_place := P) (a_covered := C) D' hr hn hm hm2 hB hI hC hM hP (fun bc' bl' z k1 k2 => h P C bc' bl' z k1 k2) (bu_cl a_ruleSize r + 1) 0 (bu_w rg a_ruleLhs a_ruleCost r) (by omega) (by omega) (Nat.add_zero (bu_w rg a_ruleLhs a_ruleCost r)).symm (by rw [ew]; omega) (by rw [ew]; omega)
      rw [show bu_w rg a_ruleLhs a_ruleCost r / 65536 = bu_cl a_ruleCost r by omega, show bu_w rg a_ruleLhs a_ruleCost r % 65536 = l by omega] at this
      exact this
    rcases Nat.lt_or_ge (bu_cl a_ruleLhs r) rg with z | z
    · exact br_f (nI_ge z (by omega)) (key 1 (if_pos z).symm)
    · exact br_t (nI_le z (by omega)) (key 0 (if_neg (by omega)).symm)
theorem xn_chain {post : Int32 → Prop} {r : Nat} (D : bu_Dat rg nt rc nc a_ruleToken a_ruleLhs a_ruleCost a_ruleSize a_nodeOperator) (hr : r < rc) (h1 : (bu_ch a_ruleToken (bu_cl a_ruleSize)) r = true → post 1) (h0 : (bu_ch a_ruleToken (bu_cl a_ruleSize)) r = false → post 0) : wpX_isChain post (f_registers, f_nonterminals, f_words, f_treeLimit, f_openSize, f_openHeight, f_ruleCount, f_nodeCount, f_rootCount, f_labelled, f_statementCount, f_programNodes, f_depth, f_lastValue, f_spent, a_openToken, a_openLow, a_openHigh, a_ruleLhs, a_ruleCost, a_ruleSize, a_ruleToken, a_ruleLow, a_ruleHigh, a_nodeOperator, a_nodeValue, a_subtreeFirst, a_bestCost, a_bestLength, a_place, a_covered, a_statementStart, a_statementNodes, a_statementCost, a_statementLength, a_programOperator, a_programValue, a_memory, a_arguments, a_stack) (nI r) := by
  obtain ⟨d1, d2, d3, d4, d5, d6, d7⟩ := D
  obtain ⟨r1, r2, r3, r4, r5, r6, r7⟩ := bu_Rs_1 d7 hr d3
  have s7 := r6.2.1
  unfold wpX_isChain
  dsimp only
  rw [bu_x7, nI_clamp (n := r) (by omega), nI_clamp (n := 7 * r) (by omega)]
  refine ⟨vp_in_nI (by omega) (by decide), ?_⟩
  rw [r1]
  by_cases z : bu_cl a_ruleSize r = 1
  · refine br_t (by rw [z]; rfl) ⟨vp_in_nI (by omega) (by decide), ?_⟩
    by_cases y : a_ruleToken (7 * r) < 16
    · exact br_t y (h0 (decide_eq_false (fun q => q.2 y)))
    · exact br_f y (h1 (decide_eq_true ⟨z, y⟩))
  · exact br_f (fun q => z ((nI_eq (a := bu_cl a_ruleSize r) (b := 1) (by omega) (by decide)).mp q)) (h0 (decide_eq_false (fun q => z q.1)))
end
end
section
/-! the component labels a node, and all nodes up to one -/
section
variable {f_registers f_nonterminals f_words f_treeLimit f_openSize f_openHeight f_ruleCount f_nodeCount f_rootCount f_labelled f_statementCount f_programNodes f_depth f_lastValue f_spent : Int32} {a_openToken a_openLow a_openHigh a_ruleLhs a_ruleCost a_ruleSize a_ruleToken a_ruleLow a_ruleHigh a_nodeOperator a_nodeValue a_subtreeFirst a_bestCost a_bestLength a_place a_covered a_statementStart a_statementNodes a_statementCost a_statementLength a_programOperator a_programValue a_memory a_arguments a_stack : Nat → Int32}
variable {rg nt rc nc : Nat}
theorem bu_L_comp (D : bu_Dat rg nt rc nc a_ruleToken a_ruleLhs a_ruleCost a_ruleSize a_nodeOperator) {n : Nat} (hn : n < nc) : bu_it (fun V => bu_ps (bu_M a_ruleToken a_ruleLow a_ruleHigh a_nodeOperator a_nodeValue (bu_cl a_ruleSize)) (bu_O a_ruleToken a_nodeOperator (bu_cl a_ruleSize) (bu_w rg a_ruleLhs a_ruleCost)) (bu_cl a_ruleLhs) (bu_ch a_ruleToken (bu_cl a_ruleSize)) n rc V) nt (bu_ps (bu_M a_ruleToken a_ruleLow a_ruleHigh a_nodeOperator a_nodeValue (bu_cl a_ruleSize)) (bu_O a_ruleToken a_nodeOperator (bu_cl a_ruleSize) (bu_w rg a_ruleLhs a_ruleCost)) (bu_cl a_ruleLhs) (fun r => !(bu_ch a_ruleToken (bu_cl a_ruleSize)) r) n rc (bu_L rg nt rc a_ruleToken a_ruleLow a_ruleHigh a_ruleSize a_ruleLhs a_ruleCost a_nodeOperator a_nodeValue n)) = bu_L rg nt rc a_ruleToken a_ruleLow a_ruleHigh a_ruleSize a_ruleLhs a_ruleCost a_nodeOperator a_nodeValue (n + 1) := bu_comp (bu_dsys D) hn
theorem bu_L_bd (D : bu_Dat rg nt rc nc a_ruleToken a_ruleLhs a_ruleCost a_ruleSize a_nodeOperator) {n : Nat} (hn : n ≤ nc) : bu_Bd (fun n => 6 * (n - bu_F a_nodeOperator n)) nc (bu_L rg nt rc a_ruleToken a_ruleLow a_ruleHigh a_ruleSize a_ruleLhs a_ruleCost a_nodeOperator a_nodeValue n) := bu_Bd_lab (bu_dsys D) (bu_dwt D) hn
theorem bu_L_I (n e : Nat) : bu_L rg nt rc a_ruleToken a_ruleLow a_ruleHigh a_ruleSize a_ruleLhs a_ruleCost a_nodeOperator a_nodeValue n e ≤ bu_I := bu_lab_I e n
theorem bu_L_hi (D : bu_Dat rg nt rc nc a_ruleToken a_ruleLhs a_ruleCost a_ruleSize a_nodeOperator) {n e : Nat} (h : 6 * n ≤ e) : bu_L rg nt rc a_ruleToken a_ruleLow a_ruleHigh a_ruleSize a_ruleLhs a_ruleCost a_nodeOperator a_nodeValue n e = bu_I := bu_lab_hi (bu_dsys (lo := a_ruleLow) (hi := a_ruleHigh) (nv := a_nodeValue) D) h
theorem bu_ps_I {M : Nat → Nat → Bool} {O : Nat → Nat → (Nat → Nat) → Nat} {lh : Nat → Nat} {sel : Nat → Bool} {n k : Nat} {V : Nat → Nat} (h : ∀ e, V e ≤ bu_I) (e : Nat) : bu_ps M O lh sel n k V e ≤ bu_I := Nat.le_trans (bu_ps_le sel n V e k) (h e)
theorem bu_it_I {f : (Nat → Nat) → Nat → Nat} (hf : ∀ V e, f V e ≤ V e) {V : Nat → Nat} {k : Nat} (h : ∀ e, V e ≤ bu_I) (e : Nat) : bu_it f k V e ≤ bu_I := Nat.le_trans (bu_it_le hf V e (Nat.zero_le k)) (h e)
theorem xn_90 {post : SX → Prop} {J : Int32 → Int32 → Int32 → Int32 → Int32 → Int32 → Int32 → Int32 → Int32 → Int32 → Int32 → Int32 → Int32 → Int32 → Int32 → Int32 → Int32 → (Nat → Int32) → (Nat → Int32) → (Nat → Int32) → (Nat → Int32) → (Nat → Int32) → (Nat → Int32) → (Nat → Int32) → (Nat → Int32) → (Nat → Int32) → (Nat → Int32) → (Nat → Int32) → (Nat → Int32) → (Nat → Int32) → (Nat → Int32) → (Nat → Int32) → (Nat → Int32) → (Nat → Int32) → (Nat → Int32) → (Nat → Int32) → (Nat → Int32) → (Nat → Int32) → (Nat → Int32) → (Nat → Int32) → (Nat → Int32) → (Nat → Int32) → Prop} {n : Nat} {x3 : Int32} {V : Nat → Nat} (D : bu_Dat rg nt rc nc a_ruleToken a_ruleLhs a_ruleCost a_ruleSize a_nodeOperator) (hn : n < nc)
    (hF : ∀ j, j < nc → a_subtreeFirst j = nI (bu_F a_nodeOperator j))
    (hB : bu_Bd (fun n => 6 * (n - bu_F a_nodeOperator n)) nc V) (hI : ∀ e, V e ≤ bu_I)
    (hJ : ∀ z P C bc bl, bu_Cor (6 * n + 6) (bu_ps (bu_M a_ruleToken a_ruleLow a_ruleHigh a_nodeOperator a_nodeValue (bu_cl a_ruleSize)) (bu_O a_ruleToken a_nodeOperator (bu_cl a_ruleSize) (bu_w rg a_ruleLhs a_ruleCost)) (bu_cl a_ruleLhs) (bu_ch a_ruleToken (bu_cl a_ruleSize)) n rc V) bc bl → (z = 0 → bu_ps (bu_M a_ruleToken a_ruleLow a_ruleHigh a_nodeOperator a_nodeValue (bu_cl a_ruleSize)) (bu_O a_ruleToken a_nodeOperator (bu_cl a_ruleSize) (bu_w rg a_ruleLhs a_ruleCost)) (bu_cl a_ruleLhs) (bu_ch a_ruleToken (bu_cl a_ruleSize)) n rc V = V) → J z (x3 + 1) (nI rg) f_nonterminals f_words f_treeLimit f_openSize f_openHeight (nI rc) f_nodeCount f_rootCount f_labelled f_statementCount f_programNodes f_depth f_lastValue f_spent a_openToken a_openLow a_openHigh a_ruleLhs a_ruleCost a_ruleSize a_ruleToken a_ruleLow a_ruleHigh a_nodeOperator a_nodeValue a_subtreeFirst bc bl P C a_statementStart a_statementNodes a_statementCost a_statementLength a_programOperator a_programValue a_memory a_arguments a_stack) :
    ∀ (fuel k : Nat) (z : Int32) (P C bc bl : Nat → Int32), rc < k + fuel → k ≤ rc → bu_Cor (6 * n + 6) (bu_ps (bu_M a_ruleToken a_ruleLow a_ruleHigh a_nodeOperator a_nodeValue (bu_cl a_ruleSize)) (bu_O a_ruleToken a_nodeOperator (bu_cl a_ruleSize) (bu_w rg a_ruleLhs a_ruleCost)) (bu_cl a_ruleLhs) (bu_ch a_ruleToken (bu_cl a_ruleSize)) n k V) bc bl → (z = 0 → bu_ps (bu_M a_ruleToken a_ruleLow a_ruleHigh a_nodeOperator a_nodeValue (bu_cl a_ruleSize)) (bu_O a_ruleToken a_nodeOperator (bu_cl a_ruleSize) (bu_w rg a_ruleLhs a_ruleCost)) (bu_cl a_ruleLhs) (bu_ch a_ruleToken (bu_cl a_ruleSize)) n k V = V) →
      wX_labelNode_90 post J (nI n) x3 fuel z (nI k) (nI rg) f_nonterminals f_words f_treeLimit f_openSize f_openHeight (nI rc) f_nodeCount f_rootCount f_labelled f_statementCount f_programNodes f_depth f_lastValue f_spent a_openToken a_openLow a_openHigh a_ruleLhs a_ruleCost a_ruleSize a_ruleToken a_ruleLow a_ruleHigh a_nodeOperator a_nodeValue a_subtreeFirst bc bl P C a_statementStart a_statementNodes a_statementCost a_statementLength a_programOperator a_programValue a_memory a_arguments a_stack := by
  have S := bu_dsys (lo := a_ruleLow) (hi := a_ruleHigh) (nv := a_nodeValue) D
  have W := bu_dwt (lo := a_ruleLow) (hi := a_ruleHigh) (nv := a_nodeValue) D
  have r24 := D.2.2.2.1
  have n20 := D.2.2.2.2.1
  intro fuel
  induction fuel with
  | zero => intro k z P C bc bl hf hk; omega
  | succ fuel ih =>
    intro k z P C bc bl hf hk hC hz
    rw [wX_labelNode_90]
    dsimp only
    rcases Nat.lt_or_ge k rc with y | y
    · refine br_f (nI_ge y (by omega)) ?_
      refine xn_chain D y (fun c1 => br_f (by decide) ?_) (fun c0 => br_t rfl (nm_r (nI_1 k) ?_))
      · have es : bu_ps (bu_M a_ruleToken a_ruleLow a_ruleHigh a_nodeOperator a_nodeValue (bu_cl a_ruleSize)) (bu_O a_ruleToken a_nodeOperator (bu_cl a_ruleSize) (bu_w rg a_ruleLhs a_ruleCost)) (bu_cl a_ruleLhs) (bu_ch a_ruleToken (bu_cl a_ruleSize)) n (k + 1) V = bu_rx (bu_M a_ruleToken a_ruleLow a_ruleHigh a_nodeOperator a_nodeValue (bu_cl a_ruleSize)) (bu_O a_ruleToken a_nodeOperator (bu_cl a_ruleSize) (bu_w rg a_ruleLhs a_ruleCost)) (bu_cl a_ruleLhs) k n (bu_ps (bu_M a_ruleToken a_ruleLow a_ruleHigh a_nodeOperator a_nodeValue (bu_cl a_ruleSize)) (bu_O a_ruleToken a_nodeOperator (bu_cl a_ruleSize) (bu_w rg a_ruleLhs a_ruleCost)) (bu_cl a_ruleLhs) (bu_ch a_ruleToken (bu_cl a_ruleSize)) n k V) := by rw [bu_ps_s, if_pos c1]
        refine xa_apply (m := 6 * n + 6) (V := bu_ps (bu_M a_ruleToken a_ruleLow a_ruleHigh a_nodeOperator a_nodeValue (bu_cl a_ruleSize)) (bu_O a_ruleToken a_nodeOperator (bu_cl a_ruleSize) (bu_w rg a_ruleLhs a_ruleCost)) (bu_cl a_ruleLhs) (bu_ch a_ruleToken (bu_cl a_ruleSize)) n k V) D y hn (by omega) (by omega) hF (bu_Bd_ps S W hB hn hk) (bu_ps_I hI) hC (fun P' C' bc' bl' v hC' hv => ?_)
        rw [← es] at hC' hv
        by_cases z0 : z = 0
        · refine br_t z0 ?_
          rcases hv with ⟨v0, v1⟩ | v1
          · refine br_t v0 (nm_r (nI_1 k) (ih (k + 1) 0 P' C' bc' bl' (by omega) (by omega) hC' (fun _ => v1.trans (hz z0))))
          · refine br_f (by rw [v1]; decide) (nm_r (nI_1 k) (ih (k + 1) 1 P' C' bc' bl' (by omega) (by omega) hC' (fun q => absurd q (by decide))))
        · exact br_f z0 (nm_r (nI_1 k) (ih (k + 1) 1 P' C' bc' bl' (by omega) (by omega) hC' (fun q => absurd q (by decide))))
      · have es : bu_ps (bu_M a_ruleToken a_ruleLow a_ruleHigh a_nodeOperator a_nodeValue (bu_cl a_ruleSize)) (bu_O a_ruleToken a_nodeOperator (bu_cl a_ruleSize) (bu_w rg a_ruleLhs a_ruleCost)) (bu_cl a_ruleLhs) (bu_ch a_ruleToken (bu_cl a_ruleSize)) n (k + 1) V = bu_ps (bu_M a_ruleToken a_ruleLow a_ruleHigh a_nodeOperator a_nodeValue (bu_cl a_ruleSize)) (bu_O a_ruleToken a_nodeOperator (bu_cl a_ruleSize) (bu_w rg a_ruleLhs a_ruleCost)) (bu_cl a_ruleLhs) (bu_ch a_ruleToken (bu_cl a_ruleSize)) n k V := by rw [bu_ps_s, if_neg (by rw [c0]; decide)]
        exact ih (k + 1) z P C bc bl (by omega) (by omega) (by rw [es]; exact hC) (by rw [es]; exact hz)
    · have ek : k = rc := by omega
      subst ek
      exact br_t (nI_le (by omega) (by omega)) (nm_e (hJ z P C bc bl hC hz))
theorem xn_73 {post : SX → Prop} {n : Nat} (D : bu_Dat rg nt rc nc a_ruleToken a_ruleLhs a_ruleCost a_ruleSize a_nodeOperator) (hn : n < nc)
    (hF : ∀ j, j < nc → a_subtreeFirst j = nI (bu_F a_nodeOperator j))
    (h : ∀ P C bc bl, bu_Cor (6 * n + 6) (bu_L rg nt rc a_ruleToken a_ruleLow a_ruleHigh a_ruleSize a_ruleLhs a_ruleCost a_nodeOperator a_nodeValue (n + 1)) bc bl → post ((nI rg), (nI nt), f_words, f_treeLimit, f_openSize, f_openHeight, (nI rc), f_nodeCount, f_rootCount, f_labelled, f_statementCount, f_programNodes, f_depth, f_lastValue, f_spent, a_openToken, a_openLow, a_openHigh, a_ruleLhs, a_ruleCost, a_ruleSize, a_ruleToken, a_ruleLow, a_ruleHigh, a_nodeOperator, a_nodeValue, a_subtreeFirst, bc, bl, P, C, a_statementStart, a_statementNodes, a_statementCost, a_statementLength, a_programOperator, a_programValue, a_memory, a_arguments, a_stack)) :
    ∀ (fuel j : Nat) (z : Int32) (P C bc bl : Nat → Int32), nt < j + fuel → j ≤ nt →
      bu_Cor (6 * n + 6) (bu_it (fun V => bu_ps (bu_M a_ruleToken a_ruleLow a_ruleHigh a_nodeOperator a_nodeValue (bu_cl a_ruleSize)) (bu_O a_ruleToken a_nodeOperator (bu_cl a_ruleSize) (bu_w rg a_ruleLhs a_ruleCost)) (bu_cl a_ruleLhs) (bu_ch a_ruleToken (bu_cl a_ruleSize)) n rc V) j (bu_ps (bu_M a_ruleToken a_ruleLow a_ruleHigh a_nodeOperator a_nodeValue (bu_cl a_ruleSize)) (bu_O a_ruleToken a_nodeOperator (bu_cl a_ruleSize) (bu_w rg a_ruleLhs a_ruleCost)) (bu_cl a_ruleLhs) (fun r => !(bu_ch a_ruleToken (bu_cl a_ruleSize)) r) n rc (bu_L rg nt rc a_ruleToken a_ruleLow a_ruleHigh a_ruleSize a_ruleLhs a_ruleCost a_nodeOperator a_nodeValue n))) bc bl →
      (z = 0 → bu_ps (bu_M a_ruleToken a_ruleLow a_ruleHigh a_nodeOperator a_nodeValue (bu_cl a_ruleSize)) (bu_O a_ruleToken a_nodeOperator (bu_cl a_ruleSize) (bu_w rg a_ruleLhs a_ruleCost)) (bu_cl a_ruleLhs) (bu_ch a_ruleToken (bu_cl a_ruleSize)) n rc (bu_it (fun V => bu_ps (bu_M a_ruleToken a_ruleLow a_ruleHigh a_nodeOperator a_nodeValue (bu_cl a_ruleSize)) (bu_O a_ruleToken a_nodeOperator (bu_cl a_ruleSize) (bu_w rg a_ruleLhs a_ruleCost)) (bu_cl a_ruleLhs) (bu_ch a_ruleToken (bu_cl a_ruleSize)) n rc V) j (bu_ps (bu_M a_ruleToken a_ruleLow a_ruleHigh a_nodeOperator a_nodeValue (bu_cl a_ruleSize)) (bu_O a_ruleToken a_nodeOperator (bu_cl a_ruleSize) (bu_w rg a_ruleLhs a_ruleCost)) (bu_cl a_ruleLhs) (fun r => !(bu_ch a_ruleToken (bu_cl a_ruleSize)) r) n rc (bu_L rg nt rc a_ruleToken a_ruleLow a_ruleHigh a_ruleSize a_ruleLhs a_ruleCost a_nodeOperator a_nodeValue n))) = bu_it (fun V => bu_ps (bu_M a_ruleToken a_ruleLow a_ruleHigh a_nodeOperator a_nodeValue (bu_cl a_ruleSize)) (bu_O a_ruleToken a_nodeOperator (bu_cl a_ruleSize) (bu_w rg a_ruleLhs a_ruleCost)) (bu_cl a_ruleLhs) (bu_ch a_ruleToken (bu_cl a_ruleSize)) n rc V) j (bu_ps (bu_M a_ruleToken a_ruleLow a_ruleHigh a_nodeOperator a_nodeValue (bu_cl a_ruleSize)) (bu_O a_ruleToken a_nodeOperator (bu_cl a_ruleSize) (bu_w rg a_ruleLhs a_ruleCost)) (bu_cl a_ruleLhs) (fun r => !(bu_ch a_ruleToken (bu_cl a_ruleSize)) r) n rc (bu_L rg nt rc a_ruleToken a_ruleLow a_ruleHigh a_ruleSize a_ruleLhs a_ruleCost a_nodeOperator a_nodeValue n))) →
      wX_labelNode_73 post (nI n) fuel z (nI j) (nI rg) (nI nt) f_words f_treeLimit f_openSize f_openHeight (nI rc) f_nodeCount f_rootCount f_labelled f_statementCount f_programNodes f_depth f_lastValue f_spent a_openToken a_openLow a_openHigh a_ruleLhs a_ruleCost a_ruleSize a_ruleToken a_ruleLow a_ruleHigh a_nodeOperator a_nodeValue a_subtreeFirst bc bl P C a_statementStart a_statementNodes a_statementCost a_statementLength a_programOperator a_programValue a_memory a_arguments a_stack := by
  have S := bu_dsys (lo := a_ruleLow) (hi := a_ruleHigh) (nv := a_nodeValue) D
  have W := bu_dwt (lo := a_ruleLow) (hi := a_ruleHigh) (nv := a_nodeValue) D
  have t6 := D.2.2.1
  have fin := bu_L_comp (a_ruleLow := a_ruleLow) (a_ruleHigh := a_ruleHigh) (a_nodeValue := a_nodeValue) D hn
  have B0 : bu_Bd (fun n => 6 * (n - bu_F a_nodeOperator n)) nc (bu_ps (bu_M a_ruleToken a_ruleLow a_ruleHigh a_nodeOperator a_nodeValue (bu_cl a_ruleSize)) (bu_O a_ruleToken a_nodeOperator (bu_cl a_ruleSize) (bu_w rg a_ruleLhs a_ruleCost)) (bu_cl a_ruleLhs) (fun r => !(bu_ch a_ruleToken (bu_cl a_ruleSize)) r) n rc (bu_L rg nt rc a_ruleToken a_ruleLow a_ruleHigh a_ruleSize a_ruleLhs a_ruleCost a_nodeOperator a_nodeValue n)) := bu_Bd_ps S W (bu_L_bd D (by omega)) hn (Nat.le_refl _)
  have I0 : ∀ e, bu_ps (bu_M a_ruleToken a_ruleLow a_ruleHigh a_nodeOperator a_nodeValue (bu_cl a_ruleSize)) (bu_O a_ruleToken a_nodeOperator (bu_cl a_ruleSize) (bu_w rg a_ruleLhs a_ruleCost)) (bu_cl a_ruleLhs) (fun r => !(bu_ch a_ruleToken (bu_cl a_ruleSize)) r) n rc (bu_L rg nt rc a_ruleToken a_ruleLow a_ruleHigh a_ruleSize a_ruleLhs a_ruleCost a_nodeOperator a_nodeValue n) e ≤ bu_I := bu_ps_I (bu_L_I n)
  have hB : ∀ j, bu_Bd (fun n => 6 * (n - bu_F a_nodeOperator n)) nc (bu_it (fun V => bu_ps (bu_M a_ruleToken a_ruleLow a_ruleHigh a_nodeOperator a_nodeValue (bu_cl a_ruleSize)) (bu_O a_ruleToken a_nodeOperator (bu_cl a_ruleSize) (bu_w rg a_ruleLhs a_ruleCost)) (bu_cl a_ruleLhs) (bu_ch a_ruleToken (bu_cl a_ruleSize)) n rc V) j (bu_ps (bu_M a_ruleToken a_ruleLow a_ruleHigh a_nodeOperator a_nodeValue (bu_cl a_ruleSize)) (bu_O a_ruleToken a_nodeOperator (bu_cl a_ruleSize) (bu_w rg a_ruleLhs a_ruleCost)) (bu_cl a_ruleLhs) (fun r => !(bu_ch a_ruleToken (bu_cl a_ruleSize)) r) n rc (bu_L rg nt rc a_ruleToken a_ruleLow a_ruleHigh a_ruleSize a_ruleLhs a_ruleCost a_nodeOperator a_nodeValue n))) := by
    intro j
    induction j with
    | zero => exact B0
    | succ j ih => exact bu_Bd_ps S W ih hn (Nat.le_refl _)
  have hI : ∀ j e, bu_it (fun V => bu_ps (bu_M a_ruleToken a_ruleLow a_ruleHigh a_nodeOperator a_nodeValue (bu_cl a_ruleSize)) (bu_O a_ruleToken a_nodeOperator (bu_cl a_ruleSize) (bu_w rg a_ruleLhs a_ruleCost)) (bu_cl a_ruleLhs) (bu_ch a_ruleToken (bu_cl a_ruleSize)) n rc V) j (bu_ps (bu_M a_ruleToken a_ruleLow a_ruleHigh a_nodeOperator a_nodeValue (bu_cl a_ruleSize)) (bu_O a_ruleToken a_nodeOperator (bu_cl a_ruleSize) (bu_w rg a_ruleLhs a_ruleCost)) (bu_cl a_ruleLhs) (fun r => !(bu_ch a_ruleToken (bu_cl a_ruleSize)) r) n rc (bu_L rg nt rc a_ruleToken a_ruleLow a_ruleHigh a_ruleSize a_ruleLhs a_ruleCost a_nodeOperator a_nodeValue n)) e ≤ bu_I := fun j => bu_it_I (fun V e => bu_ps_le _ _ _ _ _) I0
  generalize bu_ps (bu_M a_ruleToken a_ruleLow a_ruleHigh a_nodeOperator a_nodeValue (bu_cl a_ruleSize)) (bu_O a_ruleToken a_nodeOperator (bu_cl a_ruleSize) (bu_w rg a_ruleLhs a_ruleCost)) (bu_cl a_ruleLhs) (fun r => !(bu_ch a_ruleToken (bu_cl a_ruleSize)) r) n rc (bu_L rg nt rc a_ruleToken a_ruleLow a_ruleHigh a_ruleSize a_ruleLhs a_ruleCost a_nodeOperator a_nodeValue n) = B at *
  intro fuel
  induction fuel with
  | zero => intro j z P C bc bl hf hj; omega
  | succ fuel ih =>
    intro j z P C bc bl hf hj hC hz
    rw [wX_labelNode_73]
    dsimp only
    rcases Nat.lt_or_ge j nt with y | y
    · refine br_f (nI_ge y (by omega)) ?_
      by_cases z0 : z = 0
      · refine br_t z0 (h P C bc bl ?_)
        have e := bu_it_fix (f := fun V => bu_ps (bu_M a_ruleToken a_ruleLow a_ruleHigh a_nodeOperator a_nodeValue (bu_cl a_ruleSize)) (bu_O a_ruleToken a_nodeOperator (bu_cl a_ruleSize) (bu_w rg a_ruleLhs a_ruleCost)) (bu_cl a_ruleLhs) (bu_ch a_ruleToken (bu_cl a_ruleSize)) n rc V) (V := B) (j := j) (hz z0) (k := nt) hj
        rw [← fin, e]; exact hC
      · refine br_f z0 ⟨rc + 1, ?_⟩
        refine xn_90 (V := bu_it (fun V => bu_ps (bu_M a_ruleToken a_ruleLow a_ruleHigh a_nodeOperator a_nodeValue (bu_cl a_ruleSize)) (bu_O a_ruleToken a_nodeOperator (bu_cl a_ruleSize) (bu_w rg a_ruleLhs a_ruleCost)) (bu_cl a_ruleLhs) (bu_ch a_ruleToken (bu_cl a_ruleSize)) n rc V) j B) D hn hF (hB j) (hI j) (fun z' P' C' bc' bl' k1 k2 => ?_) (rc + 1) 0 0 P C bc bl (by omega) (by omega) hC (fun _ => rfl)
        rw [nI_1]
        refine ih (j + 1) z' P' C' bc' bl' (by omega) (by omega) k1 ?_
        intro q
        rw [bu_it_s]
        have := k2 q
        rw [this]
        exact this
    · have ej : j = nt := by omega
      subst ej
      refine br_t (nI_le (by omega) (by omega)) (h P C bc bl ?_)
      rw [← fin]; exact hC
theorem xn_40 {post : SX → Prop} {n : Nat} (D : bu_Dat rg nt rc nc a_ruleToken a_ruleLhs a_ruleCost a_ruleSize a_nodeOperator) (hn : n < nc)
    (hF : ∀ j, j < nc → a_subtreeFirst j = nI (bu_F a_nodeOperator j))
    (h : ∀ P C bc bl, bu_Cor (6 * n + 6) (bu_L rg nt rc a_ruleToken a_ruleLow a_ruleHigh a_ruleSize a_ruleLhs a_ruleCost a_nodeOperator a_nodeValue (n + 1)) bc bl → post ((nI rg), (nI nt), f_words, f_treeLimit, f_openSize, f_openHeight, (nI rc), f_nodeCount, f_rootCount, f_labelled, f_statementCount, f_programNodes, f_depth, f_lastValue, f_spent, a_openToken, a_openLow, a_openHigh, a_ruleLhs, a_ruleCost, a_ruleSize, a_ruleToken, a_ruleLow, a_ruleHigh, a_nodeOperator, a_nodeValue, a_subtreeFirst, bc, bl, P, C, a_statementStart, a_statementNodes, a_statementCost, a_statementLength, a_programOperator, a_programValue, a_memory, a_arguments, a_stack)) :
    ∀ (fuel k : Nat) (P C bc bl : Nat → Int32), rc < k + fuel → k ≤ rc →
      bu_Cor (6 * n + 6) (bu_ps (bu_M a_ruleToken a_ruleLow a_ruleHigh a_nodeOperator a_nodeValue (bu_cl a_ruleSize)) (bu_O a_ruleToken a_nodeOperator (bu_cl a_ruleSize) (bu_w rg a_ruleLhs a_ruleCost)) (bu_cl a_ruleLhs) (fun r => !(bu_ch a_ruleToken (bu_cl a_ruleSize)) r) n k (bu_L rg nt rc a_ruleToken a_ruleLow a_ruleHigh a_ruleSize a_ruleLhs a_ruleCost a_nodeOperator a_nodeValue n)) bc bl →
      wX_labelNode_40 post (nI n) fuel (nI k) (nI rg) (nI nt) f_words f_treeLimit f_openSize f_openHeight (nI rc) f_nodeCount f_rootCount f_labelled f_statementCount f_programNodes f_depth f_lastValue f_spent a_openToken a_openLow a_openHigh a_ruleLhs a_ruleCost a_ruleSize a_ruleToken a_ruleLow a_ruleHigh a_nodeOperator a_nodeValue a_subtreeFirst bc bl P C a_statementStart a_statementNodes a_statementCost a_statementLength a_programOperator a_programValue a_memory a_arguments a_stack := by
  have S := bu_dsys (lo := a_ruleLow) (hi := a_ruleHigh) (nv := a_nodeValue) D
  have W := bu_dwt (lo := a_ruleLow) (hi := a_ruleHigh) (nv := a_nodeValue) D
  have r24 := D.2.2.2.1
  have n20 := D.2.2.2.2.1
  have t6 := D.2.2.1
  have hB := bu_L_bd (a_ruleLow := a_ruleLow) (a_ruleHigh := a_ruleHigh) (a_nodeValue := a_nodeValue) D (n := n) (by omega)
  intro fuel
  induction fuel with
  | zero => intro k P C bc bl hf hk; omega
  | succ fuel ih =>
    intro k P C bc bl hf hk hC
    rw [wX_labelNode_40]
    dsimp only
    rcases Nat.lt_or_ge k rc with y | y
    · refine br_f (nI_ge y (by omega)) ?_
      refine xn_chain D y (fun c1 => br_f (by decide) (nm_r (nI_1 k) ?_)) (fun c0 => br_t rfl ?_)
      · have es : bu_ps (bu_M a_ruleToken a_ruleLow a_ruleHigh a_nodeOperator a_nodeValue (bu_cl a_ruleSize)) (bu_O a_ruleToken a_nodeOperator (bu_cl a_ruleSize) (bu_w rg a_ruleLhs a_ruleCost)) (bu_cl a_ruleLhs) (fun r => !(bu_ch a_ruleToken (bu_cl a_ruleSize)) r) n (k + 1) (bu_L rg nt rc a_ruleToken a_ruleLow a_ruleHigh a_ruleSize a_ruleLhs a_ruleCost a_nodeOperator a_nodeValue n) = bu_ps (bu_M a_ruleToken a_ruleLow a_ruleHigh a_nodeOperator a_nodeValue (bu_cl a_ruleSize)) (bu_O a_ruleToken a_nodeOperator (bu_cl a_ruleSize) (bu_w rg a_ruleLhs a_ruleCost)) (bu_cl a_ruleLhs) (fun r => !(bu_ch a_ruleToken (bu_cl a_ruleSize)) r) n k (bu_L rg nt rc a_ruleToken a_ruleLow a_ruleHigh a_ruleSize a_ruleLhs a_ruleCost a_nodeOperator a_nodeValue n) := by rw [bu_ps_s, if_neg (by rw [c1]; decide)]
        exact ih (k + 1) P C bc bl (by omega) (by omega) (by rw [es]; exact hC)
      · have es : bu_ps (bu_M a_ruleToken a_ruleLow a_ruleHigh a_nodeOperator a_nodeValue (bu_cl a_ruleSize)) (bu_O a_ruleToken a_nodeOperator (bu_cl a_ruleSize) (bu_w rg a_ruleLhs a_ruleCost)) (bu_cl a_ruleLhs) (fun r => !(bu_ch a_ruleToken (bu_cl a_ruleSize)) r) n (k + 1) (bu_L rg nt rc a_ruleToken a_ruleLow a_ruleHigh a_ruleSize a_ruleLhs a_ruleCost a_nodeOperator a_nodeValue n) = bu_rx (bu_M a_ruleToken a_ruleLow a_ruleHigh a_nodeOperator a_nodeValue (bu_cl a_ruleSize)) (bu_O a_ruleToken a_nodeOperator (bu_cl a_ruleSize) (bu_w rg a_ruleLhs a_ruleCost)) (bu_cl a_ruleLhs) k n (bu_ps (bu_M a_ruleToken a_ruleLow a_ruleHigh a_nodeOperator a_nodeValue (bu_cl a_ruleSize)) (bu_O a_ruleToken a_nodeOperator (bu_cl a_ruleSize) (bu_w rg a_ruleLhs a_ruleCost)) (bu_cl a_ruleLhs) (fun r => !(bu_ch a_ruleToken (bu_cl a_ruleSize)) r) n k (bu_L rg nt rc a_ruleToken a_ruleLow a_ruleHigh a_ruleSize a_ruleLhs a_ruleCost a_nodeOperator a_nodeValue n)) := by rw [bu_ps_s, if_pos (by rw [c0]; rfl)]
        refine xa_apply (m := 6 * n + 6) (V := bu_ps (bu_M a_ruleToken a_ruleLow a_ruleHigh a_nodeOperator a_nodeValue (bu_cl a_ruleSize)) (bu_O a_ruleToken a_nodeOperator (bu_cl a_ruleSize) (bu_w rg a_ruleLhs a_ruleCost)) (bu_cl a_ruleLhs) (fun r => !(bu_ch a_ruleToken (bu_cl a_ruleSize)) r) n k (bu_L rg nt rc a_ruleToken a_ruleLow a_ruleHigh a_ruleSize a_ruleLhs a_ruleCost a_nodeOperator a_nodeValue n)) D y hn (by omega) (by omega) hF (bu_Bd_ps S W hB hn hk) (bu_ps_I (bu_L_I n)) hC (fun P' C' bc' bl' v hC' hv => nm_r (nI_1 k) (ih (k + 1) P' C' bc' bl' (by omega) (by omega) (by rw [es]; exact hC')))
    · have ek : k = rc := by omega
      subst ek
      exact br_t (nI_le (by omega) (by omega)) ⟨nt + 1, xn_73 D hn hF h (nt + 1) 0 1 P C bc bl (by omega) (by omega) hC (fun q => absurd q (by decide))⟩
theorem xn_2 {post : SX → Prop} {n : Nat} (D : bu_Dat rg nt rc nc a_ruleToken a_ruleLhs a_ruleCost a_ruleSize a_nodeOperator) (hn : n < nc)
    (hF : ∀ j, j < nc → a_subtreeFirst j = nI (bu_F a_nodeOperator j))
    (h : ∀ P C bc bl, bu_Cor (6 * n + 6) (bu_L rg nt rc a_ruleToken a_ruleLow a_ruleHigh a_ruleSize a_ruleLhs a_ruleCost a_nodeOperator a_nodeValue (n + 1)) bc bl → post ((nI rg), (nI nt), f_words, f_treeLimit, f_openSize, f_openHeight, (nI rc), f_nodeCount, f_rootCount, f_labelled, f_statementCount, f_programNodes, f_depth, f_lastValue, f_spent, a_openToken, a_openLow, a_openHigh, a_ruleLhs, a_ruleCost, a_ruleSize, a_ruleToken, a_ruleLow, a_ruleHigh, a_nodeOperator, a_nodeValue, a_subtreeFirst, bc, bl, P, C, a_statementStart, a_statementNodes, a_statementCost, a_statementLength, a_programOperator, a_programValue, a_memory, a_arguments, a_stack)) :
    ∀ (fuel t : Nat) (bc bl : Nat → Int32), 6 < t + fuel → t ≤ 6 → bu_Cor (6 * n + t) (bu_L rg nt rc a_ruleToken a_ruleLow a_ruleHigh a_ruleSize a_ruleLhs a_ruleCost a_nodeOperator a_nodeValue n) bc bl →
      wX_labelNode_2 post (nI n) (nI rg) (nI nt) f_words f_treeLimit f_openSize f_openHeight (nI rc) f_nodeCount f_rootCount f_labelled f_statementCount f_programNodes f_depth f_lastValue f_spent fuel (nI t) a_openToken a_openLow a_openHigh a_ruleLhs a_ruleCost a_ruleSize a_ruleToken a_ruleLow a_ruleHigh a_nodeOperator a_nodeValue a_subtreeFirst bc bl a_place a_covered a_statementStart a_statementNodes a_statementCost a_statementLength a_programOperator a_programValue a_memory a_arguments a_stack := by
  have n20 := D.2.2.2.2.1
  intro fuel
  induction fuel with
  | zero => intro t bc bl hf ht; omega
  | succ fuel ih =>
    intro t bc bl hf ht hC
    rw [wX_labelNode_2]
    dsimp only
    rcases Nat.lt_or_ge t 6 with y | y
    · refine br_f (nI_ge (b := 6) y (by decide)) ?_
      have hi : vp_in (nI (6 * n + t)) 120 := vp_in_nI (by omega) (by decide)
      rw [bu_x6, nI_add, nI_clamp (n := 6 * n + t) (by omega)]
      refine ⟨hi, nm_e ⟨hi, nm_e (nm_r (nI_1 t) (ih (t + 1) _ _ (by omega) (by omega) ?_))⟩⟩
      intro e he
      by_cases q : e = 6 * n + t
      · subst q
        rw [pk_us]
        exact Or.inl ⟨bu_L_hi D (by omega), rfl⟩
      · rw [pk_un q, pk_un q]
        exact hC e (by omega)
    · have et : t = 6 := by omega
      subst et
      exact br_t (nI_le (by omega) (by omega)) ⟨rc + 1, xn_40 D hn hF h (rc + 1) 0 a_place a_covered bc bl (by omega) (by omega) hC⟩
theorem xn_node {post : SX → Prop} {n : Nat} (D : bu_Dat rg nt rc nc a_ruleToken a_ruleLhs a_ruleCost a_ruleSize a_nodeOperator) (hn : n < nc)
    (hF : ∀ j, j < nc → a_subtreeFirst j = nI (bu_F a_nodeOperator j)) (hC : bu_Cor (6 * n) (bu_L rg nt rc a_ruleToken a_ruleLow a_ruleHigh a_ruleSize a_ruleLhs a_ruleCost a_nodeOperator a_nodeValue n) a_bestCost a_bestLength)
    (h : ∀ P C bc bl, bu_Cor (6 * n + 6) (bu_L rg nt rc a_ruleToken a_ruleLow a_ruleHigh a_ruleSize a_ruleLhs a_ruleCost a_nodeOperator a_nodeValue (n + 1)) bc bl → post ((nI rg), (nI nt), f_words, f_treeLimit, f_openSize, f_openHeight, (nI rc), f_nodeCount, f_rootCount, f_labelled, f_statementCount, f_programNodes, f_depth, f_lastValue, f_spent, a_openToken, a_openLow, a_openHigh, a_ruleLhs, a_ruleCost, a_ruleSize, a_ruleToken, a_ruleLow, a_ruleHigh, a_nodeOperator, a_nodeValue, a_subtreeFirst, bc, bl, P, C, a_statementStart, a_statementNodes, a_statementCost, a_statementLength, a_programOperator, a_programValue, a_memory, a_arguments, a_stack)) :
    wpX_labelNode post ((nI rg), (nI nt), f_words, f_treeLimit, f_openSize, f_openHeight, (nI rc), f_nodeCount, f_rootCount, f_labelled, f_statementCount, f_programNodes, f_depth, f_lastValue, f_spent, a_openToken, a_openLow, a_openHigh, a_ruleLhs, a_ruleCost, a_ruleSize, a_ruleToken, a_ruleLow, a_ruleHigh, a_nodeOperator, a_nodeValue, a_subtreeFirst, a_bestCost, a_bestLength, a_place, a_covered, a_statementStart, a_statementNodes, a_statementCost, a_statementLength, a_programOperator, a_programValue, a_memory, a_arguments, a_stack) (nI n) :=
  ⟨7, xn_2 D hn hF h 7 0 a_bestCost a_bestLength (by omega) (by omega) hC⟩
theorem xn_up {post : SX → Prop} {n : Nat} (D : bu_Dat rg nt rc nc a_ruleToken a_ruleLhs a_ruleCost a_ruleSize a_nodeOperator) (hn : n < nc)
    (hF : ∀ j, j < nc → a_subtreeFirst j = nI (bu_F a_nodeOperator j))
    (h : ∀ P C bc bl k, n < k → k ≤ nc → bu_Cor (6 * k) (bu_L rg nt rc a_ruleToken a_ruleLow a_ruleHigh a_ruleSize a_ruleLhs a_ruleCost a_nodeOperator a_nodeValue k) bc bl → post ((nI rg), (nI nt), f_words, f_treeLimit, f_openSize, f_openHeight, (nI rc), f_nodeCount, f_rootCount, (nI k), f_statementCount, f_programNodes, f_depth, f_lastValue, f_spent, a_openToken, a_openLow, a_openHigh, a_ruleLhs, a_ruleCost, a_ruleSize, a_ruleToken, a_ruleLow, a_ruleHigh, a_nodeOperator, a_nodeValue, a_subtreeFirst, bc, bl, P, C, a_statementStart, a_statementNodes, a_statementCost, a_statementLength, a_programOperator, a_programValue, a_memory, a_arguments, a_stack)) :
    ∀ (fuel k : Nat) (P C bc bl : Nat → Int32), n + 1 < k + fuel → k ≤ nc → bu_Cor (6 * k) (bu_L rg nt rc a_ruleToken a_ruleLow a_ruleHigh a_ruleSize a_ruleLhs a_ruleCost a_nodeOperator a_nodeValue k) bc bl →
      wX_labelUpTo_5 post (nI n) (fuel + 1) (nI k) (nI rg) (nI nt) f_words f_treeLimit f_openSize f_openHeight (nI rc) f_nodeCount f_rootCount (nI k) f_statementCount f_programNodes f_depth f_lastValue f_spent a_openToken a_openLow a_openHigh a_ruleLhs a_ruleCost a_ruleSize a_ruleToken a_ruleLow a_ruleHigh a_nodeOperator a_nodeValue a_subtreeFirst bc bl P C a_statementStart a_statementNodes a_statementCost a_statementLength a_programOperator a_programValue a_memory a_arguments a_stack := by
  have n20 := D.2.2.2.2.1
  intro fuel
  induction fuel with
  | zero =>
    intro k P C bc bl hf hk hC
    rw [wX_labelUpTo_5]
    dsimp only
    exact br_t (nI_lt (by omega) (by omega)) (h P C bc bl k (by omega) hk hC)
  | succ fuel ih =>
    intro k P C bc bl hf hk hC
    rw [wX_labelUpTo_5]
    dsimp only
    rcases Nat.lt_or_ge n k with y | y
    · exact br_t (nI_lt (by omega) (by omega)) (h P C bc bl k (by omega) hk hC)
    · refine br_f (nI_nlt (by omega) (by omega)) ?_
      refine xn_node D (n := k) (by omega) hF hC (fun P' C' bc' bl' hC' => nm_r (nI_1 k) (nm_r (nI_1 k) (ih (k + 1) P' C' bc' bl' (by omega) (by omega) ?_)))
      rw [show 6 * (k + 1) = 6 * k + 6 by omega]; exact hC'
theorem xn_upTo {post : SX → Prop} {n lb : Nat} (D : bu_Dat rg nt rc nc a_ruleToken a_ruleLhs a_ruleCost a_ruleSize a_nodeOperator) (hn : n < nc) (hl : lb ≤ nc)
    (hF : ∀ j, j < nc → a_subtreeFirst j = nI (bu_F a_nodeOperator j)) (hC : bu_Cor (6 * lb) (bu_L rg nt rc a_ruleToken a_ruleLow a_ruleHigh a_ruleSize a_ruleLhs a_ruleCost a_nodeOperator a_nodeValue lb) a_bestCost a_bestLength)
    (h : ∀ P C bc bl k, n < k → k ≤ nc → bu_Cor (6 * k) (bu_L rg nt rc a_ruleToken a_ruleLow a_ruleHigh a_ruleSize a_ruleLhs a_ruleCost a_nodeOperator a_nodeValue k) bc bl → post ((nI rg), (nI nt), f_words, f_treeLimit, f_openSize, f_openHeight, (nI rc), f_nodeCount, f_rootCount, (nI k), f_statementCount, f_programNodes, f_depth, f_lastValue, f_spent, a_openToken, a_openLow, a_openHigh, a_ruleLhs, a_ruleCost, a_ruleSize, a_ruleToken, a_ruleLow, a_ruleHigh, a_nodeOperator, a_nodeValue, a_subtreeFirst, bc, bl, P, C, a_statementStart, a_statementNodes, a_statementCost, a_statementLength, a_programOperator, a_programValue, a_memory, a_arguments, a_stack)) :
    wpX_labelUpTo post ((nI rg), (nI nt), f_words, f_treeLimit, f_openSize, f_openHeight, (nI rc), f_nodeCount, f_rootCount, (nI lb), f_statementCount, f_programNodes, f_depth, f_lastValue, f_spent, a_openToken, a_openLow, a_openHigh, a_ruleLhs, a_ruleCost, a_ruleSize, a_ruleToken, a_ruleLow, a_ruleHigh, a_nodeOperator, a_nodeValue, a_subtreeFirst, a_bestCost, a_bestLength, a_place, a_covered, a_statementStart, a_statementNodes, a_statementCost, a_statementLength, a_programOperator, a_programValue, a_memory, a_arguments, a_stack) (nI n) :=
  ⟨n + 3, xn_up D hn hF h (n + 2) lb a_place a_covered a_bestCost a_bestLength (by omega) hl hC⟩
end
end
section
/-! the reference's match -/
section
variable {g_registers g_nonterminals g_words g_treeNodes g_rules g_nodes g_statements g_lastValue g_spent : Int32} {b_lhsOf b_costOf b_tokens b_tokenAt b_lowAt b_highAt b_nodeOp b_nodeValue b_statementCost b_statementLength b_statementNodes b_memory b_arguments b_work b_place b_covered b_bestCost b_bestLength : Nat → Int32}
theorem ya_ar {post : Int32 → Prop} {x : Int32} (h : post (nI (bu_ar x))) : wpY_arity post (g_registers, g_nonterminals, g_words, g_treeNodes, g_rules, g_nodes, g_statements, g_lastValue, g_spent, b_lhsOf, b_costOf, b_tokens, b_tokenAt, b_lowAt, b_highAt, b_nodeOp, b_nodeValue, b_statementCost, b_statementLength, b_statementNodes, b_memory, b_arguments, b_work, b_place, b_covered, b_bestCost, b_bestLength) x := by
  unfold wpY_arity
  dsimp only
  by_cases h2 : x = 2
  · refine br_t h2 ?_
    rw [show bu_ar x = 1 from if_pos h2] at h; exact h
  · refine br_f h2 ?_
    by_cases h3 : x = 3
    · refine br_t h3 ?_
      rw [show bu_ar x = 1 from (if_neg h2).trans (if_pos h3)] at h; exact h
    · refine br_f h3 ?_
      by_cases h4 : x < 4
      · refine br_t h4 ?_
        rw [show bu_ar x = 0 from (if_neg h2).trans ((if_neg h3).trans (if_pos h4))] at h; exact h
      · refine br_f h4 ?_
        by_cases h8 : 8 < x
        · refine br_t h8 ?_
          rw [show bu_ar x = 0 from (if_neg h2).trans ((if_neg h3).trans ((if_neg h4).trans (if_pos h8)))] at h; exact h
        · refine br_f h8 ?_
          rw [show bu_ar x = 2 from (if_neg h2).trans ((if_neg h3).trans ((if_neg h4).trans (if_neg h8)))] at h; exact h
theorem bu_need {need a : Nat} (h : 1 ≤ need) : nI need + (nI a - 1) = nI (need + a - 1) := by
  obtain ⟨q, rfl⟩ : ∃ q, need = q + 1 := ⟨need - 1, by omega⟩
  have e : ∀ x y : Int32, x + 1 + (y - 1) = x + y := by intro x y; grind
  rw [show q + 1 + a - 1 = q + a by omega, ← nI_1 q, e, nI_add]
theorem yt_4 {post : Int32 → Prop} : ∀ (fuel y need : Nat), y < fuel → y ≤ 60 → 1 ≤ need → need + 2 * y ≤ 1000 → post (nI (bu_sn (fun j => bu_ar (b_nodeOp j)) y need)) → wY_treeStart_4 post g_registers g_nonterminals g_words g_treeNodes g_rules g_nodes g_statements g_lastValue g_spent b_lhsOf b_costOf b_tokens b_tokenAt b_lowAt b_highAt b_nodeOp b_nodeValue b_statementCost b_statementLength b_statementNodes b_memory b_arguments b_work b_place b_covered b_bestCost b_bestLength fuel (nI need) (nI y - 1) := by
  intro fuel
  induction fuel with
  | zero => intro y need hf; omega
  | succ fuel ih =>
    intro y need hf hy h1 hb h
    rw [wY_treeStart_4]
    rcases Nat.eq_zero_or_pos y with z | z
    · subst z
      exact br_t (by decide) h
    · obtain ⟨p, rfl⟩ : ∃ p, y = p + 1 := ⟨y - 1, by omega⟩
      rw [nI_pred, nI_clamp (n := p) (by omega)]
      rw [bu_sn_s] at h
      have a2 := bu_ar_2 (b_nodeOp p)
      refine br_f (nI_pos (by omega)) ⟨vp_in_nI (by omega) (by decide), ya_ar (nm_r (bu_need h1) ?_)⟩
      by_cases e : need + bu_ar (b_nodeOp p) = 1
      · rw [if_pos e] at h
        exact br_t (by rw [e]; rfl) h
      · rw [if_neg e] at h
        refine br_f (nI_ne0 (by omega) (by omega)) (nm_r (bu_m1 _) (ih p _ (by omega) (by omega) (by omega) (by omega) h))
theorem yt_ts {post : Int32 → Prop} {p : Nat} (hp : p < 60) (h : post (nI (bu_st (fun j => bu_ar (b_nodeOp j)) p))) : wpY_treeStart post (g_registers, g_nonterminals, g_words, g_treeNodes, g_rules, g_nodes, g_statements, g_lastValue, g_spent, b_lhsOf, b_costOf, b_tokens, b_tokenAt, b_lowAt, b_highAt, b_nodeOp, b_nodeValue, b_statementCost, b_statementLength, b_statementNodes, b_memory, b_arguments, b_work, b_place, b_covered, b_bestCost, b_bestLength) (nI p) := by
  have := yt_4 (post := post) (g_registers := g_registers) (g_nonterminals := g_nonterminals) (g_words := g_words) (g_treeNodes := g_treeNodes) (g_rules := g_rules) (g_nodes := g_nodes) (g_statements := g_statements) (g_lastValue := g_lastValue) (g_spent := g_spent) (b_lhsOf := b_lhsOf) (b_costOf := b_costOf) (b_tokens := b_tokens) (b_tokenAt := b_tokenAt) (b_lowAt := b_lowAt) (b_highAt := b_highAt) (b_nodeOp := b_nodeOp) (b_nodeValue := b_nodeValue) (b_statementCost := b_statementCost) (b_statementLength := b_statementLength) (b_statementNodes := b_statementNodes) (b_memory := b_memory) (b_arguments := b_arguments) (b_work := b_work) (b_place := b_place) (b_covered := b_covered) (b_bestCost := b_bestCost) (b_bestLength := b_bestLength) (p + 2) (p + 1) 1 (by omega) (by omega) (by omega) (by omega) h
  rw [nI_pred] at this
  exact ⟨p + 2, this⟩
theorem yp_5 {post : Int32 → Prop} {r : Nat} (hr : r < 25) : ∀ (fuel y need : Nat), y < fuel → y ≤ 7 → 1 ≤ need → need + 2 * y ≤ 1000 → post (nI (bu_sn (fun j => bu_ar (b_tokenAt (7 * r + j))) y need)) → wY_patternStart_5 post (nI r) g_registers g_nonterminals g_words g_treeNodes g_rules g_nodes g_statements g_lastValue g_spent b_lhsOf b_costOf b_tokens b_tokenAt b_lowAt b_highAt b_nodeOp b_nodeValue b_statementCost b_statementLength b_statementNodes b_memory b_arguments b_work b_place b_covered b_bestCost b_bestLength fuel (nI need) (nI y - 1) := by
  intro fuel
  induction fuel with
  | zero => intro y need hf; omega
  | succ fuel ih =>
    intro y need hf hy h1 hb h
    rw [wY_patternStart_5]
    rcases Nat.eq_zero_or_pos y with z | z
    · subst z
      exact br_t (by decide) h
    · obtain ⟨p, rfl⟩ : ∃ p, y = p + 1 := ⟨y - 1, by omega⟩
      rw [nI_pred, bu_x7, nI_add, nI_clamp (n := 7 * r + p) (by omega)]
      rw [bu_sn_s] at h
      have a2 := bu_ar_2 (b_tokenAt (7 * r + p))
      refine br_f (nI_pos (by omega)) ⟨vp_in_nI (by omega) (by decide), ya_ar (nm_r (bu_need h1) ?_)⟩
      by_cases e : need + bu_ar (b_tokenAt (7 * r + p)) = 1
      · rw [if_pos e] at h
        exact br_t (by rw [e]; rfl) h
      · rw [if_neg e] at h
        refine br_f (nI_ne0 (by omega) (by omega)) (nm_r (bu_m1 _) (ih p _ (by omega) (by omega) (by omega) (by omega) h))
theorem yp_ps {post : Int32 → Prop} {r p : Nat} (hr : r < 25) (hp : p < 7) (h : post (nI (bu_st (fun j => bu_ar (b_tokenAt (7 * r + j))) p))) : wpY_patternStart post (g_registers, g_nonterminals, g_words, g_treeNodes, g_rules, g_nodes, g_statements, g_lastValue, g_spent, b_lhsOf, b_costOf, b_tokens, b_tokenAt, b_lowAt, b_highAt, b_nodeOp, b_nodeValue, b_statementCost, b_statementLength, b_statementNodes, b_memory, b_arguments, b_work, b_place, b_covered, b_bestCost, b_bestLength) (nI r) (nI p) := by
  have := yp_5 (post := post) (g_registers := g_registers) (g_nonterminals := g_nonterminals) (g_words := g_words) (g_treeNodes := g_treeNodes) (g_rules := g_rules) (g_nodes := g_nodes) (g_statements := g_statements) (g_lastValue := g_lastValue) (g_spent := g_spent) (b_lhsOf := b_lhsOf) (b_costOf := b_costOf) (b_tokens := b_tokens) (b_tokenAt := b_tokenAt) (b_lowAt := b_lowAt) (b_highAt := b_highAt) (b_nodeOp := b_nodeOp) (b_nodeValue := b_nodeValue) (b_statementCost := b_statementCost) (b_statementLength := b_statementLength) (b_statementNodes := b_statementNodes) (b_memory := b_memory) (b_arguments := b_arguments) (b_work := b_work) (b_place := b_place) (b_covered := b_covered) (b_bestCost := b_bestCost) (b_bestLength := b_bestLength) hr (p + 2) (p + 1) 1 (by omega) (by omega) (by omega) (by omega) h
  rw [nI_pred] at this
  exact ⟨p + 2, this⟩
/-! the check of all pairs -/
theorem ym_374 {post : Int32 → SY → Prop} {J267 J279 : Int32 → Prop} {x2 x7 x8 z0 : Int32} {m k : Nat} {cv : Nat → Prop} {A B E : Prop} (hm : m < 20) (hk : k < 20) (cm : b_covered m = 0 ↔ ¬ cv m) (ck : b_covered k = 0 ↔ ¬ cv k) (e7 : x7 = 0 ↔ ¬ A) (e8 : x8 = 0 ↔ ¬ B) (e0 : z0 = 0 ↔ ¬ E)
    (hn : ¬ (cv m ∧ ¬ cv k ∧ A ∧ B ∧ E) → J279 (nI (k + 1))) (hu : cv m → ¬ cv k → A → B → E → post 1 (g_registers, g_nonterminals, g_words, g_treeNodes, g_rules, g_nodes, g_statements, g_lastValue, g_spent, b_lhsOf, b_costOf, b_tokens, b_tokenAt, b_lowAt, b_highAt, b_nodeOp, b_nodeValue, b_statementCost, b_statementLength, b_statementNodes, b_memory, b_arguments, b_work, b_place, b_covered, b_bestCost, b_bestLength)) : wY_match_374 post J267 J279 x2 (nI m) (nI k) x7 x8 z0 g_registers g_nonterminals g_words g_treeNodes g_rules g_nodes g_statements g_lastValue g_spent b_lhsOf b_costOf b_tokens b_tokenAt b_lowAt b_highAt b_nodeOp b_nodeValue b_statementCost b_statementLength b_statementNodes b_memory b_arguments b_work b_place b_covered b_bestCost b_bestLength := by
  unfold wY_match_374
  rw [nI_clamp (n := m) (by omega), nI_clamp (n := k) (by omega)]
  refine ⟨vp_in_nI hm (by decide), ?_⟩
  by_cases z1 : b_covered m = 0
  · exact br_t z1 (nm_r (nI_1 k) (hn (fun q => cm.mp z1 q.1)))
  · refine br_f z1 ⟨vp_in_nI hk (by decide), ?_⟩
    have y1 : cv m := Classical.byContradiction (fun q => z1 (cm.mpr q))
    by_cases z2 : b_covered k = 0
    · refine br_t z2 ?_
      have y2 := ck.mp z2
      by_cases z3 : x7 = 0
      · exact br_t z3 (nm_r (nI_1 k) (hn (fun q => e7.mp z3 q.2.2.1)))
      · refine br_f z3 ?_
        have y3 : A := Classical.byContradiction (fun q => z3 (e7.mpr q))
        by_cases z4 : x8 = 0
        · exact br_t z4 (nm_r (nI_1 k) (hn (fun q => e8.mp z4 q.2.2.2.1)))
        · refine br_f z4 ?_
          have y4 : B := Classical.byContradiction (fun q => z4 (e8.mpr q))
          by_cases z5 : z0 = 0
          · exact br_t z5 (nm_r (nI_1 k) (hn (fun q => e0.mp z5 q.2.2.2.2)))
          · exact br_f z5 (hu y1 y2 y3 y4 (Classical.byContradiction (fun q => z5 (e0.mpr q))))
    · exact br_f z2 (nm_r (nI_1 k) (hn (fun q => z2 (ck.mpr q.2.1))))
theorem ym_343 {post : Int32 → SY → Prop} {J267 J279 : Int32 → Prop} {x2 x7 x8 : Int32} {m k : Nat} {cv : Nat → Prop} {A B : Prop} (hm : m < 20) (hk : k < 20) (cm : b_covered m = 0 ↔ ¬ cv m) (ck : b_covered k = 0 ↔ ¬ cv k) (e7 : x7 = 0 ↔ ¬ A) (e8 : x8 = 0 ↔ ¬ B)
    (hn : ¬ (cv m ∧ ¬ cv k ∧ A ∧ B ∧ (b_nodeOp m = 7 ∨ b_nodeOp k = 7)) → J279 (nI (k + 1))) (hu : cv m → ¬ cv k → A → B → (b_nodeOp m = 7 ∨ b_nodeOp k = 7) → post 1 (g_registers, g_nonterminals, g_words, g_treeNodes, g_rules, g_nodes, g_statements, g_lastValue, g_spent, b_lhsOf, b_costOf, b_tokens, b_tokenAt, b_lowAt, b_highAt, b_nodeOp, b_nodeValue, b_statementCost, b_statementLength, b_statementNodes, b_memory, b_arguments, b_work, b_place, b_covered, b_bestCost, b_bestLength)) : wY_match_343 post J267 J279 x2 (nI m) (nI k) x7 x8 g_registers g_nonterminals g_words g_treeNodes g_rules g_nodes g_statements g_lastValue g_spent b_lhsOf b_costOf b_tokens b_tokenAt b_lowAt b_highAt b_nodeOp b_nodeValue b_statementCost b_statementLength b_statementNodes b_memory b_arguments b_work b_place b_covered b_bestCost b_bestLength := by
  unfold wY_match_343
  rw [nI_clamp (n := m) (by omega), nI_clamp (n := k) (by omega)]
  refine ⟨vp_in_nI (by omega) (by decide), ?_⟩
  by_cases z1 : b_nodeOp m = 7
  · exact br_t z1 (ym_374 hm hk cm ck e7 e8 ⟨fun q => absurd q (by decide), fun q => absurd (Or.inl z1) q⟩ hn hu)
  · refine br_f z1 ⟨vp_in_nI (by omega) (by decide), ?_⟩
    by_cases z2 : b_nodeOp k = 7
    · exact br_t z2 (ym_374 hm hk cm ck e7 e8 ⟨fun q => absurd q (by decide), fun q => absurd (Or.inr z2) q⟩ hn hu)
    · exact br_f z2 (ym_374 hm hk cm ck e7 e8 ⟨fun _ q => q.elim z1 z2, fun _ => rfl⟩ hn hu)
theorem ym_313 {post : Int32 → SY → Prop} {J267 J279 : Int32 → Prop} {x2 x7 : Int32} {m k : Nat} {cv : Nat → Prop} {A : Prop} (hm : m < 20) (hk : k < 20) (cm : b_covered m = 0 ↔ ¬ cv m) (ck : b_covered k = 0 ↔ ¬ cv k) (e7 : x7 = 0 ↔ ¬ A)
    (hn : ¬ (cv m ∧ ¬ cv k ∧ A ∧ (b_nodeOp k = 3 ∨ b_nodeOp k = 7) ∧ (b_nodeOp m = 7 ∨ b_nodeOp k = 7)) → J279 (nI (k + 1))) (hu : cv m → ¬ cv k → A → (b_nodeOp k = 3 ∨ b_nodeOp k = 7) → (b_nodeOp m = 7 ∨ b_nodeOp k = 7) → post 1 (g_registers, g_nonterminals, g_words, g_treeNodes, g_rules, g_nodes, g_statements, g_lastValue, g_spent, b_lhsOf, b_costOf, b_tokens, b_tokenAt, b_lowAt, b_highAt, b_nodeOp, b_nodeValue, b_statementCost, b_statementLength, b_statementNodes, b_memory, b_arguments, b_work, b_place, b_covered, b_bestCost, b_bestLength)) : wY_match_313 post J267 J279 x2 (nI m) (nI k) x7 g_registers g_nonterminals g_words g_treeNodes g_rules g_nodes g_statements g_lastValue g_spent b_lhsOf b_costOf b_tokens b_tokenAt b_lowAt b_highAt b_nodeOp b_nodeValue b_statementCost b_statementLength b_statementNodes b_memory b_arguments b_work b_place b_covered b_bestCost b_bestLength := by
  unfold wY_match_313
  rw [nI_clamp (n := k) (by omega)]
  have hi : vp_in (nI k) 60 := vp_in_nI (by omega) (by decide)
  refine ⟨hi, ?_⟩
  by_cases z1 : b_nodeOp k = 3
  · exact br_t z1 (ym_343 hm hk cm ck e7 ⟨fun q => absurd q (by decide), fun q => absurd (Or.inl z1) q⟩ hn hu)
  · refine br_f z1 ⟨hi, ?_⟩
    by_cases z2 : b_nodeOp k = 7
    · exact br_t z2 (ym_343 hm hk cm ck e7 ⟨fun q => absurd q (by decide), fun q => absurd (Or.inr z2) q⟩ hn hu)
    · exact br_f z2 (ym_343 hm hk cm ck e7 ⟨fun _ q => q.elim z1 z2, fun _ => rfl⟩ hn hu)
variable {cv : Nat → Prop} {n first : Nat}
theorem ym_279 {post : Int32 → SY → Prop} {J267 : Int32 → Prop} {m : Nat} (hn : n < 20) (hf : first ≤ m) (hm : m ≤ n) (hc : ∀ j, first ≤ j → j ≤ n → (b_covered j = 0 ↔ ¬ cv j))
    (hJ : (∀ k, m < k → k ≤ n → cv m → ¬ cv k → ¬ bu_cf (b_nodeOp m) (b_nodeOp k)) → J267 (nI (m + 1))) (hu : ¬ bu_SF b_nodeOp cv first (n + 1) → post 1 (g_registers, g_nonterminals, g_words, g_treeNodes, g_rules, g_nodes, g_statements, g_lastValue, g_spent, b_lhsOf, b_costOf, b_tokens, b_tokenAt, b_lowAt, b_highAt, b_nodeOp, b_nodeValue, b_statementCost, b_statementLength, b_statementNodes, b_memory, b_arguments, b_work, b_place, b_covered, b_bestCost, b_bestLength)) :
    ∀ (fuel k : Nat), n + 1 < k + fuel → m < k → k ≤ n + 1 → (∀ k', m < k' → k' < k → cv m → ¬ cv k' → ¬ bu_cf (b_nodeOp m) (b_nodeOp k')) → wY_match_279 post J267 (nI n) (nI m) g_registers g_nonterminals g_words g_treeNodes g_rules g_nodes g_statements g_lastValue g_spent b_lhsOf b_costOf b_tokens b_tokenAt b_lowAt b_highAt b_nodeOp b_nodeValue b_statementCost b_statementLength b_statementNodes b_memory b_arguments b_work b_place b_covered b_bestCost b_bestLength fuel (nI k) := by
  intro fuel
  induction fuel with
  | zero => intro k hf _ hk; omega
  | succ fuel ih =>
    intro k hfu hmk hk i
    rw [wY_match_279]
    rcases Nat.lt_or_ge n k with z | z
    · exact br_t (nI_lt (by omega) (by omega)) (nm_r (nI_1 m) (hJ (fun k' h1 h2 => i k' h1 (by omega))))
    · refine br_f (nI_nlt (by omega) (by omega)) ?_
      rw [nI_clamp (n := m) (by omega)]
      have hi : vp_in (nI m) 60 := vp_in_nI (by omega) (by decide)
      have nx : ¬ (cv m ∧ ¬ cv k ∧ (b_nodeOp m = 3 ∨ b_nodeOp m = 7) ∧ (b_nodeOp k = 3 ∨ b_nodeOp k = 7) ∧ (b_nodeOp m = 7 ∨ b_nodeOp k = 7)) → wY_match_279 post J267 (nI n) (nI m) g_registers g_nonterminals g_words g_treeNodes g_rules g_nodes g_statements g_lastValue g_spent b_lhsOf b_costOf b_tokens b_tokenAt b_lowAt b_highAt b_nodeOp b_nodeValue b_statementCost b_statementLength b_statementNodes b_memory b_arguments b_work b_place b_covered b_bestCost b_bestLength fuel (nI (k + 1)) := by
        intro q
        refine ih (k + 1) (by omega) (by omega) (by omega) (fun k' h1 h2 c1 c2 c3 => ?_)
        rcases Nat.lt_or_ge k' k with y | y
        · exact i k' h1 y c1 c2 c3
        · have : k' = k := by omega
          subst this
          exact q ⟨c1, c2, c3.1, c3.2.1, c3.2.2⟩
      have un : cv m → ¬ cv k → (b_nodeOp m = 3 ∨ b_nodeOp m = 7) → (b_nodeOp k = 3 ∨ b_nodeOp k = 7) → (b_nodeOp m = 7 ∨ b_nodeOp k = 7) → post 1 (g_registers, g_nonterminals, g_words, g_treeNodes, g_rules, g_nodes, g_statements, g_lastValue, g_spent, b_lhsOf, b_costOf, b_tokens, b_tokenAt, b_lowAt, b_highAt, b_nodeOp, b_nodeValue, b_statementCost, b_statementLength, b_statementNodes, b_memory, b_arguments, b_work, b_place, b_covered, b_bestCost, b_bestLength) :=
        fun c1 c2 c3 c4 c5 => hu (fun q => q m k hf hmk (by omega) c1 c2 ⟨c3, c4, c5⟩)
      refine ⟨hi, ?_⟩
      by_cases z1 : b_nodeOp m = 3
      · exact br_t z1 (ym_313 (A := b_nodeOp m = 3 ∨ b_nodeOp m = 7) (by omega) (by omega) (hc m hf hm) (hc k (by omega) z) ⟨fun q => absurd q (by decide), fun q => absurd (Or.inl z1) q⟩ nx un)
      · refine br_f z1 ⟨hi, ?_⟩
        by_cases z2 : b_nodeOp m = 7
        · exact br_t z2 (ym_313 (A := b_nodeOp m = 3 ∨ b_nodeOp m = 7) (by omega) (by omega) (hc m hf hm) (hc k (by omega) z) ⟨fun q => absurd q (by decide), fun q => absurd (Or.inr z2) q⟩ nx un)
        · exact br_f z2 (ym_313 (A := b_nodeOp m = 3 ∨ b_nodeOp m = 7) (by omega) (by omega) (hc m hf hm) (hc k (by omega) z) ⟨fun _ q => q.elim z1 z2, fun _ => rfl⟩ nx un)
theorem ym_267 {post : Int32 → SY → Prop} (hn : n < 20) (hc : ∀ j, first ≤ j → j ≤ n → (b_covered j = 0 ↔ ¬ cv j))
    (h2 : bu_SF b_nodeOp cv first (n + 1) → post 2 (g_registers, g_nonterminals, g_words, g_treeNodes, g_rules, g_nodes, g_statements, g_lastValue, g_spent, b_lhsOf, b_costOf, b_tokens, b_tokenAt, b_lowAt, b_highAt, b_nodeOp, b_nodeValue, b_statementCost, b_statementLength, b_statementNodes, b_memory, b_arguments, b_work, b_place, b_covered, b_bestCost, b_bestLength)) (hu : ¬ bu_SF b_nodeOp cv first (n + 1) → post 1 (g_registers, g_nonterminals, g_words, g_treeNodes, g_rules, g_nodes, g_statements, g_lastValue, g_spent, b_lhsOf, b_costOf, b_tokens, b_tokenAt, b_lowAt, b_highAt, b_nodeOp, b_nodeValue, b_statementCost, b_statementLength, b_statementNodes, b_memory, b_arguments, b_work, b_place, b_covered, b_bestCost, b_bestLength)) :
    ∀ (fuel m : Nat), n + 1 < m + fuel → first ≤ m → m ≤ n + 1 → (∀ m' k', first ≤ m' → m' < m → m' < k' → k' ≤ n → cv m' → ¬ cv k' → ¬ bu_cf (b_nodeOp m') (b_nodeOp k')) → wY_match_267 post (nI n) g_registers g_nonterminals g_words g_treeNodes g_rules g_nodes g_statements g_lastValue g_spent b_lhsOf b_costOf b_tokens b_tokenAt b_lowAt b_highAt b_nodeOp b_nodeValue b_statementCost b_statementLength b_statementNodes b_memory b_arguments b_work b_place b_covered b_bestCost b_bestLength fuel (nI m) := by
  intro fuel
  induction fuel with
  | zero => intro m hf _ hm; omega
  | succ fuel ih =>
    intro m hfu hf hm i
    rw [wY_match_267]
    rcases Nat.lt_or_ge n m with z | z
    · exact br_t (nI_lt (by omega) (by omega)) (h2 (fun m' k' h1 h2 h3 => i m' k' h1 (by omega) h2 (by omega)))
    · refine br_f (nI_nlt (by omega) (by omega)) (nm_r (nI_1 m) ⟨n + 2, ?_⟩)
      refine ym_279 hn hf z hc (fun q => ih (m + 1) (by omega) (by omega) (by omega) (fun m' k' h1 h2 h3 h4 => ?_)) hu (n + 2) (m + 1) (by omega) (by omega) (by omega) (fun k' h1 h2 => by omega)
      rcases Nat.lt_or_ge m' m with y | y
      · exact i m' k' h1 y h3 h4
      · have : m' = m := by omega
        subst this
        exact q k' h3 h4
end
/-! the places that the reference has noted for the trees still to come -/
def bu_PD (G F : Nat → Nat) (P : Nat → Int32) : Nat → Nat → Nat → Prop
  | 0, _, _ => True
  | need + 1, k, e => P (k - 1) = nI (e - 1) ∧ bu_PD G F P need (G (k - 1)) (F (e - 1))
theorem bu_PD_cg {G F : Nat → Nat} {P P' : Nat → Int32} : ∀ {need k e : Nat}, bu_T G need 0 k → (∀ j, j < k → P j = P' j) → bu_PD G F P need k e → bu_PD G F P' need k e
  | 0, _, _, _, _, _ => trivial
  | need + 1, k, e, t, h, p => by
    obtain ⟨t1, t2, t3⟩ := t
    obtain ⟨p1, p2⟩ := p
    exact ⟨by rw [← h (k - 1) (by omega)]; exact p1, bu_PD_cg t3 (fun j hj => h j (by omega)) p2⟩
end
section
/-! the reference lays the pattern -/
section
variable {g_registers g_nonterminals g_words g_treeNodes g_rules g_nodes g_statements g_lastValue g_spent : Int32} {b_lhsOf b_costOf b_tokens b_tokenAt b_lowAt b_highAt b_nodeOp b_nodeValue b_statementCost b_statementLength b_statementNodes b_memory b_arguments b_work b_place b_covered b_bestCost b_bestLength : Nat → Int32}
variable {a_ruleToken a_ruleLow a_ruleHigh a_nodeOperator a_nodeValue : Nat → Int32} {s r n nc : Nat}
theorem ym_210 {post : Int32 → SY → Prop} {J : Int32 → (Nat → Int32) → (Nat → Int32) → (Nat → Int32) → (Nat → Int32) → (Nat → Int32) → (Nat → Int32) → (Nat → Int32) → (Nat → Int32) → (Nat → Int32) → (Nat → Int32) → (Nat → Int32) → (Nat → Int32) → (Nat → Int32) → (Nat → Int32) → (Nat → Int32) → (Nat → Int32) → (Nat → Int32) → (Nat → Int32) → Prop} {x2 x3 : Int32} {k c a G F : Nat} (hr : r < 24) (hk : k < 7) (hc : c < 20)
    (hG : a = 2 → 0 < k ∧ bu_st (fun j => bu_ar (b_tokenAt (7 * r + j))) (k - 1) = G ∧ 0 < G ∧ G ≤ 7) (hF : a = 2 → 0 < c ∧ bu_st (fun j => bu_ar (b_nodeOp j)) (c - 1) = F ∧ 0 < F) (ha : a ≤ 2)
    (h : a ≠ 2 → J (nI k - 1) b_lhsOf b_costOf b_tokens b_tokenAt b_lowAt b_highAt b_nodeOp b_nodeValue b_statementCost b_statementLength b_statementNodes b_memory b_arguments b_work b_place b_covered b_bestCost b_bestLength) (h2 : a = 2 → J (nI k - 1) b_lhsOf b_costOf b_tokens b_tokenAt b_lowAt b_highAt b_nodeOp b_nodeValue b_statementCost b_statementLength b_statementNodes b_memory b_arguments b_work (upd b_place (G - 1) (nI (F - 1))) b_covered b_bestCost b_bestLength) :
    wY_match_210 post J (nI r) x2 x3 (nI k) (nI c) (nI a) g_registers g_nonterminals g_words g_treeNodes g_rules g_nodes g_statements g_lastValue g_spent b_lhsOf b_costOf b_tokens b_tokenAt b_lowAt b_highAt b_nodeOp b_nodeValue b_statementCost b_statementLength b_statementNodes b_memory b_arguments b_work b_place b_covered b_bestCost b_bestLength := by
  unfold wY_match_210
  by_cases z : a = 2
  · obtain ⟨g1, g2, g3, g4⟩ := hG z
    obtain ⟨f1, f2, f3⟩ := hF z
    obtain ⟨k', rfl⟩ : ∃ k', k = k' + 1 := ⟨k - 1, by omega⟩
    obtain ⟨c', rfl⟩ : ∃ c', c = c' + 1 := ⟨c - 1, by omega⟩
    rw [Nat.add_sub_cancel] at g2 f2
    obtain ⟨G', rfl⟩ : ∃ G', G = G' + 1 := ⟨G - 1, by omega⟩
    obtain ⟨F', rfl⟩ : ∃ F', F = F' + 1 := ⟨F - 1, by omega⟩
    refine br_t (by rw [z]; rfl) ?_
    rw [nI_pred, nI_pred]
    refine yp_ps (by omega) (by omega) (yt_ts (by omega) ?_)
    rw [g2, f2, nI_pred, nI_pred, nI_clamp (n := G') (by omega)]
    exact ⟨vp_in_nI (by omega) (by decide), nm_e (nm_r (bu_m1 _) (h2 z))⟩
  · exact br_f (fun q => z ((nI_eq (a := a) (b := 2) (by omega) (by decide)).mp q)) (nm_r (bu_m1 _) (h z))
theorem ym_175 {post : Int32 → SY → Prop} {J : Int32 → (Nat → Int32) → (Nat → Int32) → (Nat → Int32) → (Nat → Int32) → (Nat → Int32) → (Nat → Int32) → (Nat → Int32) → (Nat → Int32) → (Nat → Int32) → (Nat → Int32) → (Nat → Int32) → (Nat → Int32) → (Nat → Int32) → (Nat → Int32) → (Nat → Int32) → (Nat → Int32) → (Nat → Int32) → (Nat → Int32) → Prop} {x2 x3 x5 : Int32} {k c G F : Nat} (hr : r < 24) (hk : k < 7) (hc : c < 20)
    (hk1 : 1 ≤ bu_ar x5 → 0 < k ∧ 0 < c)
    (hG : bu_ar x5 = 2 → 0 < k ∧ bu_st (fun j => bu_ar (b_tokenAt (7 * r + j))) (k - 1) = G ∧ 0 < G ∧ G ≤ 7) (hF : bu_ar x5 = 2 → 0 < c ∧ bu_st (fun j => bu_ar (b_nodeOp j)) (c - 1) = F ∧ 0 < F)
    (h0 : bu_ar x5 = 0 → J (nI k - 1) b_lhsOf b_costOf b_tokens b_tokenAt b_lowAt b_highAt b_nodeOp b_nodeValue b_statementCost b_statementLength b_statementNodes b_memory b_arguments b_work b_place (upd b_covered c 1) b_bestCost b_bestLength)
    (h1 : bu_ar x5 = 1 → J (nI k - 1) b_lhsOf b_costOf b_tokens b_tokenAt b_lowAt b_highAt b_nodeOp b_nodeValue b_statementCost b_statementLength b_statementNodes b_memory b_arguments b_work (upd b_place (k - 1) (nI (c - 1))) (upd b_covered c 1) b_bestCost b_bestLength)
    (h2 : bu_ar x5 = 2 → J (nI k - 1) b_lhsOf b_costOf b_tokens b_tokenAt b_lowAt b_highAt b_nodeOp b_nodeValue b_statementCost b_statementLength b_statementNodes b_memory b_arguments b_work (upd (upd b_place (k - 1) (nI (c - 1))) (G - 1) (nI (F - 1))) (upd b_covered c 1) b_bestCost b_bestLength) :
    wY_match_175 post J (nI r) x2 x3 (nI k) x5 (nI c) g_registers g_nonterminals g_words g_treeNodes g_rules g_nodes g_statements g_lastValue g_spent b_lhsOf b_costOf b_tokens b_tokenAt b_lowAt b_highAt b_nodeOp b_nodeValue b_statementCost b_statementLength b_statementNodes b_memory b_arguments b_work b_place b_covered b_bestCost b_bestLength := by
  unfold wY_match_175
  have a2 := bu_ar_2 x5
  refine ⟨vp_in_nI hc (by decide), ?_⟩
  rw [nI_clamp (n := c) (by omega)]
  refine nm_r (e' := upd b_covered c 1) rfl (ya_ar ?_)
  by_cases z : bu_ar x5 = 0
  · refine br_t (by rw [z]; decide) ?_
    exact ym_210 (G := G) (F := F) hr hk hc (fun q => by omega) (fun q => by omega) a2 (fun _ => h0 z) (fun q => by omega)
  · have lt : ¬ nI (bu_ar x5) < 1 := fun q => by have := (nI_ltI (a := bu_ar x5) (b := 1) (by omega) (by decide)).mp q; omega
    refine br_f lt ?_
    obtain ⟨k0, c0⟩ := hk1 (by omega)
    have ek : nI k - 1 = nI (k - 1) := by
      obtain ⟨k', rfl⟩ : ∃ k', k = k' + 1 := ⟨k - 1, by omega⟩
      rw [nI_pred]; rfl
    have ec : nI c - 1 = nI (c - 1) := by
      obtain ⟨k', rfl⟩ : ∃ k', c = k' + 1 := ⟨c - 1, by omega⟩
      rw [nI_pred]; rfl
    rw [ek, ec, nI_clamp (n := k - 1) (by omega)]
    rw [ek] at h1 h2
    refine ⟨vp_in_nI (by omega) (by decide), nm_e ?_⟩
    refine ym_210 (G := G) (F := F) hr hk hc hG hF a2 (fun q => ?_) (fun q => ?_)
    · rw [ek]; exact h1 (by omega)
    · rw [ek]; exact h2 q
theorem ym_78 {post : Int32 → SY → Prop} (hN : bu_Nod a_nodeOperator nc) (hnc : nc ≤ 20) (hn : n < nc) (hr : r < 24) (hR : bu_Row a_ruleToken (7 * r) s)
    (eT : ∀ j, j < 168 → b_tokenAt j = a_ruleToken j) (eL : ∀ j, j < 168 → b_lowAt j = a_ruleLow j) (eH : ∀ j, j < 168 → b_highAt j = a_ruleHigh j)
    (eO : ∀ j, j < 20 → b_nodeOp j = a_nodeOperator j) (eV : ∀ j, j < 20 → b_nodeValue j = a_nodeValue j)
    (p0 : ¬ bu_ok a_ruleToken a_ruleLow a_ruleHigh a_nodeOperator a_nodeValue (7 * r) s n s → ∀ P C, post 0 (g_registers, g_nonterminals, g_words, g_treeNodes, g_rules, g_nodes, g_statements, g_lastValue, g_spent, b_lhsOf, b_costOf, b_tokens, b_tokenAt, b_lowAt, b_highAt, b_nodeOp, b_nodeValue, b_statementCost, b_statementLength, b_statementNodes, b_memory, b_arguments, b_work, P, C, b_bestCost, b_bestLength))
    (p1 : bu_ok a_ruleToken a_ruleLow a_ruleHigh a_nodeOperator a_nodeValue (7 * r) s n s → ¬ bu_sf a_ruleToken a_nodeOperator (7 * r) s n → ∀ P C, post 1 (g_registers, g_nonterminals, g_words, g_treeNodes, g_rules, g_nodes, g_statements, g_lastValue, g_spent, b_lhsOf, b_costOf, b_tokens, b_tokenAt, b_lowAt, b_highAt, b_nodeOp, b_nodeValue, b_statementCost, b_statementLength, b_statementNodes, b_memory, b_arguments, b_work, P, C, b_bestCost, b_bestLength))
    (p2 : bu_ok a_ruleToken a_ruleLow a_ruleHigh a_nodeOperator a_nodeValue (7 * r) s n s → bu_sf a_ruleToken a_nodeOperator (7 * r) s n → ∀ P C, (∀ i, i < s → P i = nI (bu_cu a_ruleToken a_nodeOperator (7 * r) s n (s - 1 - i) - 1)) → post 2 (g_registers, g_nonterminals, g_words, g_treeNodes, g_rules, g_nodes, g_statements, g_lastValue, g_spent, b_lhsOf, b_costOf, b_tokens, b_tokenAt, b_lowAt, b_highAt, b_nodeOp, b_nodeValue, b_statementCost, b_statementLength, b_statementNodes, b_memory, b_arguments, b_work, P, C, b_bestCost, b_bestLength)) :
    ∀ (fuel d : Nat) (P C : Nat → Int32), s < d + fuel → d ≤ s → bu_ok a_ruleToken a_ruleLow a_ruleHigh a_nodeOperator a_nodeValue (7 * r) s n d →
      (∀ i, s - d ≤ i → i < s → P i = nI (bu_cu a_ruleToken a_nodeOperator (7 * r) s n (s - 1 - i) - 1)) →
      bu_PD (bu_st (fun i => bu_ar (a_ruleToken (7 * r + i)))) (bu_F a_nodeOperator) P (bu_h (fun i => bu_ar (a_ruleToken (7 * r + i))) (s - d)) (s - d) (bu_cu a_ruleToken a_nodeOperator (7 * r) s n d) →
      (∀ j, bu_F a_nodeOperator n ≤ j → j ≤ n → (C j = 0 ↔ ¬ bu_cv a_ruleToken a_nodeOperator (7 * r) s n d j)) →
      wY_match_78 post (nI r) (nI n) (nI (7 * r)) g_registers g_nonterminals g_words g_treeNodes g_rules g_nodes g_statements g_lastValue g_spent fuel (nI (s - d) - 1) b_lhsOf b_costOf b_tokens b_tokenAt b_lowAt b_highAt b_nodeOp b_nodeValue b_statementCost b_statementLength b_statementNodes b_memory b_arguments b_work P C b_bestCost b_bestLength := by
  have s7 := hR.2.1
  have stT : ∀ j, j < s → bu_st (fun i => bu_ar (b_tokenAt (7 * r + i))) j = bu_st (fun i => bu_ar (a_ruleToken (7 * r + i))) j :=
    fun j hj => bu_st_cg (fun i hi => by rw [eT _ (by omega)])
  have stN : ∀ j, j < nc → bu_st (fun i => bu_ar (b_nodeOp i)) j = bu_F a_nodeOperator j :=
    fun j hj => bu_st_cg (fun i hi => by rw [eO _ (by omega)])
  have hFn := bu_F_le hN hn
  intro fuel
  induction fuel with
  | zero => intro d P C hf hd; omega
  | succ fuel ih =>
    intro d P C hf hd hok hP hD hC
    rw [wY_match_78]
    dsimp only
    rcases Nat.lt_or_ge d s with hds | hds
    · obtain ⟨c1, c2, c3⟩ := bu_inv_lt hN hn hR hds hok
      obtain ⟨k, hk⟩ : ∃ k, s - d = k + 1 := ⟨s - d - 1, by omega⟩
      obtain ⟨c, hcu⟩ : ∃ c, bu_cu a_ruleToken a_nodeOperator (7 * r) s n d = c + 1 := ⟨_, (Nat.succ_pred_eq_of_pos (by omega)).symm⟩
      have ek : s - 1 - d = k := by omega
      have ek' : s - (d + 1) = k := by omega
      have hcs := bu_cu_s (tk := a_ruleToken) (no := a_nodeOperator) (b := 7 * r) (s := s) (n := n) d
      have hl : a_ruleToken (7 * r + k) < 16 → (bu_ok a_ruleToken a_ruleLow a_ruleHigh a_nodeOperator a_nodeValue (7 * r) s n s → bu_lie a_ruleToken a_ruleLow a_ruleHigh a_nodeOperator a_nodeValue (7 * r + k) c) := by
        intro z q
        have := q d hds
        rw [ek, hcu, Nat.add_sub_cancel] at this
        exact this z
      rw [ek, hcu, Nat.add_sub_cancel] at hcs
      have hwfk := bu_wf_le hR.2.2.1 (x := k + 1) (by omega)
      have hak : bu_ar (a_ruleToken (7 * r + k)) ≤ bu_h (fun i => bu_ar (a_ruleToken (7 * r + i))) k := hR.2.2.1 k (by omega)
      have tall := bu_all hwfk
      have tchi := (bu_chi (a := fun i => bu_ar (a_ruleToken (7 * r + i))) hwfk (p := k) (by omega)).1
      have cchi := (bu_chi (a := fun i => bu_ar (a_nodeOperator i)) hN (p := c) (by omega)).1
      rw [hk, hcu, bu_h_s] at hD
      rw [bu_h_s] at tall
      have eh : bu_h (fun i => bu_ar (a_ruleToken (7 * r + i))) k + 1 - bu_ar (a_ruleToken (7 * r + k)) = (bu_h (fun i => bu_ar (a_ruleToken (7 * r + i))) k - bu_ar (a_ruleToken (7 * r + k))) + 1 := by omega
      rw [eh] at hD tall
      obtain ⟨D1, D2⟩ := hD
      rw [Nat.add_sub_cancel, Nat.add_sub_cancel] at D1
      rw [Nat.add_sub_cancel, Nat.add_sub_cancel] at D2
      have tall := tall.2.2
      rw [Nat.add_sub_cancel] at tall
      have hPk : ∀ i, k ≤ i → i < s → P i = nI (bu_cu a_ruleToken a_nodeOperator (7 * r) s n (s - 1 - i) - 1) := by
        intro i hi1 hi2
        by_cases e : i = k
        · subst e
          rw [D1, show s - 1 - i = d by omega, hcu, Nat.add_sub_cancel]
        · exact hP i (by omega) hi2
      rw [hk, nI_pred, nI_add, nI_clamp (n := 7 * r + k) (by omega), nI_clamp (n := k) (by omega), eT (7 * r + k) (by omega)]
      refine br_f (nI_pos (by omega)) ⟨vp_in_nI (by omega) (by decide), nm_e ⟨vp_in_nI (by omega) (by decide), nm_r D1 ?_⟩⟩
      by_cases z : a_ruleToken (7 * r + k) < 16
      · refine br_f (Int32.not_le.mpr z) ⟨vp_in_nI (by omega) (by decide), ?_⟩
        rw [nI_clamp (n := c) (by omega), eO c (by omega)]
        by_cases hop : a_nodeOperator c = a_ruleToken (7 * r + k)
        · refine br_t hop ?_
          rw [if_pos z] at hcs
          have cchi : bu_T (bu_F a_nodeOperator) (bu_ar (a_ruleToken (7 * r + k))) (bu_F a_nodeOperator c) c := by rw [← hop]; exact cchi
          have tchi : bu_T (bu_st (fun i => bu_ar (a_ruleToken (7 * r + i)))) (bu_ar (a_ruleToken (7 * r + k))) (bu_st (fun i => bu_ar (a_ruleToken (7 * r + i))) k) k := tchi
          have go : bu_lie a_ruleToken a_ruleLow a_ruleHigh a_nodeOperator a_nodeValue (7 * r + k) c → wY_match_175 post (wY_match_78 post (nI r) (nI n) (nI (7 * r)) g_registers g_nonterminals g_words g_treeNodes g_rules g_nodes g_statements g_lastValue g_spent fuel) (nI r) (nI n) (nI (7 * r)) (nI k) (a_ruleToken (7 * r + k)) (nI c) g_registers g_nonterminals g_words g_treeNodes g_rules g_nodes g_statements g_lastValue g_spent b_lhsOf b_costOf b_tokens b_tokenAt b_lowAt b_highAt b_nodeOp b_nodeValue b_statementCost b_statementLength b_statementNodes b_memory b_arguments b_work P C b_bestCost b_bestLength := by
            intro hli
            have hok' : bu_ok a_ruleToken a_ruleLow a_ruleHigh a_nodeOperator a_nodeValue (7 * r) s n (d + 1) := by
              intro d' hd' z'
              rcases Nat.lt_or_ge d' d with y | y
              · exact hok d' y z'
              · have : d' = d := by omega
                subst this
                rw [ek, hcu, Nat.add_sub_cancel]
                exact hli
            have hC' : ∀ j, bu_F a_nodeOperator n ≤ j → j ≤ n → (upd C c 1 j = 0 ↔ ¬ bu_cv a_ruleToken a_nodeOperator (7 * r) s n (d + 1) j) := by
              intro j j1 j2
              by_cases e : j = c
              · subst e
                rw [pk_us]
                exact ⟨fun q => absurd q (by decide), fun q => absurd ⟨d, by omega, by rw [ek]; exact z, hcu⟩ q⟩
              · rw [pk_un e, hC j j1 j2]
                constructor
                · rintro q ⟨d', e1, e2, e3⟩
                  rcases Nat.lt_or_ge d' d with y | y
                  · exact q ⟨d', y, e2, e3⟩
                  · have : d' = d := by omega
                    subst this
                    omega
                · rintro q ⟨d', e1, e2, e3⟩
                  exact q ⟨d', by omega, e2, e3⟩
            have next : ∀ P', (∀ i, k ≤ i → P' i = P i) → bu_PD (bu_st (fun i => bu_ar (a_ruleToken (7 * r + i)))) (bu_F a_nodeOperator) P' (bu_h (fun i => bu_ar (a_ruleToken (7 * r + i))) k) k c → wY_match_78 post (nI r) (nI n) (nI (7 * r)) g_registers g_nonterminals g_words g_treeNodes g_rules g_nodes g_statements g_lastValue g_spent fuel (nI k - 1) b_lhsOf b_costOf b_tokens b_tokenAt b_lowAt b_highAt b_nodeOp b_nodeValue b_statementCost b_statementLength b_statementNodes b_memory b_arguments b_work P' (upd C c 1) b_bestCost b_bestLength := by
              intro P' h1 h2
              have := ih (d + 1) P' (upd C c 1) (by omega) (by omega) hok' (fun i hi1 hi2 => by rw [h1 i (by omega)]; exact hPk i (by omega) hi2) (by rw [ek', hcs]; exact h2) hC'
              rw [ek'] at this
              exact this
            have a2 := bu_ar_2 (a_ruleToken (7 * r + k))
            generalize hA : bu_ar (a_ruleToken (7 * r + k)) = A at *
            generalize hH : bu_h (fun i => bu_ar (a_ruleToken (7 * r + i))) k = H at *
            have T1 : 1 ≤ A → 0 < k ∧ 0 < c := by
              intro q
              obtain ⟨A', rfl⟩ : ∃ A', A = A' + 1 := ⟨A - 1, by omega⟩
              exact ⟨tchi.1, cchi.1⟩
            refine ym_175 (G := bu_st (fun i => bu_ar (a_ruleToken (7 * r + i))) (k - 1)) (F := bu_F a_nodeOperator (c - 1)) hr (by omega) (by omega) (by rw [hA]; exact T1) (fun q => ?_) (fun q => ?_) (fun q => ?_) (fun q => ?_) (fun q => ?_)
            · rw [hA] at q; subst q
              obtain ⟨t1, t2, t3, t4, t5⟩ := bu_T_2 tchi
              exact ⟨t1, stT _ (by omega), t3, by omega⟩
            · rw [hA] at q; subst q
              obtain ⟨t1, t2, t3, t4, t5⟩ := bu_T_2 cchi
              exact ⟨t1, stN _ (by omega), t3⟩
            · rw [hA] at q; subst q
              have t1 := bu_T_0 tchi
              have t2 := bu_T_0 cchi
              rw [t1, t2] at D2
              exact next P (fun _ _ => rfl) D2
            · rw [hA] at q; subst q
              obtain ⟨t1, t2, t3⟩ := bu_T_1 tchi
              obtain ⟨u1, u2, u3⟩ := bu_T_1 cchi
              refine next _ (fun i hi => pk_un (by omega)) ?_
              rw [show H = (H - 1) + 1 by omega]
              refine ⟨pk_us, ?_⟩
              rw [← t3, ← u3]
              exact bu_PD_cg tall (fun j hj => (pk_un (by omega)).symm) D2
            · rw [hA] at q; subst q
              obtain ⟨t1, t2, t3, t4, t5⟩ := bu_T_2 tchi
              obtain ⟨u1, u2, u3, u4, u5⟩ := bu_T_2 cchi
              refine next _ (fun i hi => by rw [pk_un (by omega), pk_un (by omega)]) ?_
              rw [show H = (H - 2) + 1 + 1 by omega]
              refine ⟨by rw [pk_un (by omega)]; exact pk_us, pk_us, ?_⟩
              rw [← t5, ← u5]
              exact bu_PD_cg tall (fun j hj => by rw [pk_un (by omega), pk_un (by omega)]) D2
          have rng : (a_ruleToken (7 * r + k) = 0 ∨ a_ruleToken (7 * r + k) = 1) → wY_match_135 post (wY_match_78 post (nI r) (nI n) (nI (7 * r)) g_registers g_nonterminals g_words g_treeNodes g_rules g_nodes g_statements g_lastValue g_spent fuel) (nI r) (nI n) (nI (7 * r)) (nI k) (a_ruleToken (7 * r + k)) (nI c) g_registers g_nonterminals g_words g_treeNodes g_rules g_nodes g_statements g_lastValue g_spent b_lhsOf b_costOf b_tokens b_tokenAt b_lowAt b_highAt b_nodeOp b_nodeValue b_statementCost b_statementLength b_statementNodes b_memory b_arguments b_work P C b_bestCost b_bestLength := by
            intro ho
            unfold wY_match_135
            have i1 : vp_in (nI c) 60 := vp_in_nI (by omega) (by decide)
            have i2 : vp_in (nI (7 * r + k)) 175 := vp_in_nI (by omega) (by decide)
            rw [nI_add, nI_clamp (n := c) (by omega), nI_clamp (n := 7 * r + k) (by omega), eV c (by omega), eL (7 * r + k) (by omega), eH (7 * r + k) (by omega)]
            refine ⟨i1, i2, ?_⟩
            by_cases y : a_nodeValue c < a_ruleLow (7 * r + k)
            · exact br_t y (p0 (fun q => absurd ((hl z q).2 ho).1 (Int32.not_le.mpr y)) _ _)
            · refine br_f y ⟨i1, i2, ?_⟩
              by_cases x : a_nodeValue c ≤ a_ruleHigh (7 * r + k)
              · exact br_t x (go ⟨hop, fun _ => ⟨Int32.not_lt.mp y, x⟩⟩)
              · exact br_f x (p0 (fun q => absurd ((hl z q).2 ho).2 x) _ _)
          by_cases t0 : a_ruleToken (7 * r + k) = 0
          · exact br_t t0 (rng (Or.inl t0))
          · refine br_f t0 ?_
            by_cases t1 : a_ruleToken (7 * r + k) = 1
            · exact br_t t1 (rng (Or.inr t1))
            · exact br_f t1 (go ⟨hop, fun q => absurd q (fun q => q.elim t0 t1)⟩)
        · exact br_f hop (p0 (fun q => hop (hl z q).1) _ _)
      · refine br_t (Int32.not_lt.mp z) (nm_r (bu_m1 _) ?_)
        rw [if_neg z] at hcs
        rw [bu_ar_16 z] at D2 tchi
        have t1 := bu_T_0 tchi
        rw [t1, Nat.sub_zero] at D2
        have hok' : bu_ok a_ruleToken a_ruleLow a_ruleHigh a_nodeOperator a_nodeValue (7 * r) s n (d + 1) := by
          intro d' hd' z'
          rcases Nat.lt_or_ge d' d with y | y
          · exact hok d' y z'
          · have : d' = d := by omega
            subst this
            rw [ek] at z'
            exact absurd z' z
        have := ih (d + 1) P C (by omega) (by omega) hok' (fun i hi1 hi2 => hPk i (by omega) hi2) (by rw [ek', hcs]; exact D2) (by
          intro j j1 j2
          rw [hC j j1 j2]
          constructor
          · rintro q ⟨d', e1, e2, e3⟩
            rcases Nat.lt_or_ge d' d with y | y
            · exact q ⟨d', y, e2, e3⟩
            · have : d' = d := by omega
              subst this
              rw [ek] at e2
              exact absurd e2 z
          · rintro q ⟨d', e1, e2, e3⟩
            exact q ⟨d', by omega, e2, e3⟩)
        rw [ek'] at this
        exact this
    · have ed : d = s := by omega
      subst ed
      rw [show d - d = 0 by omega]
      refine br_t (by decide) ?_
      refine yt_ts (by omega) ?_
      rw [stN n hn]
      have sfe : bu_SF b_nodeOp (bu_cv a_ruleToken a_nodeOperator (7 * r) d n d) (bu_F a_nodeOperator n) (n + 1) ↔ bu_sf a_ruleToken a_nodeOperator (7 * r) d n := by
        constructor
        · intro q m k h1 h2 h3 h4 h5
          rw [← eO m (by omega), ← eO k (by omega)]
          exact q m k h1 h2 h3 h4 h5
        · intro q m k h1 h2 h3 h4 h5
          rw [eO m (by omega), eO k (by omega)]
          exact q m k h1 h2 h3 h4 h5
      exact ⟨n + 2, ym_267 (cv := bu_cv a_ruleToken a_nodeOperator (7 * r) d n d) (first := bu_F a_nodeOperator n) (by omega) hC (fun q => p2 hok (sfe.mp q) P C (fun i hi' => hP i (by omega) hi')) (fun q => p1 hok (fun y => q (sfe.mpr y)) P C) (n + 2) _ (by omega) (by omega) (by omega) (fun m' k' h1 h2 => by omega)⟩
theorem ym_30 {post : Int32 → SY → Prop} (hN : bu_Nod a_nodeOperator nc) (hnc : nc ≤ 20) (hn : n < nc) (hr : r < 24) (hs : b_tokens r = nI s) (hR : bu_Row a_ruleToken (7 * r) s)
    (eT : ∀ j, j < 168 → b_tokenAt j = a_ruleToken j) (eL : ∀ j, j < 168 → b_lowAt j = a_ruleLow j) (eH : ∀ j, j < 168 → b_highAt j = a_ruleHigh j)
    (eO : ∀ j, j < 20 → b_nodeOp j = a_nodeOperator j) (eV : ∀ j, j < 20 → b_nodeValue j = a_nodeValue j)
    (p0 : ¬ bu_ok a_ruleToken a_ruleLow a_ruleHigh a_nodeOperator a_nodeValue (7 * r) s n s → ∀ P C, post 0 (g_registers, g_nonterminals, g_words, g_treeNodes, g_rules, g_nodes, g_statements, g_lastValue, g_spent, b_lhsOf, b_costOf, b_tokens, b_tokenAt, b_lowAt, b_highAt, b_nodeOp, b_nodeValue, b_statementCost, b_statementLength, b_statementNodes, b_memory, b_arguments, b_work, P, C, b_bestCost, b_bestLength))
    (p1 : bu_ok a_ruleToken a_ruleLow a_ruleHigh a_nodeOperator a_nodeValue (7 * r) s n s → ¬ bu_sf a_ruleToken a_nodeOperator (7 * r) s n → ∀ P C, post 1 (g_registers, g_nonterminals, g_words, g_treeNodes, g_rules, g_nodes, g_statements, g_lastValue, g_spent, b_lhsOf, b_costOf, b_tokens, b_tokenAt, b_lowAt, b_highAt, b_nodeOp, b_nodeValue, b_statementCost, b_statementLength, b_statementNodes, b_memory, b_arguments, b_work, P, C, b_bestCost, b_bestLength))
    (p2 : bu_ok a_ruleToken a_ruleLow a_ruleHigh a_nodeOperator a_nodeValue (7 * r) s n s → bu_sf a_ruleToken a_nodeOperator (7 * r) s n → ∀ P C, (∀ i, i < s → P i = nI (bu_cu a_ruleToken a_nodeOperator (7 * r) s n (s - 1 - i) - 1)) → post 2 (g_registers, g_nonterminals, g_words, g_treeNodes, g_rules, g_nodes, g_statements, g_lastValue, g_spent, b_lhsOf, b_costOf, b_tokens, b_tokenAt, b_lowAt, b_highAt, b_nodeOp, b_nodeValue, b_statementCost, b_statementLength, b_statementNodes, b_memory, b_arguments, b_work, P, C, b_bestCost, b_bestLength)) :
    ∀ (fuel k : Nat) (C : Nat → Int32), 20 < k + fuel → k ≤ 20 → (∀ j, j < k → C j = 0) →
      wY_match_30 post (nI r) (nI n) g_registers g_nonterminals g_words g_treeNodes g_rules g_nodes g_statements g_lastValue g_spent fuel (nI k) b_lhsOf b_costOf b_tokens b_tokenAt b_lowAt b_highAt b_nodeOp b_nodeValue b_statementCost b_statementLength b_statementNodes b_memory b_arguments b_work b_place C b_bestCost b_bestLength := by
  have s7 := hR.2.1
  have s1 := hR.1
  intro fuel
  induction fuel with
  | zero => intro k C hf hk; omega
  | succ fuel ih =>
    intro k C hf hk hC
    rw [wY_match_30]
    dsimp only
    rcases Nat.lt_or_ge k 20 with z | z
    · refine br_f (nI_ge (b := 20) z (by decide)) ⟨vp_in_nI z (by decide), ?_⟩
      rw [nI_clamp (n := k) (by omega)]
      refine nm_e (nm_r (nI_1 k) (ih (k + 1) _ (by omega) (by omega) ?_))
      intro j hj
      by_cases e : j = k
      · subst e; rw [pk_us]; decide
      · rw [pk_un e]; exact hC j (by omega)
    · have ek : k = 20 := by omega
      subst ek
      have es : nI s - 1 = nI (s - 1) := by
        obtain ⟨k', rfl⟩ : ∃ k', s = k' + 1 := ⟨s - 1, by omega⟩
        rw [nI_pred]; rfl
      have hv : vp_in (nI r) 25 := vp_in_nI (by omega) (by decide)
      refine br_t (nI_le (b := 20) (by omega) (by decide)) (nm_r (bu_x7 r) ⟨hv, ?_⟩)
      rw [nI_clamp (n := r) (by omega), hs, es, nI_clamp (n := s - 1) (by omega), ← es]
      refine ⟨by rw [es]; exact vp_in_nI (by omega) (by decide), nm_e ⟨hv, nm_e ⟨s + 1, ?_⟩⟩⟩
      have e0 : bu_cu a_ruleToken a_nodeOperator (7 * r) s n 0 = n + 1 := rfl
      have := ym_78 (post := post) hN hnc hn hr hR eT eL eH eO eV p0 p1 p2 (s + 1) 0 (upd b_place (s - 1) (nI n)) C (by omega) (by omega) (fun d' hd' => by omega) (fun i h1 h2 => by omega) (by
        rw [show s - 0 = s by omega, hR.2.2.2, e0]
        exact ⟨pk_us, trivial⟩) (by
        intro j j1 j2
        rw [hC j (by omega)]
        exact ⟨fun _ ⟨d', e1, _⟩ => by omega, fun _ => rfl⟩)
      rw [show s - 0 = s by omega] at this
      exact this
theorem ym_match {post : Int32 → SY → Prop} {rc : Nat} (hN : bu_Nod a_nodeOperator nc) (hnc : nc ≤ 20) (hn : n < nc) (hr : r < rc) (hrc : rc ≤ 24) (hs : b_tokens r = nI s) (hR : bu_Row a_ruleToken (7 * r) s)
    (eT : ∀ j, j < 168 → b_tokenAt j = a_ruleToken j) (eL : ∀ j, j < 168 → b_lowAt j = a_ruleLow j) (eH : ∀ j, j < 168 → b_highAt j = a_ruleHigh j)
    (eO : ∀ j, j < 20 → b_nodeOp j = a_nodeOperator j) (eV : ∀ j, j < 20 → b_nodeValue j = a_nodeValue j)
    (p0 : ¬ bu_ok a_ruleToken a_ruleLow a_ruleHigh a_nodeOperator a_nodeValue (7 * r) s n s → ∀ P C, post 0 (g_registers, g_nonterminals, g_words, g_treeNodes, (nI rc), (nI nc), g_statements, g_lastValue, g_spent, b_lhsOf, b_costOf, b_tokens, b_tokenAt, b_lowAt, b_highAt, b_nodeOp, b_nodeValue, b_statementCost, b_statementLength, b_statementNodes, b_memory, b_arguments, b_work, P, C, b_bestCost, b_bestLength))
    (p1 : bu_ok a_ruleToken a_ruleLow a_ruleHigh a_nodeOperator a_nodeValue (7 * r) s n s → ¬ bu_sf a_ruleToken a_nodeOperator (7 * r) s n → ∀ P C, post 1 (g_registers, g_nonterminals, g_words, g_treeNodes, (nI rc), (nI nc), g_statements, g_lastValue, g_spent, b_lhsOf, b_costOf, b_tokens, b_tokenAt, b_lowAt, b_highAt, b_nodeOp, b_nodeValue, b_statementCost, b_statementLength, b_statementNodes, b_memory, b_arguments, b_work, P, C, b_bestCost, b_bestLength))
    (p2 : bu_ok a_ruleToken a_ruleLow a_ruleHigh a_nodeOperator a_nodeValue (7 * r) s n s → bu_sf a_ruleToken a_nodeOperator (7 * r) s n → ∀ P C, (∀ i, i < s → P i = nI (bu_cu a_ruleToken a_nodeOperator (7 * r) s n (s - 1 - i) - 1)) → post 2 (g_registers, g_nonterminals, g_words, g_treeNodes, (nI rc), (nI nc), g_statements, g_lastValue, g_spent, b_lhsOf, b_costOf, b_tokens, b_tokenAt, b_lowAt, b_highAt, b_nodeOp, b_nodeValue, b_statementCost, b_statementLength, b_statementNodes, b_memory, b_arguments, b_work, P, C, b_bestCost, b_bestLength)) :
    wpY_match post (g_registers, g_nonterminals, g_words, g_treeNodes, (nI rc), (nI nc), g_statements, g_lastValue, g_spent, b_lhsOf, b_costOf, b_tokens, b_tokenAt, b_lowAt, b_highAt, b_nodeOp, b_nodeValue, b_statementCost, b_statementLength, b_statementNodes, b_memory, b_arguments, b_work, b_place, b_covered, b_bestCost, b_bestLength) (nI r) (nI n) := by
  unfold wpY_match
  refine br_f (nI_pos (by omega)) (br_t (nI_lt hr (by omega)) (br_f (nI_pos (by omega)) (br_t (nI_lt hn (by omega)) ⟨21, ?_⟩)))
  exact ym_30 hN hnc hn (by omega) hs hR eT eL eH eO eV p0 p1 p2 21 0 b_covered (by omega) (by omega) (fun j hj => by omega)
end
end
section
/-! the reference's labels -/
section
variable {g_registers g_nonterminals g_words g_treeNodes g_rules g_nodes g_statements g_lastValue g_spent : Int32} {b_lhsOf b_costOf b_tokens b_tokenAt b_lowAt b_highAt b_nodeOp b_nodeValue b_statementCost b_statementLength b_statementNodes b_memory b_arguments b_work b_place b_covered b_bestCost b_bestLength : Nat → Int32}
variable {a_ruleToken a_ruleLow a_ruleHigh a_ruleSize a_ruleLhs a_ruleCost a_nodeOperator a_nodeValue : Nat → Int32} {rg nt rc nc : Nat}
theorem yi_42 {post : Int32 → SY → Prop} {r n : Nat} {V : Nat → Nat} (D : bu_Dat rg nt rc nc a_ruleToken a_ruleLhs a_ruleCost a_ruleSize a_nodeOperator) (hr : r < rc) (hn : n < nc)
    (eT : ∀ j, j < 168 → b_tokenAt j = a_ruleToken j) (eS : ∀ j, j < 24 → b_tokens j = a_ruleSize j)
    (hB : bu_Bd (fun n => 6 * (n - bu_F a_nodeOperator n)) nc V) (hI : ∀ e, V e ≤ bu_I) (hC : bu_Cor 120 V b_bestCost b_bestLength)
    (hM : (bu_M a_ruleToken a_ruleLow a_ruleHigh a_nodeOperator a_nodeValue (bu_cl a_ruleSize)) r n = true)
    (hP : ∀ i, i < bu_cl a_ruleSize r → b_place i = nI (bu_cu a_ruleToken a_nodeOperator (7 * r) (bu_cl a_ruleSize r) n (bu_cl a_ruleSize r - 1 - i) - 1))
    (h : ∀ bc' bl' z, bu_Cor 120 (bu_rx (bu_M a_ruleToken a_ruleLow a_ruleHigh a_nodeOperator a_nodeValue (bu_cl a_ruleSize)) (bu_O a_ruleToken a_nodeOperator (bu_cl a_ruleSize) (bu_w rg a_ruleLhs a_ruleCost)) (bu_cl a_ruleLhs) r n V) bc' bl' → ((z = 0 ∧ bu_rx (bu_M a_ruleToken a_ruleLow a_ruleHigh a_nodeOperator a_nodeValue (bu_cl a_ruleSize)) (bu_O a_ruleToken a_nodeOperator (bu_cl a_ruleSize) (bu_w rg a_ruleLhs a_ruleCost)) (bu_cl a_ruleLhs) r n V = V) ∨ z = 1) → post z (g_registers, g_nonterminals, g_words, g_treeNodes, g_rules, g_nodes, g_statements, g_lastValue, g_spent, a_ruleLhs, b_costOf, b_tokens, b_tokenAt, b_lowAt, b_highAt, b_nodeOp, b_nodeValue, b_statementCost, b_statementLength, b_statementNodes, b_memory, b_arguments, b_work, b_place, b_covered, bc', bl')) :
    ∀ (fuel i q : Nat), bu_cl a_ruleSize r < i + fuel → i ≤ bu_cl a_ruleSize r → q = bu_w rg a_ruleLhs a_ruleCost r + bu_su (bu_lf a_ruleToken a_nodeOperator (bu_cl a_ruleSize) r n V) i → q / 65536 ≤ 99 + 11880 * i → q % 65536 ≤ 1 + 120 * i →
      wY_improve_42 post (nI r) (nI n) g_registers g_nonterminals g_words g_treeNodes g_rules g_nodes g_statements g_lastValue g_spent a_ruleLhs b_costOf b_tokens b_tokenAt b_lowAt b_highAt b_nodeOp b_nodeValue b_statementCost b_statementLength b_statementNodes b_memory b_arguments b_work b_place b_covered b_bestCost b_bestLength fuel (nI (q / 65536)) (nI (q % 65536)) (nI i) := by
  obtain ⟨d1, d2, d3, d4, d5, d6, d7⟩ := D
  obtain ⟨r1, r2, r3, r4, r5, r6, r7⟩ := bu_Rs_1 d7 hr d3
  have s7 := r6.2.1
  have own : 6 * n + bu_cl a_ruleLhs r < 120 := by omega
  have hrx : ∀ j, j ≠ 6 * n + bu_cl a_ruleLhs r → bu_rx (bu_M a_ruleToken a_ruleLow a_ruleHigh a_nodeOperator a_nodeValue (bu_cl a_ruleSize)) (bu_O a_ruleToken a_nodeOperator (bu_cl a_ruleSize) (bu_w rg a_ruleLhs a_ruleCost)) (bu_cl a_ruleLhs) r n V j = V j := fun j hj => bu_rx_ne hj
  have erx : bu_rx (bu_M a_ruleToken a_ruleLow a_ruleHigh a_nodeOperator a_nodeValue (bu_cl a_ruleSize)) (bu_O a_ruleToken a_nodeOperator (bu_cl a_ruleSize) (bu_w rg a_ruleLhs a_ruleCost)) (bu_cl a_ruleLhs) r n V (6 * n + bu_cl a_ruleLhs r) = if (bu_O a_ruleToken a_nodeOperator (bu_cl a_ruleSize) (bu_w rg a_ruleLhs a_ruleCost)) r n V < V (6 * n + bu_cl a_ruleLhs r) then (bu_O a_ruleToken a_nodeOperator (bu_cl a_ruleSize) (bu_w rg a_ruleLhs a_ruleCost)) r n V else V (6 * n + bu_cl a_ruleLhs r) := if_pos ⟨hM, rfl⟩
  have oe : (bu_O a_ruleToken a_nodeOperator (bu_cl a_ruleSize) (bu_w rg a_ruleLhs a_ruleCost)) r n V = bu_w rg a_ruleLhs a_ruleCost r + bu_su (bu_lf a_ruleToken a_nodeOperator (bu_cl a_ruleSize) r n V) (bu_cl a_ruleSize r) := rfl
  have same : ¬ (bu_O a_ruleToken a_nodeOperator (bu_cl a_ruleSize) (bu_w rg a_ruleLhs a_ruleCost)) r n V < V (6 * n + bu_cl a_ruleLhs r) → bu_rx (bu_M a_ruleToken a_ruleLow a_ruleHigh a_nodeOperator a_nodeValue (bu_cl a_ruleSize)) (bu_O a_ruleToken a_nodeOperator (bu_cl a_ruleSize) (bu_w rg a_ruleLhs a_ruleCost)) (bu_cl a_ruleLhs) r n V = V := by
    intro z
    funext j
    by_cases e : j = 6 * n + bu_cl a_ruleLhs r
    · subst e; rw [erx, if_neg z]
    · exact hrx j e
  obtain ⟨ok, _⟩ := bu_b_t.mp hM
  have hs : b_tokens r = nI (bu_cl a_ruleSize r) := by rw [eS r (by omega)]; exact r1
  intro fuel
  induction fuel with
  | zero => intro i q hf hi; omega
  | succ fuel ih =>
    intro i q hf hi hq q1 q2
    rw [wY_improve_42]
    dsimp only
    rw [bu_x7, nI_clamp (n := r) (by omega), hs]
    refine ⟨vp_in_nI (by omega) (by decide), ?_⟩
    rcases Nat.lt_or_ge i (bu_cl a_ruleSize r) with z | z
    · refine br_f (nI_ge z (by omega)) ?_
      rw [nI_add, nI_clamp (n := 7 * r + i) (by omega), nI_clamp (n := i) (by omega), eT (7 * r + i) (by omega)]
      refine ⟨vp_in_nI (by omega) (by decide), nm_e ?_⟩
      have lf : bu_lf a_ruleToken a_nodeOperator (bu_cl a_ruleSize) r n V i = if a_ruleToken (7 * r + i) < 16 then 0 else V (bu_en a_ruleToken a_nodeOperator (bu_cl a_ruleSize) r n i) := rfl
      by_cases t16 : a_ruleToken (7 * r + i) < 16
      · rw [if_pos t16] at lf
        refine br_t t16 (nm_r (nI_1 i) (ih (i + 1) q (by omega) (by omega) ?_ (by omega) (by omega)))
        rw [bu_su_s, lf]; exact hq
      · rw [if_neg t16] at lf
        refine br_f t16 ⟨vp_in_nI (by omega) (by decide), ?_⟩
        obtain ⟨t, t1, t2, t6⟩ := bu_tok_lt (r7 i z) t16
        obtain ⟨c1, c2, c3⟩ := bu_inv_lt d6 hn r6 (d := bu_cl a_ruleSize r - 1 - i) (by omega) (bu_ok_le ok (by omega))
        have hPi := hP i z
        have ee : bu_en a_ruleToken a_nodeOperator (bu_cl a_ruleSize) r n i = 6 * (bu_cu a_ruleToken a_nodeOperator (7 * r) (bu_cl a_ruleSize r) n (bu_cl a_ruleSize r - 1 - i) - 1) + t := by
          unfold bu_en; rw [t2, nI_clamp (by omega)]; omega
        rw [ee] at lf
        have hp : bu_cu a_ruleToken a_nodeOperator (7 * r) (bu_cl a_ruleSize r) n (bu_cl a_ruleSize r - 1 - i) - 1 ≤ n := by omega
        generalize bu_cu a_ruleToken a_nodeOperator (7 * r) (bu_cl a_ruleSize r) n (bu_cl a_ruleSize r - 1 - i) - 1 = p at *
        have ex : nI p * 6 + nI (16 + t) - 16 = nI (6 * p + t) := by
          rw [bu_x6, nI_add]
          have := pk_sub (a := 6 * p + (16 + t)) (b := 16) (by omega)
          rw [show 6 * p + (16 + t) - 16 = 6 * p + t by omega] at this
          exact this
        rw [hPi, t2]
        refine nm_r ex ⟨vp_in_nI (by omega) (by decide), ?_⟩
        rw [nI_clamp (n := 6 * p + t) (by omega)]
        rcases hC (6 * p + t) (by omega) with ⟨k1, k2⟩ | ⟨k1, k2, k3⟩
        · refine br_f (by rw [k2]; decide) ?_
          have big : ¬ (bu_O a_ruleToken a_nodeOperator (bu_cl a_ruleSize) (bu_w rg a_ruleLhs a_ruleCost)) r n V < V (6 * n + bu_cl a_ruleLhs r) := by
            have a1 := bu_su_1 (f := bu_lf a_ruleToken a_nodeOperator (bu_cl a_ruleSize) r n V) (j := i) (k := bu_cl a_ruleSize r) z
            have a2 := hI (6 * n + bu_cl a_ruleLhs r)
            omega
          refine h b_bestCost b_bestLength 0 ?_ (Or.inl ⟨rfl, same big⟩)
          rw [same big]; exact hC
        · have bd := bu_Bd_6 hB (n := p) (t := t) (by omega) t6 k1
          have bd : V (6 * p + t) / 65536 ≤ 11880 ∧ V (6 * p + t) % 65536 ≤ 120 := by
            have bd' : V (6 * p + t) / 65536 ≤ 99 * (6 * (p - bu_F a_nodeOperator p) + 6) ∧ V (6 * p + t) % 65536 ≤ 6 * (p - bu_F a_nodeOperator p) + 6 := bd
            omega
          rw [k2, k3]
          have hin : vp_in (nI (6 * p + t)) 120 := vp_in_nI (by omega) (by decide)
          have a1 : nI (q / 65536) + nI (V (6 * p + t) / 65536) = nI ((q + V (6 * p + t)) / 65536) := by
            rw [nI_add]; exact congrArg nI (by omega)
          have a2 : nI (q % 65536) + nI (V (6 * p + t) % 65536) = nI ((q + V (6 * p + t)) % 65536) := by
            rw [nI_add]; exact congrArg nI (by omega)
          refine br_t (nI_pos' (by omega)) ⟨hin, nm_r a1 ⟨hin, nm_r a2 (nm_r (nI_1 i) (ih (i + 1) _ (by omega) (by omega) ?_ (by omega) (by omega)))⟩⟩
          rw [bu_su_s, lf, hq]; omega
    · have ei : i = bu_cl a_ruleSize r := by omega
      subst ei
      refine br_t (nI_le (by omega) (by omega)) ⟨vp_in_nI (by omega) (by decide), ?_⟩
      rw [bu_x6, r2, nI_add]
      have hin : vp_in (nI (6 * n + bu_cl a_ruleLhs r)) 120 := vp_in_nI own (by decide)
      refine nm_e ⟨hin, ?_⟩
      rw [nI_clamp (n := 6 * n + bu_cl a_ruleLhs r) (by omega)]
      have oq : (bu_O a_ruleToken a_nodeOperator (bu_cl a_ruleSize) (bu_w rg a_ruleLhs a_ruleCost)) r n V = q := by rw [oe, hq]
      have qd : q / 65536 * 65536 + q % 65536 = q := by omega
      have t1 : q < V (6 * n + bu_cl a_ruleLhs r) → wY_improve_193 post (nI (q / 65536)) (nI (q % 65536)) (nI (6 * n + bu_cl a_ruleLhs r)) g_registers g_nonterminals g_words g_treeNodes g_rules g_nodes g_statements g_lastValue g_spent a_ruleLhs b_costOf b_tokens b_tokenAt b_lowAt b_highAt b_nodeOp b_nodeValue b_statementCost b_statementLength b_statementNodes b_memory b_arguments b_work b_place b_covered b_bestCost b_bestLength := by
        intro y
        unfold wY_improve_193
        rw [nI_clamp (n := 6 * n + bu_cl a_ruleLhs r) (by omega)]
        refine ⟨hin, nm_e ⟨hin, nm_e (h _ _ 1 ?_ (Or.inr rfl))⟩⟩
        have erx' : bu_rx (bu_M a_ruleToken a_ruleLow a_ruleHigh a_nodeOperator a_nodeValue (bu_cl a_ruleSize)) (bu_O a_ruleToken a_nodeOperator (bu_cl a_ruleSize) (bu_w rg a_ruleLhs a_ruleCost)) (bu_cl a_ruleLhs) r n V (6 * n + bu_cl a_ruleLhs r) = q := by rw [erx, oq, if_pos y]
        refine bu_Cor_up hC hrx ?_ (by omega) ?_
        · rw [erx', qd]
        · rw [erx']; have := hI (6 * n + bu_cl a_ruleLhs r); omega
      have t0 : ¬ q < V (6 * n + bu_cl a_ruleLhs r) → post 0 (g_registers, g_nonterminals, g_words, g_treeNodes, g_rules, g_nodes, g_statements, g_lastValue, g_spent, a_ruleLhs, b_costOf, b_tokens, b_tokenAt, b_lowAt, b_highAt, b_nodeOp, b_nodeValue, b_statementCost, b_statementLength, b_statementNodes, b_memory, b_arguments, b_work, b_place, b_covered, b_bestCost, b_bestLength) := by
        intro y
        rw [← oq] at y
        refine h _ _ 0 ?_ (Or.inl ⟨rfl, same y⟩)
        rw [same y]; exact hC
      rcases hC (6 * n + bu_cl a_ruleLhs r) own with ⟨c1, c2⟩ | ⟨c1, c2, c3⟩
      · rw [c2]
        refine br_t (by decide) (t1 ?_)
        rw [c1]; unfold bu_I; omega
      · rw [c2, c3]
        have b : V (6 * n + bu_cl a_ruleLhs r) < 1099511627776 := c1
        generalize V (6 * n + bu_cl a_ruleLhs r) = v at *
        have n1 : v / 65536 < 2 ^ 31 := by omega
        have n2 : v % 65536 < 2 ^ 31 := by omega
        refine br_f (nI_pos n1) ⟨hin, ?_⟩
        rcases Nat.lt_or_ge (v / 65536) (q / 65536) with u | u
        · exact br_f (fun k => by have := (nI_leI (by omega) n1).mp k; omega) (t0 (by omega))
        · refine br_t ((nI_leI (by omega) n1).mpr u) ⟨hin, ?_⟩
          by_cases e : v / 65536 = q / 65536
          · refine br_t (by rw [e]) ⟨hin, ?_⟩
            rcases Nat.lt_or_ge (q % 65536) (v % 65536) with k | k
            · exact br_t ((nI_ltI (by omega) n2).mpr k) (t1 (by omega))
            · exact br_f (fun k' => by have := (nI_ltI (by omega) n2).mp k'; omega) (t0 (by omega))
          · exact br_f (fun k => e ((nI_eq n1 (by omega)).mp k)) (t1 (by omega))
theorem yi_imp {post : Int32 → SY → Prop} {r n : Nat} {V : Nat → Nat} (D : bu_Dat rg nt rc nc a_ruleToken a_ruleLhs a_ruleCost a_ruleSize a_nodeOperator) (hr : r < rc) (hn : n < nc)
    (eT : ∀ j, j < 168 → b_tokenAt j = a_ruleToken j) (eL : ∀ j, j < 168 → b_lowAt j = a_ruleLow j) (eH : ∀ j, j < 168 → b_highAt j = a_ruleHigh j) (eS : ∀ j, j < 24 → b_tokens j = a_ruleSize j)
    (eO : ∀ j, j < 20 → b_nodeOp j = a_nodeOperator j) (eV : ∀ j, j < 20 → b_nodeValue j = a_nodeValue j)
    (hB : bu_Bd (fun n => 6 * (n - bu_F a_nodeOperator n)) nc V) (hI : ∀ e, V e ≤ bu_I) (hC : bu_Cor 120 V b_bestCost b_bestLength)
    (h : ∀ P C bc' bl' z, bu_Cor 120 (bu_rx (bu_M a_ruleToken a_ruleLow a_ruleHigh a_nodeOperator a_nodeValue (bu_cl a_ruleSize)) (bu_O a_ruleToken a_nodeOperator (bu_cl a_ruleSize) (bu_w rg a_ruleLhs a_ruleCost)) (bu_cl a_ruleLhs) r n V) bc' bl' → ((z = 0 ∧ bu_rx (bu_M a_ruleToken a_ruleLow a_ruleHigh a_nodeOperator a_nodeValue (bu_cl a_ruleSize)) (bu_O a_ruleToken a_nodeOperator (bu_cl a_ruleSize) (bu_w rg a_ruleLhs a_ruleCost)) (bu_cl a_ruleLhs) r n V = V) ∨ z = 1) → post z ((nI rg), g_nonterminals, g_words, g_treeNodes, (nI rc), (nI nc), g_statements, g_lastValue, g_spent, a_ruleLhs, a_ruleCost, b_tokens, b_tokenAt, b_lowAt, b_highAt, b_nodeOp, b_nodeValue, b_statementCost, b_statementLength, b_statementNodes, b_memory, b_arguments, b_work, P, C, bc', bl')) :
    wpY_improve post ((nI rg), g_nonterminals, g_words, g_treeNodes, (nI rc), (nI nc), g_statements, g_lastValue, g_spent, a_ruleLhs, a_ruleCost, b_tokens, b_tokenAt, b_lowAt, b_highAt, b_nodeOp, b_nodeValue, b_statementCost, b_statementLength, b_statementNodes, b_memory, b_arguments, b_work, b_place, b_covered, b_bestCost, b_bestLength) (nI r) (nI n) := by
  have D' := D
  obtain ⟨d1, d2, d3, d4, d5, d6, d7⟩ := D
  obtain ⟨r1, r2, r3, r4, r5, r6, r7⟩ := bu_Rs_1 d7 hr d3
  have s7 := r6.2.1
  have no : ¬ (bu_M a_ruleToken a_ruleLow a_ruleHigh a_nodeOperator a_nodeValue (bu_cl a_ruleSize)) r n = true → bu_rx (bu_M a_ruleToken a_ruleLow a_ruleHigh a_nodeOperator a_nodeValue (bu_cl a_ruleSize)) (bu_O a_ruleToken a_nodeOperator (bu_cl a_ruleSize) (bu_w rg a_ruleLhs a_ruleCost)) (bu_cl a_ruleLhs) r n V = V := by
    intro z; funext j
    unfold bu_rx; exact if_neg (fun q => z q.1)
  unfold wpY_improve
  refine ym_match (s := bu_cl a_ruleSize r) d6 d5 hn hr d4 (by rw [eS r (by omega)]; exact r1) r6 eT eL eH eO eV (fun q P C => ?_) (fun q1 q2 P C => ?_) (fun q1 q2 P C hP => ?_)
  · have hM : ¬ (bu_M a_ruleToken a_ruleLow a_ruleHigh a_nodeOperator a_nodeValue (bu_cl a_ruleSize)) r n = true := fun z => q (bu_b_t.mp z).1
    refine br_f (by decide) (h P C _ _ 0 ?_ (Or.inl ⟨rfl, no hM⟩))
    rw [no hM]; exact hC
  · have hM : ¬ (bu_M a_ruleToken a_ruleLow a_ruleHigh a_nodeOperator a_nodeValue (bu_cl a_ruleSize)) r n = true := fun z => q2 (bu_b_t.mp z).2
    refine br_f (by decide) (h P C _ _ 0 ?_ (Or.inl ⟨rfl, no hM⟩))
    rw [no hM]; exact hC
  · have hM : (bu_M a_ruleToken a_ruleLow a_ruleHigh a_nodeOperator a_nodeValue (bu_cl a_ruleSize)) r n = true := bu_b_t.mpr ⟨q1, q2⟩
    have hv := vp_in_nI (n := r) (N := 24) (by omega) (by decide)
    refine br_t rfl ⟨hv, ?_⟩
    rw [nI_clamp (n := r) (by omega), r2]
    refine nm_r r3 ⟨hv, ?_⟩
    have key : ∀ l : Nat, l = (if bu_cl a_ruleLhs r < rg then 1 else 0) → wY_improve_42 post (nI r) (nI n) (nI rg) g_nonterminals g_words g_treeNodes (nI rc) (nI nc) g_statements g_lastValue g_spent a_ruleLhs a_ruleCost b_tokens b_tokenAt b_lowAt b_highAt b_nodeOp b_nodeValue b_statementCost b_statementLength b_statementNodes b_memory b_arguments b_work P C b_bestCost b_bestLength (bu_cl a_ruleSize r + 1) (nI (bu_cl a_ruleCost r)) (nI l) (nI 0) := by
      intro l hl
      have l1 : l ≤ 1 := by rw [hl]; split <;> omega
      have ew : bu_w rg a_ruleLhs a_ruleCost r = bu_cl a_ruleCost r * 65536 + l := by rw [hl]; rfl
      have := yi_42 (post := post) (g_registers := nI rg) (g_rules := nI rc) (g_nodes := nI nc) (b_costOf := a_ruleCost) (b_place := P) (b_covered := C) D' hr hn eT eS hB hI hC hM hP (fun bc' bl' z k1 k2 => h P C bc' bl' z k1 k2) (bu_cl a_ruleSize r + 1) 0 (bu_w rg a_ruleLhs a_ruleCost r) (by omega) (by omega) (Nat.add_zero (bu_w rg a_ruleLhs a_ruleCost r)).symm (by rw [ew]; omega) (by rw [ew]; omega)
      rw [show bu_w rg a_ruleLhs a_ruleCost r / 65536 = bu_cl a_ruleCost r by omega, show bu_w rg a_ruleLhs a_ruleCost r % 65536 = l by omega] at this
      exact this
    rcases Nat.lt_or_ge (bu_cl a_ruleLhs r) rg with z | z
    · exact br_f (nI_ge z (by omega)) ⟨_, key 1 (if_pos z).symm⟩
    · exact br_t (nI_le z (by omega)) ⟨_, key 0 (if_neg (by omega)).symm⟩
theorem yd_57 {post : SY → Prop} {J32 J46 : Int32 → Int32 → Int32 → Int32 → Int32 → Int32 → Int32 → Int32 → Int32 → Int32 → Int32 → (Nat → Int32) → (Nat → Int32) → (Nat → Int32) → (Nat → Int32) → (Nat → Int32) → (Nat → Int32) → (Nat → Int32) → (Nat → Int32) → (Nat → Int32) → (Nat → Int32) → (Nat → Int32) → (Nat → Int32) → (Nat → Int32) → (Nat → Int32) → (Nat → Int32) → (Nat → Int32) → (Nat → Int32) → (Nat → Int32) → Prop} {n : Nat} {x2 : Int32} {V U : Nat → Nat} (D : bu_Dat rg nt rc nc a_ruleToken a_ruleLhs a_ruleCost a_ruleSize a_nodeOperator) (hn : n < nc)
    (eT : ∀ j, j < 168 → b_tokenAt j = a_ruleToken j) (eL : ∀ j, j < 168 → b_lowAt j = a_ruleLow j) (eH : ∀ j, j < 168 → b_highAt j = a_ruleHigh j) (eS : ∀ j, j < 24 → b_tokens j = a_ruleSize j)
    (eO : ∀ j, j < 20 → b_nodeOp j = a_nodeOperator j) (eV : ∀ j, j < 20 → b_nodeValue j = a_nodeValue j)
    (hB : bu_Bd (fun n => 6 * (n - bu_F a_nodeOperator n)) nc V) (hI : ∀ e, V e ≤ bu_I)
    (hJ : ∀ z P C bc bl, bu_Cor 120 (bu_ps (bu_M a_ruleToken a_ruleLow a_ruleHigh a_nodeOperator a_nodeValue (bu_cl a_ruleSize)) (bu_O a_ruleToken a_nodeOperator (bu_cl a_ruleSize) (bu_w rg a_ruleLhs a_ruleCost)) (bu_cl a_ruleLhs) (fun _ => true) n rc V) bc bl → (z = 0 → bu_ps (bu_M a_ruleToken a_ruleLow a_ruleHigh a_nodeOperator a_nodeValue (bu_cl a_ruleSize)) (bu_O a_ruleToken a_nodeOperator (bu_cl a_ruleSize) (bu_w rg a_ruleLhs a_ruleCost)) (bu_cl a_ruleLhs) (fun _ => true) n rc V = U) → J46 z (nI (n + 1)) (nI rg) g_nonterminals g_words g_treeNodes (nI rc) (nI nc) g_statements g_lastValue g_spent a_ruleLhs a_ruleCost b_tokens b_tokenAt b_lowAt b_highAt b_nodeOp b_nodeValue b_statementCost b_statementLength b_statementNodes b_memory b_arguments b_work P C bc bl) :
    ∀ (fuel k : Nat) (z : Int32) (P C bc bl : Nat → Int32), rc < k + fuel → k ≤ rc → bu_Cor 120 (bu_ps (bu_M a_ruleToken a_ruleLow a_ruleHigh a_nodeOperator a_nodeValue (bu_cl a_ruleSize)) (bu_O a_ruleToken a_nodeOperator (bu_cl a_ruleSize) (bu_w rg a_ruleLhs a_ruleCost)) (bu_cl a_ruleLhs) (fun _ => true) n k V) bc bl → (z = 0 → bu_ps (bu_M a_ruleToken a_ruleLow a_ruleHigh a_nodeOperator a_nodeValue (bu_cl a_ruleSize)) (bu_O a_ruleToken a_nodeOperator (bu_cl a_ruleSize) (bu_w rg a_ruleLhs a_ruleCost)) (bu_cl a_ruleLhs) (fun _ => true) n k V = U) →
      wY_derive_57 post J32 J46 x2 (nI n) fuel z (nI k) (nI rg) g_nonterminals g_words g_treeNodes (nI rc) (nI nc) g_statements g_lastValue g_spent a_ruleLhs a_ruleCost b_tokens b_tokenAt b_lowAt b_highAt b_nodeOp b_nodeValue b_statementCost b_statementLength b_statementNodes b_memory b_arguments b_work P C bc bl := by
  have S := bu_dsys (lo := a_ruleLow) (hi := a_ruleHigh) (nv := a_nodeValue) D
  have W := bu_dwt (lo := a_ruleLow) (hi := a_ruleHigh) (nv := a_nodeValue) D
  have r24 := D.2.2.2.1
  intro fuel
  induction fuel with
  | zero => intro k z P C bc bl hf hk; omega
  | succ fuel ih =>
    intro k z P C bc bl hf hk hC hz
    rw [wY_derive_57]
    dsimp only
    rcases Nat.lt_or_ge k rc with y | y
    · refine br_f (nI_ge y (by omega)) ?_
      have es : bu_ps (bu_M a_ruleToken a_ruleLow a_ruleHigh a_nodeOperator a_nodeValue (bu_cl a_ruleSize)) (bu_O a_ruleToken a_nodeOperator (bu_cl a_ruleSize) (bu_w rg a_ruleLhs a_ruleCost)) (bu_cl a_ruleLhs) (fun _ => true) n (k + 1) V = bu_rx (bu_M a_ruleToken a_ruleLow a_ruleHigh a_nodeOperator a_nodeValue (bu_cl a_ruleSize)) (bu_O a_ruleToken a_nodeOperator (bu_cl a_ruleSize) (bu_w rg a_ruleLhs a_ruleCost)) (bu_cl a_ruleLhs) k n (bu_ps (bu_M a_ruleToken a_ruleLow a_ruleHigh a_nodeOperator a_nodeValue (bu_cl a_ruleSize)) (bu_O a_ruleToken a_nodeOperator (bu_cl a_ruleSize) (bu_w rg a_ruleLhs a_ruleCost)) (bu_cl a_ruleLhs) (fun _ => true) n k V) := by rw [bu_ps_s, if_pos rfl]
      refine yi_imp (V := bu_ps (bu_M a_ruleToken a_ruleLow a_ruleHigh a_nodeOperator a_nodeValue (bu_cl a_ruleSize)) (bu_O a_ruleToken a_nodeOperator (bu_cl a_ruleSize) (bu_w rg a_ruleLhs a_ruleCost)) (bu_cl a_ruleLhs) (fun _ => true) n k V) D y hn eT eL eH eS eO eV (bu_Bd_ps S W hB hn hk) (bu_ps_I hI) hC (fun P' C' bc' bl' v hC' hv => ?_)
      rw [← es] at hC' hv
      rcases hv with ⟨v0, v1⟩ | v1
      · exact br_t v0 (nm_r (nI_1 k) (ih (k + 1) z P' C' bc' bl' (by omega) (by omega) hC' (fun q => v1.trans (hz q))))
      · exact br_f (by rw [v1]; decide) (nm_r (nI_1 k) (ih (k + 1) 1 P' C' bc' bl' (by omega) (by omega) hC' (fun q => absurd q (by decide))))
    · have ek : k = rc := by omega
      subst ek
      exact br_t (nI_le (by omega) (by omega)) (nm_r (nI_1 n) (hJ z P C bc bl hC hz))
theorem yd_46 {post : SY → Prop} {J32 : Int32 → Int32 → Int32 → Int32 → Int32 → Int32 → Int32 → Int32 → Int32 → Int32 → Int32 → (Nat → Int32) → (Nat → Int32) → (Nat → Int32) → (Nat → Int32) → (Nat → Int32) → (Nat → Int32) → (Nat → Int32) → (Nat → Int32) → (Nat → Int32) → (Nat → Int32) → (Nat → Int32) → (Nat → Int32) → (Nat → Int32) → (Nat → Int32) → (Nat → Int32) → (Nat → Int32) → (Nat → Int32) → (Nat → Int32) → Prop} {j : Nat} {V : Nat → Nat} (D : bu_Dat rg nt rc nc a_ruleToken a_ruleLhs a_ruleCost a_ruleSize a_nodeOperator)
    (eT : ∀ j, j < 168 → b_tokenAt j = a_ruleToken j) (eL : ∀ j, j < 168 → b_lowAt j = a_ruleLow j) (eH : ∀ j, j < 168 → b_highAt j = a_ruleHigh j) (eS : ∀ j, j < 24 → b_tokens j = a_ruleSize j)
    (eO : ∀ j, j < 20 → b_nodeOp j = a_nodeOperator j) (eV : ∀ j, j < 20 → b_nodeValue j = a_nodeValue j)
    (hB : bu_Bd (fun n => 6 * (n - bu_F a_nodeOperator n)) nc V) (hI : ∀ e, V e ≤ bu_I)
    (hJ : ∀ z P C bc bl, bu_Cor 120 (bu_rd (bu_M a_ruleToken a_ruleLow a_ruleHigh a_nodeOperator a_nodeValue (bu_cl a_ruleSize)) (bu_O a_ruleToken a_nodeOperator (bu_cl a_ruleSize) (bu_w rg a_ruleLhs a_ruleCost)) (bu_cl a_ruleLhs) rc nc V) bc bl → (z = 0 → bu_rd (bu_M a_ruleToken a_ruleLow a_ruleHigh a_nodeOperator a_nodeValue (bu_cl a_ruleSize)) (bu_O a_ruleToken a_nodeOperator (bu_cl a_ruleSize) (bu_w rg a_ruleLhs a_ruleCost)) (bu_cl a_ruleLhs) rc nc V = V) → J32 z (nI (j + 1)) (nI rg) g_nonterminals g_words g_treeNodes (nI rc) (nI nc) g_statements g_lastValue g_spent a_ruleLhs a_ruleCost b_tokens b_tokenAt b_lowAt b_highAt b_nodeOp b_nodeValue b_statementCost b_statementLength b_statementNodes b_memory b_arguments b_work P C bc bl) :
    ∀ (fuel k : Nat) (z : Int32) (P C bc bl : Nat → Int32), nc < k + fuel → k ≤ nc → bu_Cor 120 (bu_rd (bu_M a_ruleToken a_ruleLow a_ruleHigh a_nodeOperator a_nodeValue (bu_cl a_ruleSize)) (bu_O a_ruleToken a_nodeOperator (bu_cl a_ruleSize) (bu_w rg a_ruleLhs a_ruleCost)) (bu_cl a_ruleLhs) rc k V) bc bl → bu_Bd (fun n => 6 * (n - bu_F a_nodeOperator n)) nc (bu_rd (bu_M a_ruleToken a_ruleLow a_ruleHigh a_nodeOperator a_nodeValue (bu_cl a_ruleSize)) (bu_O a_ruleToken a_nodeOperator (bu_cl a_ruleSize) (bu_w rg a_ruleLhs a_ruleCost)) (bu_cl a_ruleLhs) rc k V) → (z = 0 → bu_rd (bu_M a_ruleToken a_ruleLow a_ruleHigh a_nodeOperator a_nodeValue (bu_cl a_ruleSize)) (bu_O a_ruleToken a_nodeOperator (bu_cl a_ruleSize) (bu_w rg a_ruleLhs a_ruleCost)) (bu_cl a_ruleLhs) rc k V = V) →
      wY_derive_46 post J32 (nI j) fuel z (nI k) (nI rg) g_nonterminals g_words g_treeNodes (nI rc) (nI nc) g_statements g_lastValue g_spent a_ruleLhs a_ruleCost b_tokens b_tokenAt b_lowAt b_highAt b_nodeOp b_nodeValue b_statementCost b_statementLength b_statementNodes b_memory b_arguments b_work P C bc bl := by
  have S := bu_dsys (lo := a_ruleLow) (hi := a_ruleHigh) (nv := a_nodeValue) D
  have W := bu_dwt (lo := a_ruleLow) (hi := a_ruleHigh) (nv := a_nodeValue) D
  have n20 := D.2.2.2.2.1
  intro fuel
  induction fuel with
  | zero => intro k z P C bc bl hf hk; omega
  | succ fuel ih =>
    intro k z P C bc bl hf hk hC hBk hz
    rw [wY_derive_46]
    dsimp only
    rcases Nat.lt_or_ge k nc with y | y
    · refine br_f (nI_ge y (by omega)) ⟨rc + 1, ?_⟩
      refine yd_57 (V := bu_rd (bu_M a_ruleToken a_ruleLow a_ruleHigh a_nodeOperator a_nodeValue (bu_cl a_ruleSize)) (bu_O a_ruleToken a_nodeOperator (bu_cl a_ruleSize) (bu_w rg a_ruleLhs a_ruleCost)) (bu_cl a_ruleLhs) rc k V) (U := V) D y eT eL eH eS eO eV hBk (fun e => Nat.le_trans (bu_rd_le V e k) (hI e)) (fun z' P' C' bc' bl' k1 k2 => ?_) (rc + 1) 0 z P C bc bl (by omega) (by omega) hC hz
      exact ih (k + 1) z' P' C' bc' bl' (by omega) (by omega) k1 (bu_Bd_ps S W hBk y (Nat.le_refl _)) k2
    · have ek : k = nc := by omega
      subst ek
      exact br_t (nI_le (by omega) (by omega)) (nm_r (nI_1 j) (hJ z P C bc bl hC hz))
theorem bu_Bd_rd (D : bu_Dat rg nt rc nc a_ruleToken a_ruleLhs a_ruleCost a_ruleSize a_nodeOperator) {V : Nat → Nat} (hB : bu_Bd (fun n => 6 * (n - bu_F a_nodeOperator n)) nc V) : ∀ k, k ≤ nc → bu_Bd (fun n => 6 * (n - bu_F a_nodeOperator n)) nc (bu_rd (bu_M a_ruleToken a_ruleLow a_ruleHigh a_nodeOperator a_nodeValue (bu_cl a_ruleSize)) (bu_O a_ruleToken a_nodeOperator (bu_cl a_ruleSize) (bu_w rg a_ruleLhs a_ruleCost)) (bu_cl a_ruleLhs) rc k V)
  | 0, _ => hB
  | k + 1, hk => bu_Bd_ps (bu_dsys D) (bu_dwt D) (bu_Bd_rd D hB k (by omega)) (by omega) (Nat.le_refl _)
theorem yd_32 {post : SY → Prop} (D : bu_Dat rg nt rc nc a_ruleToken a_ruleLhs a_ruleCost a_ruleSize a_nodeOperator)
    (eT : ∀ j, j < 168 → b_tokenAt j = a_ruleToken j) (eL : ∀ j, j < 168 → b_lowAt j = a_ruleLow j) (eH : ∀ j, j < 168 → b_highAt j = a_ruleHigh j) (eS : ∀ j, j < 24 → b_tokens j = a_ruleSize j)
    (eO : ∀ j, j < 20 → b_nodeOp j = a_nodeOperator j) (eV : ∀ j, j < 20 → b_nodeValue j = a_nodeValue j)
    (h : ∀ P C bc bl, bu_Cor (6 * nc) (bu_L rg nt rc a_ruleToken a_ruleLow a_ruleHigh a_ruleSize a_ruleLhs a_ruleCost a_nodeOperator a_nodeValue nc) bc bl → post ((nI rg), g_nonterminals, g_words, g_treeNodes, (nI rc), (nI nc), g_statements, g_lastValue, g_spent, a_ruleLhs, a_ruleCost, b_tokens, b_tokenAt, b_lowAt, b_highAt, b_nodeOp, b_nodeValue, b_statementCost, b_statementLength, b_statementNodes, b_memory, b_arguments, b_work, P, C, bc, bl)) :
    ∀ (fuel j : Nat) (z : Int32) (P C bc bl : Nat → Int32), 121 < j + fuel → j ≤ 121 → bu_Cor 120 (bu_it (bu_rd (bu_M a_ruleToken a_ruleLow a_ruleHigh a_nodeOperator a_nodeValue (bu_cl a_ruleSize)) (bu_O a_ruleToken a_nodeOperator (bu_cl a_ruleSize) (bu_w rg a_ruleLhs a_ruleCost)) (bu_cl a_ruleLhs) rc nc) j (fun _ => bu_I)) bc bl →
      (z = 0 → bu_rd (bu_M a_ruleToken a_ruleLow a_ruleHigh a_nodeOperator a_nodeValue (bu_cl a_ruleSize)) (bu_O a_ruleToken a_nodeOperator (bu_cl a_ruleSize) (bu_w rg a_ruleLhs a_ruleCost)) (bu_cl a_ruleLhs) rc nc (bu_it (bu_rd (bu_M a_ruleToken a_ruleLow a_ruleHigh a_nodeOperator a_nodeValue (bu_cl a_ruleSize)) (bu_O a_ruleToken a_nodeOperator (bu_cl a_ruleSize) (bu_w rg a_ruleLhs a_ruleCost)) (bu_cl a_ruleLhs) rc nc) j (fun _ => bu_I)) = bu_it (bu_rd (bu_M a_ruleToken a_ruleLow a_ruleHigh a_nodeOperator a_nodeValue (bu_cl a_ruleSize)) (bu_O a_ruleToken a_nodeOperator (bu_cl a_ruleSize) (bu_w rg a_ruleLhs a_ruleCost)) (bu_cl a_ruleLhs) rc nc) j (fun _ => bu_I)) →
      wY_derive_32 post fuel z (nI j) (nI rg) g_nonterminals g_words g_treeNodes (nI rc) (nI nc) g_statements g_lastValue g_spent a_ruleLhs a_ruleCost b_tokens b_tokenAt b_lowAt b_highAt b_nodeOp b_nodeValue b_statementCost b_statementLength b_statementNodes b_memory b_arguments b_work P C bc bl := by
  have S := bu_dsys (lo := a_ruleLow) (hi := a_ruleHigh) (nv := a_nodeValue) D
  have n20 := D.2.2.2.2.1
  have hB : ∀ j, bu_Bd (fun n => 6 * (n - bu_F a_nodeOperator n)) nc (bu_it (bu_rd (bu_M a_ruleToken a_ruleLow a_ruleHigh a_nodeOperator a_nodeValue (bu_cl a_ruleSize)) (bu_O a_ruleToken a_nodeOperator (bu_cl a_ruleSize) (bu_w rg a_ruleLhs a_ruleCost)) (bu_cl a_ruleLhs) rc nc) j (fun _ => bu_I)) := by
    intro j
    induction j with
    | zero => exact bu_Bd_I
    | succ j ih => exact bu_Bd_rd D ih nc (Nat.le_refl _)
  have hI : ∀ j e, bu_it (bu_rd (bu_M a_ruleToken a_ruleLow a_ruleHigh a_nodeOperator a_nodeValue (bu_cl a_ruleSize)) (bu_O a_ruleToken a_nodeOperator (bu_cl a_ruleSize) (bu_w rg a_ruleLhs a_ruleCost)) (bu_cl a_ruleLhs) rc nc) j (fun _ => bu_I) e ≤ bu_I := fun j => bu_it_I (fun V e => bu_rd_le V e nc) (fun _ => Nat.le_refl _)
  have fin : ∀ e, e < 6 * nc → bu_it (bu_rd (bu_M a_ruleToken a_ruleLow a_ruleHigh a_nodeOperator a_nodeValue (bu_cl a_ruleSize)) (bu_O a_ruleToken a_nodeOperator (bu_cl a_ruleSize) (bu_w rg a_ruleLhs a_ruleCost)) (bu_cl a_ruleLhs) rc nc) 121 (fun _ => bu_I) e = bu_L rg nt rc a_ruleToken a_ruleLow a_ruleHigh a_ruleSize a_ruleLhs a_ruleCost a_nodeOperator a_nodeValue nc e := fun e he => bu_ref S he (by omega)
  intro fuel
  induction fuel with
  | zero => intro j z P C bc bl hf hj; omega
  | succ fuel ih =>
    intro j z P C bc bl hf hj hC hz
    have done : bu_it (bu_rd (bu_M a_ruleToken a_ruleLow a_ruleHigh a_nodeOperator a_nodeValue (bu_cl a_ruleSize)) (bu_O a_ruleToken a_nodeOperator (bu_cl a_ruleSize) (bu_w rg a_ruleLhs a_ruleCost)) (bu_cl a_ruleLhs) rc nc) j (fun _ => bu_I) = bu_it (bu_rd (bu_M a_ruleToken a_ruleLow a_ruleHigh a_nodeOperator a_nodeValue (bu_cl a_ruleSize)) (bu_O a_ruleToken a_nodeOperator (bu_cl a_ruleSize) (bu_w rg a_ruleLhs a_ruleCost)) (bu_cl a_ruleLhs) rc nc) 121 (fun _ => bu_I) → bu_Cor (6 * nc) (bu_L rg nt rc a_ruleToken a_ruleLow a_ruleHigh a_ruleSize a_ruleLhs a_ruleCost a_nodeOperator a_nodeValue nc) bc bl := by
      intro q e he
      have := hC e (by omega)
      rw [q, fin e he] at this
      exact this
    rw [wY_derive_32]
    dsimp only
    rcases Nat.lt_or_ge 120 j with y | y
    · have ej : j = 121 := by omega
      subst ej
      exact br_t (nI_lt (a := 120) (by omega) (by omega)) (h P C bc bl (done rfl))
    · refine br_f (nI_nlt (b := j) (a := 120) (by omega) (by omega)) ?_
      by_cases z0 : z = 0
      · exact br_t z0 (h P C bc bl (done (bu_it_fix (hz z0) hj).symm))
      · refine br_f z0 ⟨nc + 1, ?_⟩
        refine yd_46 (j := j) (V := bu_it (bu_rd (bu_M a_ruleToken a_ruleLow a_ruleHigh a_nodeOperator a_nodeValue (bu_cl a_ruleSize)) (bu_O a_ruleToken a_nodeOperator (bu_cl a_ruleSize) (bu_w rg a_ruleLhs a_ruleCost)) (bu_cl a_ruleLhs) rc nc) j (fun _ => bu_I)) D eT eL eH eS eO eV (hB j) (hI j) (fun z' P' C' bc' bl' k1 k2 => ?_) (nc + 1) 0 0 P C bc bl (by omega) (by omega) hC (hB j) (fun _ => rfl)
        refine ih (j + 1) z' P' C' bc' bl' (by omega) (by omega) k1 (fun q => ?_)
        have := k2 q
        rw [bu_it_s, this]
        exact this
theorem yd_2 {post : SY → Prop} (D : bu_Dat rg nt rc nc a_ruleToken a_ruleLhs a_ruleCost a_ruleSize a_nodeOperator)
    (eT : ∀ j, j < 168 → b_tokenAt j = a_ruleToken j) (eL : ∀ j, j < 168 → b_lowAt j = a_ruleLow j) (eH : ∀ j, j < 168 → b_highAt j = a_ruleHigh j) (eS : ∀ j, j < 24 → b_tokens j = a_ruleSize j)
    (eO : ∀ j, j < 20 → b_nodeOp j = a_nodeOperator j) (eV : ∀ j, j < 20 → b_nodeValue j = a_nodeValue j)
    (h : ∀ P C bc bl, bu_Cor (6 * nc) (bu_L rg nt rc a_ruleToken a_ruleLow a_ruleHigh a_ruleSize a_ruleLhs a_ruleCost a_nodeOperator a_nodeValue nc) bc bl → post ((nI rg), g_nonterminals, g_words, g_treeNodes, (nI rc), (nI nc), g_statements, g_lastValue, g_spent, a_ruleLhs, a_ruleCost, b_tokens, b_tokenAt, b_lowAt, b_highAt, b_nodeOp, b_nodeValue, b_statementCost, b_statementLength, b_statementNodes, b_memory, b_arguments, b_work, P, C, bc, bl)) :
    ∀ (fuel k : Nat) (bc bl : Nat → Int32), 120 < k + fuel → k ≤ 120 → bu_Cor k (fun _ => bu_I) bc bl →
      wY_derive_2 post (nI rg) g_nonterminals g_words g_treeNodes (nI rc) (nI nc) g_statements g_lastValue g_spent fuel (nI k) a_ruleLhs a_ruleCost b_tokens b_tokenAt b_lowAt b_highAt b_nodeOp b_nodeValue b_statementCost b_statementLength b_statementNodes b_memory b_arguments b_work b_place b_covered bc bl := by
  intro fuel
  induction fuel with
  | zero => intro k bc bl hf hk; omega
  | succ fuel ih =>
    intro k bc bl hf hk hC
    rw [wY_derive_2]
    dsimp only
    rcases Nat.lt_or_ge k 120 with y | y
    · have hi : vp_in (nI k) 120 := vp_in_nI y (by decide)
      refine br_f (nI_ge (b := 120) y (by decide)) ⟨hi, ?_⟩
      rw [nI_clamp (n := k) (by omega)]
      refine nm_e ⟨hi, nm_e (nm_r (nI_1 k) (ih (k + 1) _ _ (by omega) (by omega) ?_))⟩
      intro e he
      by_cases q : e = k
      · subst q
        rw [pk_us]
        exact Or.inl ⟨rfl, rfl⟩
      · rw [pk_un q, pk_un q]
        exact hC e (by omega)
    · have ek : k = 120 := by omega
      subst ek
      exact br_t (nI_le (b := 120) (by omega) (by decide)) ⟨122, yd_32 D eT eL eH eS eO eV h 122 0 1 b_place b_covered bc bl (by omega) (by omega) hC (fun q => absurd q (by decide))⟩
theorem yd_derive {post : SY → Prop} (D : bu_Dat rg nt rc nc a_ruleToken a_ruleLhs a_ruleCost a_ruleSize a_nodeOperator)
    (eT : ∀ j, j < 168 → b_tokenAt j = a_ruleToken j) (eL : ∀ j, j < 168 → b_lowAt j = a_ruleLow j) (eH : ∀ j, j < 168 → b_highAt j = a_ruleHigh j) (eS : ∀ j, j < 24 → b_tokens j = a_ruleSize j)
    (eO : ∀ j, j < 20 → b_nodeOp j = a_nodeOperator j) (eV : ∀ j, j < 20 → b_nodeValue j = a_nodeValue j)
    (h : ∀ P C bc bl, bu_Cor (6 * nc) (bu_L rg nt rc a_ruleToken a_ruleLow a_ruleHigh a_ruleSize a_ruleLhs a_ruleCost a_nodeOperator a_nodeValue nc) bc bl → post ((nI rg), g_nonterminals, g_words, g_treeNodes, (nI rc), (nI nc), g_statements, g_lastValue, g_spent, a_ruleLhs, a_ruleCost, b_tokens, b_tokenAt, b_lowAt, b_highAt, b_nodeOp, b_nodeValue, b_statementCost, b_statementLength, b_statementNodes, b_memory, b_arguments, b_work, P, C, bc, bl)) :
    wpY_derive post ((nI rg), g_nonterminals, g_words, g_treeNodes, (nI rc), (nI nc), g_statements, g_lastValue, g_spent, a_ruleLhs, a_ruleCost, b_tokens, b_tokenAt, b_lowAt, b_highAt, b_nodeOp, b_nodeValue, b_statementCost, b_statementLength, b_statementNodes, b_memory, b_arguments, b_work, b_place, b_covered, b_bestCost, b_bestLength) :=
  ⟨121, yd_2 D eT eL eH eS eO eV h 121 0 b_bestCost b_bestLength (by omega) (by omega) (fun e he => by omega)⟩
end
end
section
/-! evaluation: pure -/
def bu_val (wd : Int32) (mem arg : Nat → Int32) (op v l r : Int32) : Int32 :=
  if op = 0 then v else if op = 1 then arg v.toNatClampNeg else if op = 2 then 0 - r else if op = 3 then mem (r &&& (wd - 1)).toNatClampNeg else if op = 4 then l + r else if op = 5 then l - r else if op = 6 then l * r else r
def bu_mem (wd : Int32) (mem : Nat → Int32) (op l r : Int32) : Nat → Int32 := if op = 7 then upd mem (l &&& (wd - 1)).toNatClampNeg r else mem
def bu_Msk (wd : Int32) : Prop := ∀ x : Int32, vp_in (x &&& (wd - 1)) 32
def bu_op (op : Int32) : Prop := op = 0 ∨ op = 1 ∨ op = 2 ∨ op = 3 ∨ op = 4 ∨ op = 5 ∨ op = 6 ∨ op = 7 ∨ op = 8
def bu_rn (ops vals : Nat → Int32) (wd : Int32) (arg S0 m0 : Nat → Int32) : Nat → (Nat → Int32) × (Nat → Int32)
  | 0 => (S0, m0)
  | i + 1 => (upd (bu_rn ops vals wd arg S0 m0 i).1 (bu_h (fun j => bu_ar (ops j)) i - bu_ar (ops i)) (bu_val wd (bu_rn ops vals wd arg S0 m0 i).2 arg (ops i) (vals i) ((bu_rn ops vals wd arg S0 m0 i).1 (bu_h (fun j => bu_ar (ops j)) i - 2)) ((bu_rn ops vals wd arg S0 m0 i).1 (bu_h (fun j => bu_ar (ops j)) i - 1))),
      bu_mem wd (bu_rn ops vals wd arg S0 m0 i).2 (ops i) ((bu_rn ops vals wd arg S0 m0 i).1 (bu_h (fun j => bu_ar (ops j)) i - 2)) ((bu_rn ops vals wd arg S0 m0 i).1 (bu_h (fun j => bu_ar (ops j)) i - 1)))
/-- a row that can be evaluated: one tree of at most 20 nodes -/
def bu_Ev (ops vals : Nat → Int32) (s : Nat) : Prop := 1 ≤ s ∧ s ≤ 20 ∧ bu_wf (fun j => bu_ar (ops j)) s ∧ bu_h (fun j => bu_ar (ops j)) s = 1 ∧ ∀ i, i < s → bu_op (ops i) ∧ (ops i = 1 → ∃ j : Nat, j < 4 ∧ vals i = nI j)
def bu_Sk (G : Nat → Nat) (S W : Nat → Int32) (b : Nat) : Nat → Nat → Prop
  | 0, _ => True
  | d + 1, y => S d = W (b + (y - 1)) ∧ bu_Sk G S W b d (G (y - 1))
theorem bu_Sk_cg {G : Nat → Nat} {S S' W W' : Nat → Int32} {b : Nat} : ∀ {d y : Nat}, bu_T G d 0 y → (∀ j, j < d → S j = S' j) → (∀ j, j < y → W (b + j) = W' (b + j)) → bu_Sk G S W b d y → bu_Sk G S' W' b d y
  | 0, _, _, _, _, _ => trivial
  | d + 1, y, t, h, h', p => by
    obtain ⟨t1, t2, t3⟩ := t
    obtain ⟨p1, p2⟩ := p
    exact ⟨by rw [← h d (by omega), ← h' (y - 1) (by omega)]; exact p1, bu_Sk_cg t3 (fun j hj => h j (by omega)) (fun j hj => h' j (by omega)) p2⟩
theorem bu_Sk_dr {G : Nat → Nat} {S W : Nat → Int32} {b d : Nat} : ∀ {a y z : Nat}, bu_Sk G S W b (d + a) y → bu_T G a z y → bu_Sk G S W b d z
  | 0, _, _, h, t => by cases t; exact h
  | _ + 1, _, _, h, t => bu_Sk_dr h.2 t.2.2
theorem bu_h_le {a : Nat → Nat} : ∀ i, bu_h a i ≤ i
  | 0 => Nat.le_refl _
  | i + 1 => by have := bu_h_le (a := a) i; rw [bu_h_s]; omega
theorem bu_op_ar {op : Int32} (h : bu_op op) : (bu_ar op = 0 ∧ (op = 0 ∨ op = 1)) ∨ (bu_ar op = 1 ∧ (op = 2 ∨ op = 3)) ∨ (bu_ar op = 2 ∧ (op = 4 ∨ op = 5 ∨ op = 6 ∨ op = 7 ∨ op = 8)) := by
  rcases h with h | h | h | h | h | h | h | h | h <;> subst h <;> decide
theorem bu_op_c {op : Int32} (h : bu_op op) : ∃ c : Nat, c ≤ 8 ∧ op = nI c := by
  rcases h with h | h | h | h | h | h | h | h | h
  · exact ⟨0, by omega, h⟩
  · exact ⟨1, by omega, h⟩
  · exact ⟨2, by omega, h⟩
  · exact ⟨3, by omega, h⟩
  · exact ⟨4, by omega, h⟩
  · exact ⟨5, by omega, h⟩
  · exact ⟨6, by omega, h⟩
  · exact ⟨7, by omega, h⟩
  · exact ⟨8, by omega, h⟩
theorem bu_and3 : ∀ j, j < 4 → nI j &&& 3 = nI j := by decide
section
variable {f_registers f_nonterminals f_words f_treeLimit f_openSize f_openHeight f_ruleCount f_nodeCount f_rootCount f_labelled f_statementCount f_programNodes f_depth f_lastValue f_spent : Int32} {a_openToken a_openLow a_openHigh a_ruleLhs a_ruleCost a_ruleSize a_ruleToken a_ruleLow a_ruleHigh a_nodeOperator a_nodeValue a_subtreeFirst a_bestCost a_bestLength a_place a_covered a_statementStart a_statementNodes a_statementCost a_statementLength a_programOperator a_programValue a_memory a_arguments a_stack : Nat → Int32}
theorem xa_ar {post : Int32 → Prop} {x : Int32} (h : post (nI (bu_ar x))) : wpX_arityOf post (f_registers, f_nonterminals, f_words, f_treeLimit, f_openSize, f_openHeight, f_ruleCount, f_nodeCount, f_rootCount, f_labelled, f_statementCount, f_programNodes, f_depth, f_lastValue, f_spent, a_openToken, a_openLow, a_openHigh, a_ruleLhs, a_ruleCost, a_ruleSize, a_ruleToken, a_ruleLow, a_ruleHigh, a_nodeOperator, a_nodeValue, a_subtreeFirst, a_bestCost, a_bestLength, a_place, a_covered, a_statementStart, a_statementNodes, a_statementCost, a_statementLength, a_programOperator, a_programValue, a_memory, a_arguments, a_stack) x := by
  unfold wpX_arityOf
  dsimp only
  by_cases h2 : x = 2
  · refine br_t h2 ?_
    rw [show bu_ar x = 1 from if_pos h2] at h; exact h
  · refine br_f h2 ?_
    by_cases h3 : x = 3
    · refine br_t h3 ?_
      rw [show bu_ar x = 1 from (if_neg h2).trans (if_pos h3)] at h; exact h
    · refine br_f h3 ?_
      by_cases h4 : x < 4
      · refine br_t h4 ?_
        rw [show bu_ar x = 0 from (if_neg h2).trans ((if_neg h3).trans (if_pos h4))] at h; exact h
      · refine br_f h4 ?_
        by_cases h8 : 8 < x
        · refine br_t h8 ?_
          rw [show bu_ar x = 0 from (if_neg h2).trans ((if_neg h3).trans ((if_neg h4).trans (if_pos h8)))] at h; exact h
        · refine br_f h8 ?_
          rw [show bu_ar x = 2 from (if_neg h2).trans ((if_neg h3).trans ((if_neg h4).trans (if_neg h8)))] at h; exact h
theorem xe_comb {post : Int32 → SX → Prop} {op l r : Int32} (hop : op = 4 ∨ op = 5 ∨ op = 6 ∨ op = 7 ∨ op = 8) (hm : bu_Msk f_words)
    (h : post (bu_val f_words a_memory a_arguments op 0 l r) (f_registers, f_nonterminals, f_words, f_treeLimit, f_openSize, f_openHeight, f_ruleCount, f_nodeCount, f_rootCount, f_labelled, f_statementCount, f_programNodes, f_depth, f_lastValue, f_spent, a_openToken, a_openLow, a_openHigh, a_ruleLhs, a_ruleCost, a_ruleSize, a_ruleToken, a_ruleLow, a_ruleHigh, a_nodeOperator, a_nodeValue, a_subtreeFirst, a_bestCost, a_bestLength, a_place, a_covered, a_statementStart, a_statementNodes, a_statementCost, a_statementLength, a_programOperator, a_programValue, (bu_mem f_words a_memory op l r), a_arguments, a_stack)) : wpX_combine post (f_registers, f_nonterminals, f_words, f_treeLimit, f_openSize, f_openHeight, f_ruleCount, f_nodeCount, f_rootCount, f_labelled, f_statementCount, f_programNodes, f_depth, f_lastValue, f_spent, a_openToken, a_openLow, a_openHigh, a_ruleLhs, a_ruleCost, a_ruleSize, a_ruleToken, a_ruleLow, a_ruleHigh, a_nodeOperator, a_nodeValue, a_subtreeFirst, a_bestCost, a_bestLength, a_place, a_covered, a_statementStart, a_statementNodes, a_statementCost, a_statementLength, a_programOperator, a_programValue, a_memory, a_arguments, a_stack) op l r := by
  unfold wpX_combine
  rcases hop with e | e | e | e | e
  · subst e
    exact br_f (by decide) (br_f (by decide) (br_t rfl h))
  · subst e
    exact br_f (by decide) (br_f (by decide) (br_f (by decide) (br_t rfl h)))
  · subst e
    exact br_f (by decide) (br_f (by decide) (br_f (by decide) (br_f (by decide) (br_t rfl h))))
  · subst e
    exact br_f (by decide) (br_f (by decide) (br_f (by decide) (br_f (by decide) (br_f (by decide) (br_t rfl ⟨hm l, nm_e h⟩)))))
  · subst e
    exact br_f (by decide) (br_t (by decide) h)
theorem xe_step {post : SX → Prop} {d : Nat} {op v : Int32} (hop : bu_op op) (ha : bu_ar op ≤ d) (hd : d < 20) (hm : bu_Msk f_words) (hv : op = 1 → ∃ j : Nat, j < 4 ∧ v = nI j)
    (h : post (f_registers, f_nonterminals, f_words, f_treeLimit, f_openSize, f_openHeight, f_ruleCount, f_nodeCount, f_rootCount, f_labelled, f_statementCount, f_programNodes, (nI (d + 1 - bu_ar op)), f_lastValue, f_spent, a_openToken, a_openLow, a_openHigh, a_ruleLhs, a_ruleCost, a_ruleSize, a_ruleToken, a_ruleLow, a_ruleHigh, a_nodeOperator, a_nodeValue, a_subtreeFirst, a_bestCost, a_bestLength, a_place, a_covered, a_statementStart, a_statementNodes, a_statementCost, a_statementLength, a_programOperator, a_programValue, (bu_mem f_words a_memory op (a_stack (d - 2)) (a_stack (d - 1))), a_arguments, (upd a_stack (d - bu_ar op) (bu_val f_words a_memory a_arguments op v (a_stack (d - 2)) (a_stack (d - 1)))))) :
    wpX_step post (f_registers, f_nonterminals, f_words, f_treeLimit, f_openSize, f_openHeight, f_ruleCount, f_nodeCount, f_rootCount, f_labelled, f_statementCount, f_programNodes, (nI d), f_lastValue, f_spent, a_openToken, a_openLow, a_openHigh, a_ruleLhs, a_ruleCost, a_ruleSize, a_ruleToken, a_ruleLow, a_ruleHigh, a_nodeOperator, a_nodeValue, a_subtreeFirst, a_bestCost, a_bestLength, a_place, a_covered, a_statementStart, a_statementNodes, a_statementCost, a_statementLength, a_programOperator, a_programValue, a_memory, a_arguments, a_stack) op v := by
  unfold wpX_step
  refine xa_ar ?_
  refine br_t (nI_le ha (by omega)) ?_
  rcases bu_op_ar hop with ⟨e, ho⟩ | ⟨e, ho⟩ | ⟨e, ho⟩
  · rw [e] at h ⊢
    refine br_t rfl (br_f (nI_ge (b := 20) hd (by decide)) ?_)
    have st : ∀ z : Int32, z = bu_val f_words a_memory a_arguments op v (a_stack (d - 2)) (a_stack (d - 1)) → wX_step_53 post z (nI d) f_registers f_nonterminals f_words f_treeLimit f_openSize f_openHeight f_ruleCount f_nodeCount f_rootCount f_labelled f_statementCount f_programNodes (nI d) f_lastValue f_spent a_openToken a_openLow a_openHigh a_ruleLhs a_ruleCost a_ruleSize a_ruleToken a_ruleLow a_ruleHigh a_nodeOperator a_nodeValue a_subtreeFirst a_bestCost a_bestLength a_place a_covered a_statementStart a_statementNodes a_statementCost a_statementLength a_programOperator a_programValue a_memory a_arguments a_stack := by
      intro z ez
      unfold wX_step_53
      rw [nI_clamp (n := d) (by omega)]
      refine ⟨vp_in_nI hd (by decide), nm_e (nm_r (nI_1 d) ?_)⟩
      rw [ez]
      have em : bu_mem f_words a_memory op (a_stack (d - 2)) (a_stack (d - 1)) = a_memory := by
        rcases ho with o | o <;> subst o <;> rfl
      rw [em] at h
      exact h
    rcases ho with o | o
    · subst o
      exact br_f (by decide) (st _ rfl)
    · obtain ⟨j, j4, ej⟩ := hv o
      subst o
      refine br_t rfl ?_
      rw [ej, bu_and3 j j4]
      refine ⟨vp_in_nI j4 (by decide), st _ ?_⟩
      rw [ej]; rfl
  · rw [e] at h ha ⊢
    obtain ⟨d', rfl⟩ : ∃ d', d = d' + 1 := ⟨d - 1, by omega⟩
    have hi : vp_in (nI d') 20 := vp_in_nI (by omega) (by decide)
    rw [nI_pred, nI_clamp (n := d') (by omega)]
    rw [Nat.add_sub_cancel, Nat.add_sub_cancel] at h
    refine br_f (by decide) (br_t rfl ⟨hi, nm_e ?_⟩)
    rcases ho with o | o
    · subst o
      exact br_t rfl ⟨hi, nm_e h⟩
    · subst o
      exact br_f (by decide) ⟨hm _, hi, nm_e h⟩
  · rw [e] at h ha ⊢
    obtain ⟨d', rfl⟩ : ∃ d', d = d' + 2 := ⟨d - 2, by omega⟩
    have hi : vp_in (nI d') 20 := vp_in_nI (by omega) (by decide)
    have hi1 : vp_in (nI (d' + 1)) 20 := vp_in_nI (by omega) (by decide)
    have e1 : nI (d' + 2) - 1 = nI (d' + 1) := nI_pred (d' + 1)
    have e2 : nI (d' + 2) - 2 = nI d' := by
      have := pk_sub (a := d' + 2) (b := 2) (by omega)
      exact this
    rw [e1, e2, nI_clamp (n := d') (by omega), nI_clamp (n := d' + 1) (by omega)]
    rw [show d' + 2 - 2 = d' by omega, show d' + 2 - 1 = d' + 1 by omega, show d' + 2 + 1 - 2 = d' + 1 by omega] at h
    refine br_f (by decide) (br_f (by decide) ⟨hi, nm_e ⟨hi1, nm_e (nm_e ?_)⟩⟩)
    refine xe_comb ho hm ?_
    dsimp only
    rw [nI_pred, nI_clamp (n := d') (by omega)]
    refine ⟨hi, nm_e ?_⟩
    have ev : bu_val f_words a_memory a_arguments op 0 (a_stack d') (a_stack (d' + 1)) = bu_val f_words a_memory a_arguments op v (a_stack d') (a_stack (d' + 1)) := by
      rcases ho with o | o | o | o | o <;> subst o <;> rfl
    rw [ev]
    exact h
variable {ops vals : Nat → Int32}
theorem xe_res {post : SX → Prop} (h : post (f_registers, f_nonterminals, f_words, f_treeLimit, f_openSize, f_openHeight, f_ruleCount, f_nodeCount, f_rootCount, f_labelled, f_statementCount, f_programNodes, (nI 1), (a_stack 0), f_spent, a_openToken, a_openLow, a_openHigh, a_ruleLhs, a_ruleCost, a_ruleSize, a_ruleToken, a_ruleLow, a_ruleHigh, a_nodeOperator, a_nodeValue, a_subtreeFirst, a_bestCost, a_bestLength, a_place, a_covered, a_statementStart, a_statementNodes, a_statementCost, a_statementLength, a_programOperator, a_programValue, a_memory, a_arguments, a_stack)) : wpX_takeResult post (f_registers, f_nonterminals, f_words, f_treeLimit, f_openSize, f_openHeight, f_ruleCount, f_nodeCount, f_rootCount, f_labelled, f_statementCount, f_programNodes, (nI 1), f_lastValue, f_spent, a_openToken, a_openLow, a_openHigh, a_ruleLhs, a_ruleCost, a_ruleSize, a_ruleToken, a_ruleLow, a_ruleHigh, a_nodeOperator, a_nodeValue, a_subtreeFirst, a_bestCost, a_bestLength, a_place, a_covered, a_statementStart, a_statementNodes, a_statementCost, a_statementLength, a_programOperator, a_programValue, a_memory, a_arguments, a_stack) := by
  unfold wpX_takeResult
  exact br_f (by decide) ⟨by rw [vp_in_iff]; decide, nm_e h⟩
theorem xe_18 {post : Int32 → SX → Prop} {s : Nat} {S0 m0 : Nat → Int32} (hE : bu_Ev a_nodeOperator a_nodeValue s) (hm : bu_Msk f_words)
    (h : post 0 (f_registers, f_nonterminals, f_words, f_treeLimit, f_openSize, f_openHeight, f_ruleCount, (nI s), f_rootCount, f_labelled, f_statementCount, f_programNodes, (nI 1), ((bu_rn a_nodeOperator a_nodeValue f_words a_arguments S0 m0 s).1 0), f_spent, a_openToken, a_openLow, a_openHigh, a_ruleLhs, a_ruleCost, a_ruleSize, a_ruleToken, a_ruleLow, a_ruleHigh, a_nodeOperator, a_nodeValue, a_subtreeFirst, a_bestCost, a_bestLength, a_place, a_covered, a_statementStart, a_statementNodes, a_statementCost, a_statementLength, a_programOperator, a_programValue, ((bu_rn a_nodeOperator a_nodeValue f_words a_arguments S0 m0 s).2), a_arguments, ((bu_rn a_nodeOperator a_nodeValue f_words a_arguments S0 m0 s).1))) :
    ∀ (fuel i : Nat), s < i + fuel → i ≤ s →
      wX_evaluate_18 post fuel (nI i) f_registers f_nonterminals f_words f_treeLimit f_openSize f_openHeight f_ruleCount (nI s) f_rootCount f_labelled f_statementCount f_programNodes (nI (bu_h (fun j => bu_ar (a_nodeOperator j)) i)) f_lastValue f_spent a_openToken a_openLow a_openHigh a_ruleLhs a_ruleCost a_ruleSize a_ruleToken a_ruleLow a_ruleHigh a_nodeOperator a_nodeValue a_subtreeFirst a_bestCost a_bestLength a_place a_covered a_statementStart a_statementNodes a_statementCost a_statementLength a_programOperator a_programValue ((bu_rn a_nodeOperator a_nodeValue f_words a_arguments S0 m0 i).2) a_arguments ((bu_rn a_nodeOperator a_nodeValue f_words a_arguments S0 m0 i).1) := by
  obtain ⟨e1, e2, e3, e4, e5⟩ := hE
  intro fuel
  induction fuel with
  | zero => intro i hf hi; omega
  | succ fuel ih =>
    intro i hf hi
    rw [wX_evaluate_18]
    dsimp only
    rcases Nat.lt_or_ge i s with z | z
    · have hv : vp_in (nI i) 20 := vp_in_nI (by omega) (by decide)
      refine br_f (nI_ge z (by omega)) ⟨hv, hv, ?_⟩
      rw [nI_clamp (n := i) (by omega)]
      have hl := bu_h_le (a := fun j => bu_ar (a_nodeOperator j)) i
      refine xe_step (e5 i z).1 (e3 i z) (by omega) hm (e5 i z).2 (nm_r (nI_1 i) ?_)
      exact ih (i + 1) (by omega) (by omega)
    · have ei : i = s := by omega
      subst ei
      refine br_t (nI_le (by omega) (by omega)) ?_
      rw [e4]
      exact xe_res h
theorem xe_24 {post : SX → Prop} {s b q : Nat} {S0 m0 : Nat → Int32} (hq : q < 8) (hb : b + s ≤ 40) (hE : bu_Ev (fun i => a_programOperator (b + i)) (fun i => a_programValue (b + i)) s) (hm : bu_Msk f_words)
    (h : post (f_registers, f_nonterminals, f_words, f_treeLimit, f_openSize, f_openHeight, f_ruleCount, f_nodeCount, f_rootCount, f_labelled, f_statementCount, f_programNodes, (nI 1), ((bu_rn (fun i => a_programOperator (b + i)) (fun i => a_programValue (b + i)) f_words a_arguments S0 m0 s).1 0), (f_spent + a_statementCost q), a_openToken, a_openLow, a_openHigh, a_ruleLhs, a_ruleCost, a_ruleSize, a_ruleToken, a_ruleLow, a_ruleHigh, a_nodeOperator, a_nodeValue, a_subtreeFirst, a_bestCost, a_bestLength, a_place, a_covered, a_statementStart, a_statementNodes, a_statementCost, a_statementLength, a_programOperator, a_programValue, ((bu_rn (fun i => a_programOperator (b + i)) (fun i => a_programValue (b + i)) f_words a_arguments S0 m0 s).2), a_arguments, ((bu_rn (fun i => a_programOperator (b + i)) (fun i => a_programValue (b + i)) f_words a_arguments S0 m0 s).1))) :
    ∀ (fuel i : Nat), s < i + fuel → i ≤ s →
      wX_runStatement_24 post (nI q) (nI (b + s)) fuel (nI (b + i)) f_registers f_nonterminals f_words f_treeLimit f_openSize f_openHeight f_ruleCount f_nodeCount f_rootCount f_labelled f_statementCount f_programNodes (nI (bu_h (fun j => bu_ar (a_programOperator (b + j))) i)) f_lastValue f_spent a_openToken a_openLow a_openHigh a_ruleLhs a_ruleCost a_ruleSize a_ruleToken a_ruleLow a_ruleHigh a_nodeOperator a_nodeValue a_subtreeFirst a_bestCost a_bestLength a_place a_covered a_statementStart a_statementNodes a_statementCost a_statementLength a_programOperator a_programValue ((bu_rn (fun i => a_programOperator (b + i)) (fun i => a_programValue (b + i)) f_words a_arguments S0 m0 i).2) a_arguments ((bu_rn (fun i => a_programOperator (b + i)) (fun i => a_programValue (b + i)) f_words a_arguments S0 m0 i).1) := by
  obtain ⟨e1, e2, e3, e4, e5⟩ := hE
  intro fuel
  induction fuel with
  | zero => intro i hf hi; omega
  | succ fuel ih =>
    intro i hf hi
    rw [wX_runStatement_24]
    dsimp only
    rcases Nat.lt_or_ge i s with z | z
    · have hv : vp_in (nI (b + i)) 40 := vp_in_nI (by omega) (by decide)
      refine br_f (nI_ge (by omega) (by omega)) ⟨hv, hv, ?_⟩
      rw [nI_clamp (n := b + i) (by omega)]
      have hl := bu_h_le (a := fun j => bu_ar (a_programOperator (b + j))) i
      refine xe_step (e5 i z).1 (e3 i z) (by omega) hm (e5 i z).2 (nm_r (nI_1 (b + i)) ?_)
      exact ih (i + 1) (by omega) (by omega)
    · have ei : i = s := by omega
      subst ei
      refine br_t (nI_le (by omega) (by omega)) ?_
      have e4' : bu_h (fun j => bu_ar (a_programOperator (b + j))) i = 1 := e4
      rw [e4']
      refine xe_res ?_
      rw [nI_clamp (n := q) (by omega)]
      exact ⟨vp_in_nI hq (by decide), nm_e h⟩
theorem xe_stm {post : SX → Prop} {s b q : Nat} (hq : q < 8) (hb : b + s ≤ 40) (hS : a_statementStart q = nI b) (hNd : a_statementNodes q = nI s) (hE : bu_Ev (fun i => a_programOperator (b + i)) (fun i => a_programValue (b + i)) s) (hm : bu_Msk f_words)
    (h : post (f_registers, f_nonterminals, f_words, f_treeLimit, f_openSize, f_openHeight, f_ruleCount, f_nodeCount, f_rootCount, f_labelled, f_statementCount, f_programNodes, (nI 1), ((bu_rn (fun i => a_programOperator (b + i)) (fun i => a_programValue (b + i)) f_words a_arguments a_stack a_memory s).1 0), (f_spent + a_statementCost q), a_openToken, a_openLow, a_openHigh, a_ruleLhs, a_ruleCost, a_ruleSize, a_ruleToken, a_ruleLow, a_ruleHigh, a_nodeOperator, a_nodeValue, a_subtreeFirst, a_bestCost, a_bestLength, a_place, a_covered, a_statementStart, a_statementNodes, a_statementCost, a_statementLength, a_programOperator, a_programValue, ((bu_rn (fun i => a_programOperator (b + i)) (fun i => a_programValue (b + i)) f_words a_arguments a_stack a_memory s).2), a_arguments, ((bu_rn (fun i => a_programOperator (b + i)) (fun i => a_programValue (b + i)) f_words a_arguments a_stack a_memory s).1))) :
    wpX_runStatement post (f_registers, f_nonterminals, f_words, f_treeLimit, f_openSize, f_openHeight, f_ruleCount, f_nodeCount, f_rootCount, f_labelled, f_statementCount, f_programNodes, f_depth, f_lastValue, f_spent, a_openToken, a_openLow, a_openHigh, a_ruleLhs, a_ruleCost, a_ruleSize, a_ruleToken, a_ruleLow, a_ruleHigh, a_nodeOperator, a_nodeValue, a_subtreeFirst, a_bestCost, a_bestLength, a_place, a_covered, a_statementStart, a_statementNodes, a_statementCost, a_statementLength, a_programOperator, a_programValue, a_memory, a_arguments, a_stack) (nI q) := by
  unfold wpX_runStatement
  dsimp only
  rw [nI_clamp (n := q) (by omega), hS, hNd]
  have hv : vp_in (nI q) 8 := vp_in_nI hq (by decide)
  refine ⟨hv, nm_e ⟨hv, nm_r (nI_add b s) ⟨s + 1, ?_⟩⟩⟩
  exact xe_24 (S0 := a_stack) (m0 := a_memory) hq hb hE hm h (s + 1) 0 (by omega) (by omega)
end
end
section
/-! the reference evaluates -/
section
variable {g_registers g_nonterminals g_words g_treeNodes g_rules g_nodes g_statements g_lastValue g_spent : Int32} {b_lhsOf b_costOf b_tokens b_tokenAt b_lowAt b_highAt b_nodeOp b_nodeValue b_statementCost b_statementLength b_statementNodes b_memory b_arguments b_work b_place b_covered b_bestCost b_bestLength : Nat → Int32}
theorem yf_op {post : SY → Prop} {J2 : Int32 → Int32 → (Nat → Int32) → (Nat → Int32) → (Nat → Int32) → (Nat → Int32) → (Nat → Int32) → (Nat → Int32) → (Nat → Int32) → (Nat → Int32) → (Nat → Int32) → (Nat → Int32) → (Nat → Int32) → (Nat → Int32) → (Nat → Int32) → (Nat → Int32) → (Nat → Int32) → (Nat → Int32) → (Nat → Int32) → (Nat → Int32) → Prop} {x1 x2 op l r : Int32} {p : Nat} (hp : p < 60) (hop : bu_op op) (hm : bu_Msk g_words) (hv : op = 1 → vp_in (b_nodeValue p) 4)
    (h : J2 (nI (p + 1)) (bu_val g_words b_memory b_arguments op (b_nodeValue p) l r) b_lhsOf b_costOf b_tokens b_tokenAt b_lowAt b_highAt b_nodeOp b_nodeValue b_statementCost b_statementLength b_statementNodes (bu_mem g_words b_memory op l r) b_arguments (upd b_work p (bu_val g_words b_memory b_arguments op (b_nodeValue p) l r)) b_place b_covered b_bestCost b_bestLength) :
    wY_perform_73 post J2 x1 x2 (nI p) op l r g_registers g_nonterminals g_words g_treeNodes g_rules g_nodes g_statements g_lastValue g_spent b_lhsOf b_costOf b_tokens b_tokenAt b_lowAt b_highAt b_nodeOp b_nodeValue b_statementCost b_statementLength b_statementNodes b_memory b_arguments b_work b_place b_covered b_bestCost b_bestLength := by
  have hi : vp_in (nI p) 60 := vp_in_nI hp (by decide)
  unfold wY_perform_73 wY_perform_90 wY_perform_113 wY_perform_129 wY_perform_155 wY_perform_172 wY_perform_189 wY_perform_207 wY_perform_230 wY_perform_244 wY_perform_252
  rw [nI_clamp (n := p) (by omega)]
  rcases hop with o | o | o | o | o | o | o | o | o
  · subst o
    exact br_t rfl ⟨hi, hi, nm_e (br_f (by decide) (br_f (by decide) (br_f (by decide) (br_f (by decide) (br_f (by decide) (br_f (by decide) (br_f (by decide) (br_f (by decide) (br_f (by decide) ⟨hi, nm_r pk_us (nm_r (nI_1 p) h)⟩)))))))))⟩
  · subst o
    have hw := hv rfl
    exact br_f (by decide) (br_t rfl ⟨hi, hw, hi, nm_e (br_f (by decide) (br_f (by decide) (br_f (by decide) (br_f (by decide) (br_f (by decide) (br_f (by decide) (br_f (by decide) (br_f (by decide) ⟨hi, nm_r pk_us (nm_r (nI_1 p) h)⟩))))))))⟩)
  · subst o
    exact br_f (by decide) (br_f (by decide) (br_t rfl ⟨hi, nm_e (br_f (by decide) (br_f (by decide) (br_f (by decide) (br_f (by decide) (br_f (by decide) (br_f (by decide) (br_f (by decide) ⟨hi, nm_r pk_us (nm_r (nI_1 p) h)⟩)))))))⟩))
  · subst o
    exact br_f (by decide) (br_f (by decide) (br_f (by decide) (br_t rfl ⟨hm r, hi, nm_e (br_f (by decide) (br_f (by decide) (br_f (by decide) (br_f (by decide) (br_f (by decide) (br_f (by decide) ⟨hi, nm_r pk_us (nm_r (nI_1 p) h)⟩))))))⟩)))
  · subst o
    exact br_f (by decide) (br_f (by decide) (br_f (by decide) (br_f (by decide) (br_t rfl ⟨hi, nm_e (br_f (by decide) (br_f (by decide) (br_f (by decide) (br_f (by decide) (br_f (by decide) ⟨hi, nm_r pk_us (nm_r (nI_1 p) h)⟩)))))⟩))))
  · subst o
    exact br_f (by decide) (br_f (by decide) (br_f (by decide) (br_f (by decide) (br_f (by decide) (br_t rfl ⟨hi, nm_e (br_f (by decide) (br_f (by decide) (br_f (by decide) (br_f (by decide) ⟨hi, nm_r pk_us (nm_r (nI_1 p) h)⟩))))⟩)))))
  · subst o
    exact br_f (by decide) (br_f (by decide) (br_f (by decide) (br_f (by decide) (br_f (by decide) (br_f (by decide) (br_t rfl ⟨hi, nm_e (br_f (by decide) (br_f (by decide) (br_f (by decide) ⟨hi, nm_r pk_us (nm_r (nI_1 p) h)⟩)))⟩))))))
  · subst o
    exact br_f (by decide) (br_f (by decide) (br_f (by decide) (br_f (by decide) (br_f (by decide) (br_f (by decide) (br_f (by decide) (br_t rfl ⟨hm l, nm_e (br_t rfl ⟨hi, nm_e ⟨hi, nm_r pk_us (nm_r (nI_1 p) h)⟩⟩)⟩)))))))
  · subst o
    exact br_f (by decide) (br_f (by decide) (br_f (by decide) (br_f (by decide) (br_f (by decide) (br_f (by decide) (br_f (by decide) (br_f (by decide) (br_f (by decide) (br_t rfl ⟨hi, nm_e ⟨hi, nm_r pk_us (nm_r (nI_1 p) h)⟩⟩)))))))))
theorem bu_v0 {wd : Int32} {mem arg : Nat → Int32} {v l r : Int32} : bu_val wd mem arg 0 v l r = v := if_pos rfl
theorem bu_v1 {wd : Int32} {mem arg : Nat → Int32} {v l r : Int32} : bu_val wd mem arg 1 v l r = arg v.toNatClampNeg := (if_neg (by decide)).trans (if_pos rfl)
theorem bu_v2 {wd : Int32} {mem arg : Nat → Int32} {v l r : Int32} : bu_val wd mem arg 2 v l r = 0 - r := (if_neg (by decide)).trans ((if_neg (by decide)).trans (if_pos rfl))
theorem bu_v3 {wd : Int32} {mem arg : Nat → Int32} {v l r : Int32} : bu_val wd mem arg 3 v l r = mem (r &&& (wd - 1)).toNatClampNeg := (if_neg (by decide)).trans ((if_neg (by decide)).trans ((if_neg (by decide)).trans (if_pos rfl)))
theorem bu_mn {wd : Int32} {mem : Nat → Int32} {op l r : Int32} (h : ¬ op = 7) : bu_mem wd mem op l r = mem := if_neg h
theorem bu_val_cg {wd : Int32} {mem arg : Nat → Int32} {op v l l' r r' : Int32} (hop : bu_op op) (hl : bu_ar op = 2 → l = l') (hr : 1 ≤ bu_ar op → r = r') : bu_val wd mem arg op v l r = bu_val wd mem arg op v l' r' ∧ bu_mem wd mem op l r = bu_mem wd mem op l' r' := by
  rcases bu_op_ar hop with ⟨e, ho⟩ | ⟨e, ho⟩ | ⟨e, ho⟩
  · rcases ho with o | o
    · subst o
      rw [bu_v0, bu_v0, bu_mn (by decide), bu_mn (by decide)]; exact ⟨rfl, rfl⟩
    · subst o
      rw [bu_v1, bu_v1, bu_mn (by decide), bu_mn (by decide)]; exact ⟨rfl, rfl⟩
  · have := hr (by omega)
    subst this
    rcases ho with o | o
    · subst o
      rw [bu_v2, bu_v2, bu_mn (by decide), bu_mn (by decide)]; exact ⟨rfl, rfl⟩
    · subst o
      rw [bu_v3, bu_v3, bu_mn (by decide), bu_mn (by decide)]; exact ⟨rfl, rfl⟩
  · have := hr (by omega)
    subst this
    have := hl e
    subst this
    exact ⟨rfl, rfl⟩
theorem yf_2 {post : SY → Prop} {s b : Nat} {ops vals S0 m0 : Nat → Int32} (hb : b + s ≤ 60) (hE : bu_Ev ops vals s) (hm : bu_Msk g_words)
    (eO : ∀ i, i < s → b_nodeOp (b + i) = ops i) (eV : ∀ i, i < s → b_nodeValue (b + i) = vals i)
    (h : ∀ W, post (g_registers, g_nonterminals, g_words, g_treeNodes, g_rules, g_nodes, g_statements, ((bu_rn ops vals g_words b_arguments S0 m0 s).1 0), g_spent, b_lhsOf, b_costOf, b_tokens, b_tokenAt, b_lowAt, b_highAt, b_nodeOp, b_nodeValue, b_statementCost, b_statementLength, b_statementNodes, ((bu_rn ops vals g_words b_arguments S0 m0 s).2), b_arguments, W, b_place, b_covered, b_bestCost, b_bestLength)) :
    ∀ (fuel i : Nat) (lv : Int32) (W : Nat → Int32), s < i + fuel → i ≤ s → bu_Sk (bu_st (fun j => bu_ar (ops j))) (bu_rn ops vals g_words b_arguments S0 m0 i).1 W b (bu_h (fun j => bu_ar (ops j)) i) i → (0 < i → lv = W (b + (i - 1))) →
      wY_perform_2 post (nI b) (nI s) g_registers g_nonterminals g_words g_treeNodes g_rules g_nodes g_statements g_spent fuel (nI (b + i)) lv b_lhsOf b_costOf b_tokens b_tokenAt b_lowAt b_highAt b_nodeOp b_nodeValue b_statementCost b_statementLength b_statementNodes ((bu_rn ops vals g_words b_arguments S0 m0 i).2) b_arguments W b_place b_covered b_bestCost b_bestLength := by
  obtain ⟨e1, e2, e3, e4, e5⟩ := hE
  intro fuel
  induction fuel with
  | zero => intro i lv W hf hi; omega
  | succ fuel ih =>
    intro i lv W hf hi hS hlv
    rw [wY_perform_2]
    dsimp only
    rw [nI_add]
    rcases Nat.lt_or_ge i s with z | z
    · refine br_f (nI_ge (by omega) (by omega)) ⟨vp_in_nI (by omega) (by decide), ?_⟩
      rw [nI_clamp (n := b + i) (by omega), eO i z]
      refine nm_e (ya_ar ?_)
      obtain ⟨hop, harg⟩ := e5 i z
      have had : bu_ar (ops i) ≤ bu_h (fun j => bu_ar (ops j)) i := e3 i z
      have tall := bu_all (bu_wf_le e3 (x := i) (by omega))
      have tchi := (bu_chi (a := fun j => bu_ar (ops j)) e3 (p := i) z).1
      have tchi : bu_T (bu_st (fun j => bu_ar (ops j))) (bu_ar (ops i)) (bu_st (fun j => bu_ar (ops j)) i) i := tchi
      have hvv : ops i = 1 → vp_in (b_nodeValue (b + i)) 4 := by
        intro q
        obtain ⟨j, j4, ej⟩ := harg q
        rw [eV i z, ej]; exact vp_in_nI j4 (by decide)
      have a2 := bu_ar_2 (ops i)
      -- the step, given the operands
      have go : ∀ l r : Int32, (bu_ar (ops i) = 2 → l = (bu_rn ops vals g_words b_arguments S0 m0 i).1 (bu_h (fun j => bu_ar (ops j)) i - 2)) → (1 ≤ bu_ar (ops i) → r = (bu_rn ops vals g_words b_arguments S0 m0 i).1 (bu_h (fun j => bu_ar (ops j)) i - 1)) →
          wY_perform_73 post (wY_perform_2 post (nI b) (nI s) g_registers g_nonterminals g_words g_treeNodes g_rules g_nodes g_statements g_spent fuel) (nI b) (nI s) (nI (b + i)) (ops i) l r g_registers g_nonterminals g_words g_treeNodes g_rules g_nodes g_statements lv g_spent b_lhsOf b_costOf b_tokens b_tokenAt b_lowAt b_highAt b_nodeOp b_nodeValue b_statementCost b_statementLength b_statementNodes ((bu_rn ops vals g_words b_arguments S0 m0 i).2) b_arguments W b_place b_covered b_bestCost b_bestLength := by
        intro l r hl hr
        obtain ⟨c1, c2⟩ := bu_val_cg (wd := g_words) (mem := (bu_rn ops vals g_words b_arguments S0 m0 i).2) (arg := b_arguments) (v := vals i) hop hl hr
        refine yf_op (by omega) hop hm hvv ?_
        rw [eV i z, c1, c2]
        refine ih (i + 1) _ _ (by omega) (by omega) ?_ (fun _ => pk_us.symm)
        rw [bu_h_s, show bu_h (fun j => bu_ar (ops j)) i + 1 - bu_ar (ops i) = (bu_h (fun j => bu_ar (ops j)) i - bu_ar (ops i)) + 1 by omega]
        refine ⟨?_, ?_⟩
        · rw [Nat.add_sub_cancel, pk_us]; exact pk_us
        · rw [Nat.add_sub_cancel]
          have d1 : bu_Sk (bu_st (fun j => bu_ar (ops j))) (bu_rn ops vals g_words b_arguments S0 m0 i).1 W b (bu_h (fun j => bu_ar (ops j)) i - bu_ar (ops i)) (bu_st (fun j => bu_ar (ops j)) i) := by
            refine bu_Sk_dr (a := bu_ar (ops i)) (y := i) ?_ tchi
            rw [Nat.sub_add_cancel had]; exact hS
          have t1 : bu_T (bu_st (fun j => bu_ar (ops j))) (bu_h (fun j => bu_ar (ops j)) i - bu_ar (ops i)) 0 (bu_st (fun j => bu_ar (ops j)) i) := by
            have q := tall
            rw [← Nat.sub_add_cancel had] at q
            obtain ⟨z1, z2, z3⟩ := bu_T_split q
            rw [bu_T_un z2 tchi] at z3
            exact z3
          have le := bu_T_le tchi
          exact bu_Sk_cg t1 (fun j hj => (pk_un (by omega)).symm) (fun j hj => (pk_un (by omega)).symm) d1
      rcases Nat.lt_or_ge (bu_ar (ops i)) 1 with y | y
      · refine br_t ((nI_ltI (a := bu_ar (ops i)) (b := 1) (by omega) (by decide)).mpr y) ?_
        unfold wY_perform_47
        refine br_f (fun q => by have := (nI_eq (a := bu_ar (ops i)) (b := 2) (by omega) (by decide)).mp q; omega) ?_
        exact go 0 0 (fun q => by omega) (fun q => by omega)
      · refine br_f (fun q => by have := (nI_ltI (a := bu_ar (ops i)) (b := 1) (by omega) (by decide)).mp q; omega) ?_
        have i0 : 0 < i := by
          obtain ⟨A, hA⟩ : ∃ A, bu_ar (ops i) = A + 1 := ⟨bu_ar (ops i) - 1, by omega⟩
          rw [hA] at tchi; exact tchi.1
        obtain ⟨i', rfl⟩ : ∃ i', i = i' + 1 := ⟨i - 1, by omega⟩
        have ei : nI (b + (i' + 1)) - 1 = nI (b + i') := nI_pred (b + i')
        obtain ⟨D, hD⟩ : ∃ D, bu_h (fun j => bu_ar (ops j)) (i' + 1) = D + 1 := ⟨bu_h (fun j => bu_ar (ops j)) (i' + 1) - 1, by omega⟩
        rw [hD] at hS
        obtain ⟨s1, s2⟩ := hS
        rw [Nat.add_sub_cancel] at s1 s2
        rw [ei, nI_clamp (n := b + i') (by omega)]
        have hr : 1 ≤ bu_ar (ops (i' + 1)) → W (b + i') = (bu_rn ops vals g_words b_arguments S0 m0 (i' + 1)).1 (bu_h (fun j => bu_ar (ops j)) (i' + 1) - 1) := by
          intro _
          rw [hD, Nat.add_sub_cancel]; exact s1.symm
        refine ⟨vp_in_nI (by omega) (by decide), nm_e ?_⟩
        unfold wY_perform_47
        rw [ei]
        rcases Nat.lt_or_ge (bu_ar (ops (i' + 1))) 2 with x | x
        · refine br_f (fun q => by have := (nI_eq (a := bu_ar (ops (i' + 1))) (b := 2) (by omega) (by decide)).mp q; omega) ?_
          exact go 0 _ (fun q => by omega) hr
        · have e2' : bu_ar (ops (i' + 1)) = 2 := by omega
          refine br_t (by rw [e2']; rfl) ?_
          rw [e2'] at tchi
          obtain ⟨t1, t2, t3, t4, t5⟩ := bu_T_2 tchi
          rw [Nat.add_sub_cancel] at t2 t3 t4 t5
          refine yt_ts (by omega) ?_
          have es : bu_st (fun j => bu_ar (b_nodeOp j)) (b + i') = b + bu_st (fun j => bu_ar (ops j)) i' :=
            bu_st_sh (a := fun j => bu_ar (ops j)) (fun j hj => by rw [eO j (by omega)]) (bu_wf_le e3 (by omega))
          rw [es]
          obtain ⟨G, hG⟩ : ∃ G, bu_st (fun j => bu_ar (ops j)) i' = G + 1 := ⟨bu_st (fun j => bu_ar (ops j)) i' - 1, by omega⟩
          rw [hG] at s2 ⊢
          rw [show b + (G + 1) = (b + G) + 1 by omega, nI_pred, nI_clamp (n := b + G) (by omega)]
          refine ⟨vp_in_nI (by omega) (by decide), nm_e ?_⟩
          refine go _ _ (fun _ => ?_) hr
          obtain ⟨D', hD'⟩ : ∃ D', D = D' + 1 := ⟨D - 1, by omega⟩
          rw [hD'] at s2
          have s3 := s2.1
          rw [Nat.add_sub_cancel] at s3
          rw [hD, hD', show D' + 1 + 1 - 2 = D' by omega]
          exact s3.symm
    · have ei : i = s := by omega
      subst ei
      refine br_t (nI_le (by omega) (by omega)) ?_
      rw [e4] at hS
      have el : lv = (bu_rn ops vals g_words b_arguments S0 m0 i).1 0 := (hlv (by omega)).trans hS.1.symm
      rw [el]
      exact h W
theorem yf_perf {post : SY → Prop} {s b : Nat} {ops vals S0 : Nat → Int32} (hb : b + s ≤ 60) (hE : bu_Ev ops vals s) (hm : bu_Msk g_words)
    (eO : ∀ i, i < s → b_nodeOp (b + i) = ops i) (eV : ∀ i, i < s → b_nodeValue (b + i) = vals i)
    (h : ∀ W, post (g_registers, g_nonterminals, g_words, g_treeNodes, g_rules, g_nodes, g_statements, ((bu_rn ops vals g_words b_arguments S0 b_memory s).1 0), g_spent, b_lhsOf, b_costOf, b_tokens, b_tokenAt, b_lowAt, b_highAt, b_nodeOp, b_nodeValue, b_statementCost, b_statementLength, b_statementNodes, ((bu_rn ops vals g_words b_arguments S0 b_memory s).2), b_arguments, W, b_place, b_covered, b_bestCost, b_bestLength)) :
    wpY_perform post (g_registers, g_nonterminals, g_words, g_treeNodes, g_rules, g_nodes, g_statements, g_lastValue, g_spent, b_lhsOf, b_costOf, b_tokens, b_tokenAt, b_lowAt, b_highAt, b_nodeOp, b_nodeValue, b_statementCost, b_statementLength, b_statementNodes, b_memory, b_arguments, b_work, b_place, b_covered, b_bestCost, b_bestLength) (nI b) (nI s) :=
  ⟨s + 1, yf_2 (S0 := S0) (m0 := b_memory) hb hE hm eO eV h (s + 1) 0 g_lastValue b_work (by omega) (by omega) trivial (fun q => by omega)⟩
end
end
section
/-! the relation -/
def bu_Cfg (rg nt w tl : Nat) : Prop := 1 ≤ rg ∧ rg ≤ 3 ∧ rg ≤ nt ∧ nt ≤ 6 ∧ w ≤ 32 ∧ bu_Msk (nI w) ∧ tl ≤ 20
def bu_Opn (nt os : Nat) (oT oL oH : Nat → Int32) : Prop := os ≤ 7 ∧ bu_wf (fun i => bu_ar (oT i)) os ∧ ∀ i, i < os → bu_tok nt (oT i) ∧ (¬ (oT i = 0 ∨ oT i = 1) → oL i = 0 ∧ oH i = 0)
def bu_Tre (nc tl : Nat) (no nv sf : Nat → Int32) : Prop := nc ≤ tl ∧ bu_Nod no nc ∧ ∀ j, j < nc → bu_op (no j) ∧ (no j = 1 → ∃ i : Nat, i < 4 ∧ nv j = nI i) ∧ sf j = nI (bu_F no j)
def bu_Prg (sc pn : Nat) (sst snd pO pV : Nat → Int32) : Prop := sc ≤ 8 ∧ pn ≤ 40 ∧ pn = bu_su (bu_cl snd) sc ∧ ∀ q, q < sc → sst q = nI (bu_su (bu_cl snd) q) ∧ snd q = nI (bu_cl snd q) ∧ bu_Ev (fun i => pO (bu_su (bu_cl snd) q + i)) (fun i => pV (bu_su (bu_cl snd) q + i)) (bu_cl snd q)
def bu_YX (os : Nat) (oT oL oH size tk lo hi no nv pO pV tokens tokenAt lowAt highAt nodeOp nodeValue : Nat → Int32) : Prop :=
  (∀ j, j < 24 → tokens j = size j) ∧ tokens 24 = nI os ∧ (∀ j, j < 168 → tokenAt j = tk j) ∧ (∀ j, j < 168 → lowAt j = lo j) ∧ (∀ j, j < 168 → highAt j = hi j) ∧
  (∀ j, j < 7 → tokenAt (168 + j) = oT j ∧ lowAt (168 + j) = oL j ∧ highAt (168 + j) = oH j) ∧ (∀ j, j < 20 → nodeOp j = no j) ∧ (∀ j, j < 20 → nodeValue j = nv j) ∧ (∀ j, j < 40 → nodeOp (20 + j) = pO j ∧ nodeValue (20 + j) = pV j)
def i_Rel (_ : Nat) (u : SX) (v : SY) : Prop :=
  ∃ (rg nt w tl os rc nc lb sc pn : Nat) (dp lv sp : Int32) (a_openToken a_openLow a_openHigh a_ruleLhs a_ruleCost a_ruleSize a_ruleToken a_ruleLow a_ruleHigh a_nodeOperator a_nodeValue a_subtreeFirst a_bestCost a_bestLength a_place a_covered a_statementStart a_statementNodes a_statementCost a_statementLength a_programOperator a_programValue a_memory a_arguments a_stack b_tokens b_tokenAt b_lowAt b_highAt b_nodeOp b_nodeValue b_work b_place b_covered b_bestCost b_bestLength : Nat → Int32), (bu_Cfg rg nt w tl ∧ bu_Opn nt os a_openToken a_openLow a_openHigh ∧ (rc ≤ 24 ∧ bu_Rs a_ruleToken a_ruleLhs a_ruleCost a_ruleSize nt rc) ∧ bu_Tre nc tl a_nodeOperator a_nodeValue a_subtreeFirst ∧ (lb ≤ nc ∧ bu_Cor (6 * lb) (bu_L rg nt rc a_ruleToken a_ruleLow a_ruleHigh a_ruleSize a_ruleLhs a_ruleCost a_nodeOperator a_nodeValue lb) a_bestCost a_bestLength) ∧ bu_Prg sc pn a_statementStart a_statementNodes a_programOperator a_programValue ∧ bu_YX os a_openToken a_openLow a_openHigh a_ruleSize a_ruleToken a_ruleLow a_ruleHigh a_nodeOperator a_nodeValue a_programOperator a_programValue b_tokens b_tokenAt b_lowAt b_highAt b_nodeOp b_nodeValue) ∧ u = ((nI rg), (nI nt), (nI w), (nI tl), (nI os), (nI (bu_h (fun i => bu_ar (a_openToken i)) os)), (nI rc), (nI nc), (nI (bu_h (fun i => bu_ar (a_nodeOperator i)) nc)), (nI lb), (nI sc), (nI pn), dp, lv, sp, a_openToken, a_openLow, a_openHigh, a_ruleLhs, a_ruleCost, a_ruleSize, a_ruleToken, a_ruleLow, a_ruleHigh, a_nodeOperator, a_nodeValue, a_subtreeFirst, a_bestCost, a_bestLength, a_place, a_covered, a_statementStart, a_statementNodes, a_statementCost, a_statementLength, a_programOperator, a_programValue, a_memory, a_arguments, a_stack) ∧ v = ((nI rg), (nI nt), (nI w), (nI tl), (nI rc), (nI nc), (nI sc), lv, sp, a_ruleLhs, a_ruleCost, b_tokens, b_tokenAt, b_lowAt, b_highAt, b_nodeOp, b_nodeValue, a_statementCost, a_statementLength, a_statementNodes, a_memory, a_arguments, b_work, b_place, b_covered, b_bestCost, b_bestLength)
theorem zz_in {k : Nat} {rg nt w tl os rc nc lb sc pn : Nat} {dp lv sp : Int32} {a_openToken a_openLow a_openHigh a_ruleLhs a_ruleCost a_ruleSize a_ruleToken a_ruleLow a_ruleHigh a_nodeOperator a_nodeValue a_subtreeFirst a_bestCost a_bestLength a_place a_covered a_statementStart a_statementNodes a_statementCost a_statementLength a_programOperator a_programValue a_memory a_arguments a_stack b_tokens b_tokenAt b_lowAt b_highAt b_nodeOp b_nodeValue b_work b_place b_covered b_bestCost b_bestLength : Nat → Int32} (h : bu_Cfg rg nt w tl ∧ bu_Opn nt os a_openToken a_openLow a_openHigh ∧ (rc ≤ 24 ∧ bu_Rs a_ruleToken a_ruleLhs a_ruleCost a_ruleSize nt rc) ∧ bu_Tre nc tl a_nodeOperator a_nodeValue a_subtreeFirst ∧ (lb ≤ nc ∧ bu_Cor (6 * lb) (bu_L rg nt rc a_ruleToken a_ruleLow a_ruleHigh a_ruleSize a_ruleLhs a_ruleCost a_nodeOperator a_nodeValue lb) a_bestCost a_bestLength) ∧ bu_Prg sc pn a_statementStart a_statementNodes a_programOperator a_programValue ∧ bu_YX os a_openToken a_openLow a_openHigh a_ruleSize a_ruleToken a_ruleLow a_ruleHigh a_nodeOperator a_nodeValue a_programOperator a_programValue b_tokens b_tokenAt b_lowAt b_highAt b_nodeOp b_nodeValue) : i_Rel k ((nI rg), (nI nt), (nI w), (nI tl), (nI os), (nI (bu_h (fun i => bu_ar (a_openToken i)) os)), (nI rc), (nI nc), (nI (bu_h (fun i => bu_ar (a_nodeOperator i)) nc)), (nI lb), (nI sc), (nI pn), dp, lv, sp, a_openToken, a_openLow, a_openHigh, a_ruleLhs, a_ruleCost, a_ruleSize, a_ruleToken, a_ruleLow, a_ruleHigh, a_nodeOperator, a_nodeValue, a_subtreeFirst, a_bestCost, a_bestLength, a_place, a_covered, a_statementStart, a_statementNodes, a_statementCost, a_statementLength, a_programOperator, a_programValue, a_memory, a_arguments, a_stack) ((nI rg), (nI nt), (nI w), (nI tl), (nI rc), (nI nc), (nI sc), lv, sp, a_ruleLhs, a_ruleCost, b_tokens, b_tokenAt, b_lowAt, b_highAt, b_nodeOp, b_nodeValue, a_statementCost, a_statementLength, a_statementNodes, a_memory, a_arguments, b_work, b_place, b_covered, b_bestCost, b_bestLength) :=
  ⟨rg, nt, w, tl, os, rc, nc, lb, sc, pn, dp, lv, sp, a_openToken, a_openLow, a_openHigh, a_ruleLhs, a_ruleCost, a_ruleSize, a_ruleToken, a_ruleLow, a_ruleHigh, a_nodeOperator, a_nodeValue, a_subtreeFirst, a_bestCost, a_bestLength, a_place, a_covered, a_statementStart, a_statementNodes, a_statementCost, a_statementLength, a_programOperator, a_programValue, a_memory, a_arguments, a_stack, b_tokens, b_tokenAt, b_lowAt, b_highAt, b_nodeOp, b_nodeValue, b_work, b_place, b_covered, b_bestCost, b_bestLength, h, rfl, rfl⟩
theorem zz_el {k : Nat} {u : SX} {v : SY} {P : SX → SY → Prop} (h : ∀ (rg nt w tl os rc nc lb sc pn : Nat) (dp lv sp : Int32) (a_openToken a_openLow a_openHigh a_ruleLhs a_ruleCost a_ruleSize a_ruleToken a_ruleLow a_ruleHigh a_nodeOperator a_nodeValue a_subtreeFirst a_bestCost a_bestLength a_place a_covered a_statementStart a_statementNodes a_statementCost a_statementLength a_programOperator a_programValue a_memory a_arguments a_stack b_tokens b_tokenAt b_lowAt b_highAt b_nodeOp b_nodeValue b_work b_place b_covered b_bestCost b_bestLength : Nat → Int32), (bu_Cfg rg nt w tl ∧ bu_Opn nt os a_openToken a_openLow a_openHigh ∧ (rc ≤ 24 ∧ bu_Rs a_ruleToken a_ruleLhs a_ruleCost a_ruleSize nt rc) ∧ bu_Tre nc tl a_nodeOperator a_nodeValue a_subtreeFirst ∧ (lb ≤ nc ∧ bu_Cor (6 * lb) (bu_L rg nt rc a_ruleToken a_ruleLow a_ruleHigh a_ruleSize a_ruleLhs a_ruleCost a_nodeOperator a_nodeValue lb) a_bestCost a_bestLength) ∧ bu_Prg sc pn a_statementStart a_statementNodes a_programOperator a_programValue ∧ bu_YX os a_openToken a_openLow a_openHigh a_ruleSize a_ruleToken a_ruleLow a_ruleHigh a_nodeOperator a_nodeValue a_programOperator a_programValue b_tokens b_tokenAt b_lowAt b_highAt b_nodeOp b_nodeValue) → P ((nI rg), (nI nt), (nI w), (nI tl), (nI os), (nI (bu_h (fun i => bu_ar (a_openToken i)) os)), (nI rc), (nI nc), (nI (bu_h (fun i => bu_ar (a_nodeOperator i)) nc)), (nI lb), (nI sc), (nI pn), dp, lv, sp, a_openToken, a_openLow, a_openHigh, a_ruleLhs, a_ruleCost, a_ruleSize, a_ruleToken, a_ruleLow, a_ruleHigh, a_nodeOperator, a_nodeValue, a_subtreeFirst, a_bestCost, a_bestLength, a_place, a_covered, a_statementStart, a_statementNodes, a_statementCost, a_statementLength, a_programOperator, a_programValue, a_memory, a_arguments, a_stack) ((nI rg), (nI nt), (nI w), (nI tl), (nI rc), (nI nc), (nI sc), lv, sp, a_ruleLhs, a_ruleCost, b_tokens, b_tokenAt, b_lowAt, b_highAt, b_nodeOp, b_nodeValue, a_statementCost, a_statementLength, a_statementNodes, a_memory, a_arguments, b_work, b_place, b_covered, b_bestCost, b_bestLength)) (I : i_Rel k u v) : P u v := by
  obtain ⟨rg, nt, w, tl, os, rc, nc, lb, sc, pn, dp, lv, sp, a_openToken, a_openLow, a_openHigh, a_ruleLhs, a_ruleCost, a_ruleSize, a_ruleToken, a_ruleLow, a_ruleHigh, a_nodeOperator, a_nodeValue, a_subtreeFirst, a_bestCost, a_bestLength, a_place, a_covered, a_statementStart, a_statementNodes, a_statementCost, a_statementLength, a_programOperator, a_programValue, a_memory, a_arguments, a_stack, b_tokens, b_tokenAt, b_lowAt, b_highAt, b_nodeOp, b_nodeValue, b_work, b_place, b_covered, b_bestCost, b_bestLength, hF, hu, hv⟩ := I
  rw [hu, hv]
  exact h rg nt w tl os rc nc lb sc pn dp lv sp a_openToken a_openLow a_openHigh a_ruleLhs a_ruleCost a_ruleSize a_ruleToken a_ruleLow a_ruleHigh a_nodeOperator a_nodeValue a_subtreeFirst a_bestCost a_bestLength a_place a_covered a_statementStart a_statementNodes a_statementCost a_statementLength a_programOperator a_programValue a_memory a_arguments a_stack b_tokens b_tokenAt b_lowAt b_highAt b_nodeOp b_nodeValue b_work b_place b_covered b_bestCost b_bestLength hF
theorem i_up {k : Nat} {u : SX} {v : SY} (h : i_Rel k u v) : i_Rel (k + 4) u v := h
/-! small rows -/
theorem bu_hs {h a : Nat} (ha : a ≤ h) : nI h + (1 - nI a) = nI (h + 1 - a) := by
  have e : ∀ x y : Int32, x + (1 - y) = x + 1 - y := by intro x y; grind
  rw [e, nI_1, pk_sub (by omega)]
theorem bu_hs' {h a : Nat} (ha : a ≤ h) : nI h - nI a + 1 = nI (h + 1 - a) := by
  rw [pk_sub ha, nI_1, show h - a + 1 = h + 1 - a by omega]
def bu_rgd (tok x : Int32) : Int32 := if tok = 0 then x else if tok = 1 then x else 0
def bu_cp (f g : Nat → Int32) (b i : Nat) : Nat → Int32 := fun j => if b ≤ j ∧ j < b + i then g (j - b) else f j
theorem bu_cp_0 {f g : Nat → Int32} {b : Nat} : bu_cp f g b 0 = f := by
  funext j; exact if_neg (by omega)
theorem bu_cp_s {f g : Nat → Int32} {b i : Nat} : upd (bu_cp f g b i) (b + i) (g i) = bu_cp f g b (i + 1) := by
  funext j
  by_cases e : j = b + i
  · subst e
    rw [pk_us]
    unfold bu_cp
    rw [if_pos (by omega), show b + i - b = i by omega]
  · rw [pk_un e]
    unfold bu_cp
    by_cases z : b ≤ j ∧ j < b + i
    · rw [if_pos z, if_pos (by omega)]
    · rw [if_neg z, if_neg (by omega)]
theorem bu_cp_in {f g : Nat → Int32} {b i j : Nat} (h : j < i) : bu_cp f g b i (b + j) = g j := by
  unfold bu_cp
  rw [if_pos (by omega), show b + j - b = j by omega]
theorem bu_cp_lo {f g : Nat → Int32} {b i j : Nat} (h : j < b) : bu_cp f g b i j = f j := if_neg (by omega)
theorem bu_cp_hi {f g : Nat → Int32} {b i j : Nat} (h : b + i ≤ j) : bu_cp f g b i j = f j := if_neg (by omega)
theorem bu_uu {f : Nat → Int32} {k : Nat} {x y : Int32} : upd (upd f k x) k y = upd f k y := by
  funext j
  by_cases e : j = k
  · subst e; rw [pk_us, pk_us]
  · rw [pk_un e, pk_un e, pk_un e]
section
variable {g_registers g_nonterminals g_words g_treeNodes g_rules g_nodes g_statements g_lastValue g_spent : Int32} {b_lhsOf b_costOf b_tokens b_tokenAt b_lowAt b_highAt b_nodeOp b_nodeValue b_statementCost b_statementLength b_statementNodes b_memory b_arguments b_work b_place b_covered b_bestCost b_bestLength : Nat → Int32}
theorem yh_4 {post : Int32 → Prop} {r s : Nat} (hr : r < 25) (hs : b_tokens r = nI s) (h7 : s ≤ 7) (hw : bu_wf (fun j => bu_ar (b_tokenAt (7 * r + j))) s) (h : post (nI (bu_h (fun j => bu_ar (b_tokenAt (7 * r + j))) s))) :
    ∀ (fuel j : Nat), s < j + fuel → j ≤ s → wY_height_4 post (nI r) g_registers g_nonterminals g_words g_treeNodes g_rules g_nodes g_statements g_lastValue g_spent b_lhsOf b_costOf b_tokens b_tokenAt b_lowAt b_highAt b_nodeOp b_nodeValue b_statementCost b_statementLength b_statementNodes b_memory b_arguments b_work b_place b_covered b_bestCost b_bestLength fuel (nI (bu_h (fun j => bu_ar (b_tokenAt (7 * r + j))) j)) (nI j) := by
  intro fuel
  induction fuel with
  | zero => intro j hf hj; omega
  | succ fuel ih =>
    intro j hf hj
    rw [wY_height_4, nI_clamp (n := r) (by omega), hs]
    refine ⟨vp_in_nI hr (by decide), ?_⟩
    rcases Nat.lt_or_ge j s with z | z
    · refine br_f (nI_ge z (by omega)) ?_
      rw [bu_x7, nI_add, nI_clamp (n := 7 * r + j) (by omega)]
      exact ⟨vp_in_nI (by omega) (by decide), ya_ar (nm_r (bu_hs (hw j z)) (nm_r (nI_1 j) (ih (j + 1) (by omega) (by omega))))⟩
    · have ej : j = s := by omega
      subst ej
      exact br_t (nI_le (by omega) (by omega)) h
theorem yh_height {post : Int32 → Prop} {r s : Nat} (hr : r < 25) (hs : b_tokens r = nI s) (h7 : s ≤ 7) (hw : bu_wf (fun j => bu_ar (b_tokenAt (7 * r + j))) s) (h : post (nI (bu_h (fun j => bu_ar (b_tokenAt (7 * r + j))) s))) : wpY_height post (g_registers, g_nonterminals, g_words, g_treeNodes, g_rules, g_nodes, g_statements, g_lastValue, g_spent, b_lhsOf, b_costOf, b_tokens, b_tokenAt, b_lowAt, b_highAt, b_nodeOp, b_nodeValue, b_statementCost, b_statementLength, b_statementNodes, b_memory, b_arguments, b_work, b_place, b_covered, b_bestCost, b_bestLength) (nI r) :=
  ⟨s + 1, yh_4 hr hs h7 hw h (s + 1) 0 (by omega) (by omega)⟩
theorem yr_4 {post : Int32 → Prop} {s : Nat} (h7 : s ≤ 20) (hw : bu_wf (fun j => bu_ar (b_nodeOp j)) s) (h : post (nI (bu_h (fun j => bu_ar (b_nodeOp j)) s))) :
    ∀ (fuel j : Nat), s < j + fuel → j ≤ s → wY_roots_4 post g_registers g_nonterminals g_words g_treeNodes g_rules (nI s) g_statements g_lastValue g_spent b_lhsOf b_costOf b_tokens b_tokenAt b_lowAt b_highAt b_nodeOp b_nodeValue b_statementCost b_statementLength b_statementNodes b_memory b_arguments b_work b_place b_covered b_bestCost b_bestLength fuel (nI (bu_h (fun j => bu_ar (b_nodeOp j)) j)) (nI j) := by
  intro fuel
  induction fuel with
  | zero => intro j hf hj; omega
  | succ fuel ih =>
    intro j hf hj
    rw [wY_roots_4]
    rcases Nat.lt_or_ge j s with z | z
    · refine br_f (nI_ge z (by omega)) ?_
      rw [nI_clamp (n := j) (by omega)]
      exact ⟨vp_in_nI (by omega) (by decide), ya_ar (nm_r (bu_hs (hw j z)) (nm_r (nI_1 j) (ih (j + 1) (by omega) (by omega))))⟩
    · have ej : j = s := by omega
      subst ej
      exact br_t (nI_le (by omega) (by omega)) h
theorem yr_roots {post : Int32 → Prop} {s : Nat} {no : Nat → Int32} (h7 : s ≤ 20) (eO : ∀ j, j < 20 → b_nodeOp j = no j) (hw : bu_Nod no s) (h : post (nI (bu_h (fun j => bu_ar (no j)) s))) : wpY_roots post (g_registers, g_nonterminals, g_words, g_treeNodes, g_rules, (nI s), g_statements, g_lastValue, g_spent, b_lhsOf, b_costOf, b_tokens, b_tokenAt, b_lowAt, b_highAt, b_nodeOp, b_nodeValue, b_statementCost, b_statementLength, b_statementNodes, b_memory, b_arguments, b_work, b_place, b_covered, b_bestCost, b_bestLength) := by
  have e : bu_h (fun j => bu_ar (b_nodeOp j)) s = bu_h (fun j => bu_ar (no j)) s := bu_h_cg (fun j hj => by rw [eO j (by omega)])
  have w : bu_wf (fun j => bu_ar (b_nodeOp j)) s := bu_wf_cg (fun j hj => by rw [eO j (by omega)]) hw
  rw [← e] at h
  exact ⟨s + 1, yr_4 h7 w h (s + 1) 0 (by omega) (by omega)⟩
theorem yn_4 {post : Int32 → Prop} {q : Nat} (hq : q ≤ 8) (hs : ∀ j, j < q → b_statementNodes j = nI (bu_cl b_statementNodes j)) (h : post (nI (bu_su (bu_cl b_statementNodes) q))) :
    ∀ (fuel j : Nat), q < j + fuel → j ≤ q → wY_nodesBefore_4 post (nI q) g_registers g_nonterminals g_words g_treeNodes g_rules g_nodes g_statements g_lastValue g_spent b_lhsOf b_costOf b_tokens b_tokenAt b_lowAt b_highAt b_nodeOp b_nodeValue b_statementCost b_statementLength b_statementNodes b_memory b_arguments b_work b_place b_covered b_bestCost b_bestLength fuel (nI (bu_su (bu_cl b_statementNodes) j)) (nI j) := by
  intro fuel
  induction fuel with
  | zero => intro j hf hj; omega
  | succ fuel ih =>
    intro j hf hj
    rw [wY_nodesBefore_4]
    rcases Nat.lt_or_ge j q with z | z
    · refine br_f (nI_ge z (by omega)) ?_
      rw [nI_clamp (n := j) (by omega), hs j z]
      exact ⟨vp_in_nI (by omega) (by decide), nm_r (nI_add _ _) (nm_r (nI_1 j) (ih (j + 1) (by omega) (by omega)))⟩
    · have ej : j = q := by omega
      subst ej
      exact br_t (nI_le (by omega) (by omega)) h
theorem yn_before {post : Int32 → Prop} {q : Nat} (hq : q ≤ 8) (hs : ∀ j, j < q → b_statementNodes j = nI (bu_cl b_statementNodes j)) (h : post (nI (bu_su (bu_cl b_statementNodes) q))) : wpY_nodesBefore post (g_registers, g_nonterminals, g_words, g_treeNodes, g_rules, g_nodes, g_statements, g_lastValue, g_spent, b_lhsOf, b_costOf, b_tokens, b_tokenAt, b_lowAt, b_highAt, b_nodeOp, b_nodeValue, b_statementCost, b_statementLength, b_statementNodes, b_memory, b_arguments, b_work, b_place, b_covered, b_bestCost, b_bestLength) (nI q) :=
  ⟨q + 1, yn_4 hq hs h (q + 1) 0 (by omega) (by omega)⟩
theorem ya_app {post : SY → Prop} {r s : Nat} {tok lo hi : Int32} (hr : r < 25) (hs : b_tokens r = nI s) (h7 : s < 7)
    (h : post (g_registers, g_nonterminals, g_words, g_treeNodes, g_rules, g_nodes, g_statements, g_lastValue, g_spent, b_lhsOf, b_costOf, (upd b_tokens r (nI (s + 1))), (upd b_tokenAt (7 * r + s) tok), (upd b_lowAt (7 * r + s) (bu_rgd tok lo)), (upd b_highAt (7 * r + s) (bu_rgd tok hi)), b_nodeOp, b_nodeValue, b_statementCost, b_statementLength, b_statementNodes, b_memory, b_arguments, b_work, b_place, b_covered, b_bestCost, b_bestLength)) :
    wpY_append post (g_registers, g_nonterminals, g_words, g_treeNodes, g_rules, g_nodes, g_statements, g_lastValue, g_spent, b_lhsOf, b_costOf, b_tokens, b_tokenAt, b_lowAt, b_highAt, b_nodeOp, b_nodeValue, b_statementCost, b_statementLength, b_statementNodes, b_memory, b_arguments, b_work, b_place, b_covered, b_bestCost, b_bestLength) (nI r) tok lo hi := by
  have hv : vp_in (nI r) 25 := vp_in_nI hr (by decide)
  have hi' : vp_in (nI (7 * r + s)) 175 := vp_in_nI (by omega) (by decide)
  unfold wpY_append
  dsimp only
  rw [nI_clamp (n := r) (by omega), hs, bu_x7, nI_add]
  refine ⟨hv, nm_e ?_⟩
  have fin : ∀ (x y : Int32), x = bu_rgd tok lo → y = bu_rgd tok hi → wY_append_71 post (nI r) y (nI (7 * r + s)) g_registers g_nonterminals g_words g_treeNodes g_rules g_nodes g_statements g_lastValue g_spent b_lhsOf b_costOf b_tokens (upd b_tokenAt (7 * r + s) tok) (upd b_lowAt (7 * r + s) x) b_highAt b_nodeOp b_nodeValue b_statementCost b_statementLength b_statementNodes b_memory b_arguments b_work b_place b_covered b_bestCost b_bestLength := by
    intro x y ex ey
    unfold wY_append_71
    rw [nI_clamp (n := r) (by omega), nI_clamp (n := 7 * r + s) (by omega), hs, nI_1]
    refine ⟨hi', nm_e ⟨hv, hv, nm_e ?_⟩⟩
    rw [ex, ey]; exact h
  have cv : ∀ z : Int32, z = 1 → (tok = 0 ∨ tok = 1) → wY_append_27 post (nI r) tok lo hi (nI (7 * r + s)) z g_registers g_nonterminals g_words g_treeNodes g_rules g_nodes g_statements g_lastValue g_spent b_lhsOf b_costOf b_tokens b_tokenAt b_lowAt b_highAt b_nodeOp b_nodeValue b_statementCost b_statementLength b_statementNodes b_memory b_arguments b_work b_place b_covered b_bestCost b_bestLength := by
    intro z ez ho
    subst ez
    have el : lo = bu_rgd tok lo := by rcases ho with o | o <;> subst o <;> rfl
    have eh : hi = bu_rgd tok hi := by rcases ho with o | o <;> subst o <;> rfl
    unfold wY_append_27
    rw [nI_clamp (n := 7 * r + s) (by omega)]
    refine ⟨hi', nm_e (br_f (by decide) ?_)⟩
    unfold wY_append_53
    rw [nI_clamp (n := 7 * r + s) (by omega)]
    exact ⟨hi', nm_e (br_f (by decide) (fin lo hi el eh))⟩
  by_cases t0 : tok = 0
  · exact br_t t0 (cv 1 rfl (Or.inl t0))
  · refine br_f t0 ?_
    by_cases t1 : tok = 1
    · exact br_t t1 (cv 1 rfl (Or.inr t1))
    · refine br_f t1 ?_
      have el : ∀ x, 0 = bu_rgd tok x := by intro x; unfold bu_rgd; rw [if_neg t0, if_neg t1]
      unfold wY_append_27
      rw [nI_clamp (n := 7 * r + s) (by omega)]
      refine ⟨hi', nm_e (br_t rfl ?_)⟩
      unfold wY_append_53
      rw [nI_clamp (n := 7 * r + s) (by omega)]
      exact ⟨hi', nm_e (br_t rfl (fin 0 0 (el lo) (el hi)))⟩
end
section
variable {f_registers f_nonterminals f_words f_treeLimit f_openSize f_openHeight f_ruleCount f_nodeCount f_rootCount f_labelled f_statementCount f_programNodes f_depth f_lastValue f_spent : Int32} {a_openToken a_openLow a_openHigh a_ruleLhs a_ruleCost a_ruleSize a_ruleToken a_ruleLow a_ruleHigh a_nodeOperator a_nodeValue a_subtreeFirst a_bestCost a_bestLength a_place a_covered a_statementStart a_statementNodes a_statementCost a_statementLength a_programOperator a_programValue a_memory a_arguments a_stack : Nat → Int32}
theorem xr_rule {post : Int32 → Prop} {r rc : Nat} (hr : r < rc) (hc : rc ≤ 24) (h : post 1) : wpX_isRule post (f_registers, f_nonterminals, f_words, f_treeLimit, f_openSize, f_openHeight, (nI rc), f_nodeCount, f_rootCount, f_labelled, f_statementCount, f_programNodes, f_depth, f_lastValue, f_spent, a_openToken, a_openLow, a_openHigh, a_ruleLhs, a_ruleCost, a_ruleSize, a_ruleToken, a_ruleLow, a_ruleHigh, a_nodeOperator, a_nodeValue, a_subtreeFirst, a_bestCost, a_bestLength, a_place, a_covered, a_statementStart, a_statementNodes, a_statementCost, a_statementLength, a_programOperator, a_programValue, a_memory, a_arguments, a_stack) (nI r) := by
  unfold wpX_isRule
  exact br_f (nI_pos (by omega)) (br_f (nI_ge hr (by omega)) h)
theorem xr_app {post : SX → Prop} {r s rc : Nat} {tok lo hi : Int32} (hr : r < rc) (hc : rc ≤ 24) (hs : a_ruleSize r = nI s) (h7 : s < 7)
    (h : post (f_registers, f_nonterminals, f_words, f_treeLimit, f_openSize, f_openHeight, (nI rc), f_nodeCount, f_rootCount, f_labelled, f_statementCount, f_programNodes, f_depth, f_lastValue, f_spent, a_openToken, a_openLow, a_openHigh, a_ruleLhs, a_ruleCost, (upd a_ruleSize r (nI (s + 1))), (upd a_ruleToken (7 * r + s) tok), (upd a_ruleLow (7 * r + s) lo), (upd a_ruleHigh (7 * r + s) hi), a_nodeOperator, a_nodeValue, a_subtreeFirst, a_bestCost, a_bestLength, a_place, a_covered, a_statementStart, a_statementNodes, a_statementCost, a_statementLength, a_programOperator, a_programValue, a_memory, a_arguments, a_stack)) :
    wpX_appendToRule post (f_registers, f_nonterminals, f_words, f_treeLimit, f_openSize, f_openHeight, (nI rc), f_nodeCount, f_rootCount, f_labelled, f_statementCount, f_programNodes, f_depth, f_lastValue, f_spent, a_openToken, a_openLow, a_openHigh, a_ruleLhs, a_ruleCost, a_ruleSize, a_ruleToken, a_ruleLow, a_ruleHigh, a_nodeOperator, a_nodeValue, a_subtreeFirst, a_bestCost, a_bestLength, a_place, a_covered, a_statementStart, a_statementNodes, a_statementCost, a_statementLength, a_programOperator, a_programValue, a_memory, a_arguments, a_stack) (nI r) tok lo hi := by
  unfold wpX_appendToRule
  refine xr_rule hr hc (br_f (by decide) ?_)
  have hv : vp_in (nI r) 24 := vp_in_nI (by omega) (by decide)
  have hi' : vp_in (nI (7 * r + s)) 168 := vp_in_nI (by omega) (by decide)
  rw [nI_clamp (n := r) (by omega), hs, bu_x7]
  refine ⟨hv, nm_e ?_⟩
  rw [nI_1 s]
  refine br_t (nI_lt (b := 7) h7 (by decide)) (nm_r (nI_add _ _) ?_)
  rw [nI_clamp (n := 7 * r + s) (by omega)]
  exact ⟨hi', nm_e ⟨hi', nm_e ⟨hi', nm_e ⟨hv, nm_e h⟩⟩⟩⟩
theorem xr_start {post : Int32 → SX → Prop} {rc : Nat} {lhs cost : Int32} (hc : rc < 24)
    (h : post (nI rc) (f_registers, f_nonterminals, f_words, f_treeLimit, f_openSize, f_openHeight, (nI (rc + 1)), f_nodeCount, f_rootCount, 0, f_statementCount, f_programNodes, f_depth, f_lastValue, f_spent, a_openToken, a_openLow, a_openHigh, (upd a_ruleLhs rc lhs), (upd a_ruleCost rc cost), (upd a_ruleSize rc 0), a_ruleToken, a_ruleLow, a_ruleHigh, a_nodeOperator, a_nodeValue, a_subtreeFirst, a_bestCost, a_bestLength, a_place, a_covered, a_statementStart, a_statementNodes, a_statementCost, a_statementLength, a_programOperator, a_programValue, a_memory, a_arguments, a_stack)) :
    wpX_startRule post (f_registers, f_nonterminals, f_words, f_treeLimit, f_openSize, f_openHeight, (nI rc), f_nodeCount, f_rootCount, f_labelled, f_statementCount, f_programNodes, f_depth, f_lastValue, f_spent, a_openToken, a_openLow, a_openHigh, a_ruleLhs, a_ruleCost, a_ruleSize, a_ruleToken, a_ruleLow, a_ruleHigh, a_nodeOperator, a_nodeValue, a_subtreeFirst, a_bestCost, a_bestLength, a_place, a_covered, a_statementStart, a_statementNodes, a_statementCost, a_statementLength, a_programOperator, a_programValue, a_memory, a_arguments, a_stack) lhs cost := by
  unfold wpX_startRule
  dsimp only
  have hv : vp_in (nI rc) 24 := vp_in_nI hc (by decide)
  rw [nI_clamp (n := rc) (by omega)]
  exact br_t (nI_lt (b := 24) hc (by decide)) ⟨hv, nm_e ⟨hv, nm_e ⟨hv, nm_e (nm_r (nI_1 rc) h)⟩⟩⟩
end
end
section
/-! the small methods -/
theorem bu_out {x : Int32} {n : Nat} {A B : Prop} (hx : x < 0 ∨ nI n ≤ x) (h : B) : (x < 0 → B) ∧ (¬ x < 0 → ((x < nI n → A) ∧ (¬ x < nI n → B))) := by
  by_cases z : x < 0
  · exact br_t z h
  · exact br_f z (br_f (Int32.not_lt.mpr (hx.resolve_left z)) h)
theorem bu_inn {j n : Nat} {A B : Prop} (hj : j < n) (hn : n < 2 ^ 31) (h : A) : (nI j < 0 → B) ∧ (¬ nI j < 0 → ((nI j < nI n → A) ∧ (¬ nI j < nI n → B))) :=
  br_f (nI_pos (by omega)) (br_t (nI_lt hj hn) h)
theorem bu_outL {x y : Int32} {A B : Prop} (hx : x < 0 ∨ y < x) (h : B) : (x < 0 → B) ∧ (¬ x < 0 → ((x ≤ y → A) ∧ (¬ x ≤ y → B))) := by
  by_cases z : x < 0
  · exact br_t z h
  · exact br_f z (br_f (Int32.not_le.mpr (hx.resolve_left z)) h)
theorem bu_em (x : Int32) {n : Nat} (hn : n < 2 ^ 31) : (x < 0 ∨ nI n ≤ x) ∨ ∃ j : Nat, j < n ∧ x = nI j := by
  rcases pk_ix x hn with h | h | h
  · exact Or.inl (Or.inl h)
  · exact Or.inl (Or.inr h)
  · exact Or.inr h
theorem bu_em99 (x : Int32) : (x < 0 ∨ 99 < x) ∨ ∃ j : Nat, j ≤ 99 ∧ x = nI j := by
  rcases bu_em x (n := 100) (by decide) with (h | h) | ⟨j, h1, h2⟩
  · exact Or.inl (Or.inl h)
  · refine Or.inl (Or.inr ?_)
    rw [Int32.le_iff_toInt_le] at h
    rw [Int32.lt_iff_toInt_lt]
    have e1 : (nI 100).toInt = 100 := by decide
    have e2 : (99 : Int32).toInt = 99 := by decide
    omega
  · exact Or.inr ⟨j, by omega, h2⟩
section
variable {f_registers f_nonterminals f_words f_treeLimit f_openSize f_openHeight f_ruleCount f_nodeCount f_rootCount f_labelled f_statementCount f_programNodes f_depth f_lastValue f_spent : Int32} {a_openToken a_openLow a_openHigh a_ruleLhs a_ruleCost a_ruleSize a_ruleToken a_ruleLow a_ruleHigh a_nodeOperator a_nodeValue a_subtreeFirst a_bestCost a_bestLength a_place a_covered a_statementStart a_statementNodes a_statementCost a_statementLength a_programOperator a_programValue a_memory a_arguments a_stack : Nat → Int32}
variable {rc nt nc sc : Nat}
theorem xi_rule0 {post : Int32 → Prop} {x : Int32} (hx : x < 0 ∨ nI rc ≤ x) (h : post 0) : wpX_isRule post (f_registers, f_nonterminals, f_words, f_treeLimit, f_openSize, f_openHeight, (nI rc), f_nodeCount, f_rootCount, f_labelled, f_statementCount, f_programNodes, f_depth, f_lastValue, f_spent, a_openToken, a_openLow, a_openHigh, a_ruleLhs, a_ruleCost, a_ruleSize, a_ruleToken, a_ruleLow, a_ruleHigh, a_nodeOperator, a_nodeValue, a_subtreeFirst, a_bestCost, a_bestLength, a_place, a_covered, a_statementStart, a_statementNodes, a_statementCost, a_statementLength, a_programOperator, a_programValue, a_memory, a_arguments, a_stack) x := by
  unfold wpX_isRule
  by_cases z : x < 0
  · exact br_t z h
  · exact br_f z (br_t (hx.resolve_left z) h)
theorem xi_node0 {post : Int32 → Prop} {x : Int32} (hx : x < 0 ∨ nI nc ≤ x) (h : post 0) : wpX_isNode post (f_registers, f_nonterminals, f_words, f_treeLimit, f_openSize, f_openHeight, f_ruleCount, (nI nc), f_rootCount, f_labelled, f_statementCount, f_programNodes, f_depth, f_lastValue, f_spent, a_openToken, a_openLow, a_openHigh, a_ruleLhs, a_ruleCost, a_ruleSize, a_ruleToken, a_ruleLow, a_ruleHigh, a_nodeOperator, a_nodeValue, a_subtreeFirst, a_bestCost, a_bestLength, a_place, a_covered, a_statementStart, a_statementNodes, a_statementCost, a_statementLength, a_programOperator, a_programValue, a_memory, a_arguments, a_stack) x := by
  unfold wpX_isNode
  by_cases z : x < 0
  · exact br_t z h
  · exact br_f z (br_t (hx.resolve_left z) h)
theorem xi_node1 {post : Int32 → Prop} {j : Nat} (hj : j < nc) (hn : nc < 2 ^ 31) (h : post 1) : wpX_isNode post (f_registers, f_nonterminals, f_words, f_treeLimit, f_openSize, f_openHeight, f_ruleCount, (nI nc), f_rootCount, f_labelled, f_statementCount, f_programNodes, f_depth, f_lastValue, f_spent, a_openToken, a_openLow, a_openHigh, a_ruleLhs, a_ruleCost, a_ruleSize, a_ruleToken, a_ruleLow, a_ruleHigh, a_nodeOperator, a_nodeValue, a_subtreeFirst, a_bestCost, a_bestLength, a_place, a_covered, a_statementStart, a_statementNodes, a_statementCost, a_statementLength, a_programOperator, a_programValue, a_memory, a_arguments, a_stack) (nI j) := by
  unfold wpX_isNode
  exact br_f (nI_pos (by omega)) (br_f (nI_ge hj hn) h)
theorem xi_stm0 {post : Int32 → Prop} {x : Int32} (hx : x < 0 ∨ nI sc ≤ x) (h : post 0) : wpX_isStatement post (f_registers, f_nonterminals, f_words, f_treeLimit, f_openSize, f_openHeight, f_ruleCount, f_nodeCount, f_rootCount, f_labelled, (nI sc), f_programNodes, f_depth, f_lastValue, f_spent, a_openToken, a_openLow, a_openHigh, a_ruleLhs, a_ruleCost, a_ruleSize, a_ruleToken, a_ruleLow, a_ruleHigh, a_nodeOperator, a_nodeValue, a_subtreeFirst, a_bestCost, a_bestLength, a_place, a_covered, a_statementStart, a_statementNodes, a_statementCost, a_statementLength, a_programOperator, a_programValue, a_memory, a_arguments, a_stack) x := by
  unfold wpX_isStatement
  by_cases z : x < 0
  · exact br_t z h
  · exact br_f z (br_t (hx.resolve_left z) h)
theorem xi_stm1 {post : Int32 → Prop} {j : Nat} (hj : j < sc) (hn : sc < 2 ^ 31) (h : post 1) : wpX_isStatement post (f_registers, f_nonterminals, f_words, f_treeLimit, f_openSize, f_openHeight, f_ruleCount, f_nodeCount, f_rootCount, f_labelled, (nI sc), f_programNodes, f_depth, f_lastValue, f_spent, a_openToken, a_openLow, a_openHigh, a_ruleLhs, a_ruleCost, a_ruleSize, a_ruleToken, a_ruleLow, a_ruleHigh, a_nodeOperator, a_nodeValue, a_subtreeFirst, a_bestCost, a_bestLength, a_place, a_covered, a_statementStart, a_statementNodes, a_statementCost, a_statementLength, a_programOperator, a_programValue, a_memory, a_arguments, a_stack) (nI j) := by
  unfold wpX_isStatement
  exact br_f (nI_pos (by omega)) (br_f (nI_ge hj hn) h)
theorem xi_nt0 {post : Int32 → Prop} {x : Int32} (hx : x < 0 ∨ nI nt ≤ x) (h : post 0) : wpX_isNonterminal post (f_registers, (nI nt), f_words, f_treeLimit, f_openSize, f_openHeight, f_ruleCount, f_nodeCount, f_rootCount, f_labelled, f_statementCount, f_programNodes, f_depth, f_lastValue, f_spent, a_openToken, a_openLow, a_openHigh, a_ruleLhs, a_ruleCost, a_ruleSize, a_ruleToken, a_ruleLow, a_ruleHigh, a_nodeOperator, a_nodeValue, a_subtreeFirst, a_bestCost, a_bestLength, a_place, a_covered, a_statementStart, a_statementNodes, a_statementCost, a_statementLength, a_programOperator, a_programValue, a_memory, a_arguments, a_stack) x := by
  unfold wpX_isNonterminal
  by_cases z : x < 0
  · exact br_t z h
  · exact br_f z (br_t (hx.resolve_left z) h)
theorem xi_nt1 {post : Int32 → Prop} {j : Nat} (hj : j < nt) (hn : nt < 2 ^ 31) (h : post 1) : wpX_isNonterminal post (f_registers, (nI nt), f_words, f_treeLimit, f_openSize, f_openHeight, f_ruleCount, f_nodeCount, f_rootCount, f_labelled, f_statementCount, f_programNodes, f_depth, f_lastValue, f_spent, a_openToken, a_openLow, a_openHigh, a_ruleLhs, a_ruleCost, a_ruleSize, a_ruleToken, a_ruleLow, a_ruleHigh, a_nodeOperator, a_nodeValue, a_subtreeFirst, a_bestCost, a_bestLength, a_place, a_covered, a_statementStart, a_statementNodes, a_statementCost, a_statementLength, a_programOperator, a_programValue, a_memory, a_arguments, a_stack) (nI j) := by
  unfold wpX_isNonterminal
  exact br_f (nI_pos (by omega)) (br_f (nI_ge hj hn) h)
theorem xi_cost0 {post : Int32 → Prop} {x : Int32} (hx : x < 0 ∨ 99 < x) (h : post 0) : wpX_isCost post (f_registers, f_nonterminals, f_words, f_treeLimit, f_openSize, f_openHeight, f_ruleCount, f_nodeCount, f_rootCount, f_labelled, f_statementCount, f_programNodes, f_depth, f_lastValue, f_spent, a_openToken, a_openLow, a_openHigh, a_ruleLhs, a_ruleCost, a_ruleSize, a_ruleToken, a_ruleLow, a_ruleHigh, a_nodeOperator, a_nodeValue, a_subtreeFirst, a_bestCost, a_bestLength, a_place, a_covered, a_statementStart, a_statementNodes, a_statementCost, a_statementLength, a_programOperator, a_programValue, a_memory, a_arguments, a_stack) x := by
  unfold wpX_isCost
  by_cases z : x < 0
  · exact br_t z h
  · exact br_f z (br_t (hx.resolve_left z) h)
theorem xi_cost1 {post : Int32 → Prop} {j : Nat} (hj : j ≤ 99) (h : post 1) : wpX_isCost post (f_registers, f_nonterminals, f_words, f_treeLimit, f_openSize, f_openHeight, f_ruleCount, f_nodeCount, f_rootCount, f_labelled, f_statementCount, f_programNodes, f_depth, f_lastValue, f_spent, a_openToken, a_openLow, a_openHigh, a_ruleLhs, a_ruleCost, a_ruleSize, a_ruleToken, a_ruleLow, a_ruleHigh, a_nodeOperator, a_nodeValue, a_subtreeFirst, a_bestCost, a_bestLength, a_place, a_covered, a_statementStart, a_statementNodes, a_statementCost, a_statementLength, a_programOperator, a_programValue, a_memory, a_arguments, a_stack) (nI j) := by
  unfold wpX_isCost
  exact br_f (nI_pos (by omega)) (br_f (nI_nlt (b := j) (a := 99) hj (by decide)) h)
def bu_clv (x : Int32) (a b : Nat) : Nat := if nI a ≤ x then (if x ≤ nI b then x.toNatClampNeg else b) else a
theorem bu_clv_bd {x : Int32} {a b : Nat} (hab : a ≤ b) (hb : b < 2 ^ 31) : a ≤ bu_clv x a b ∧ bu_clv x a b ≤ b ∧ (nI a ≤ x → x ≤ nI b → x = nI (bu_clv x a b)) := by
  unfold bu_clv
  by_cases z : nI a ≤ x
  · rw [if_pos z]
    by_cases y : x ≤ nI b
    · rw [if_pos y]
      have h0 : ¬ x < 0 := by
        intro q
        rw [Int32.lt_iff_toInt_lt] at q
        rw [Int32.le_iff_toInt_le, nI_toInt (by omega)] at z
        have : (0 : Int32).toInt = 0 := by decide
        omega
      obtain ⟨j, j1, rfl⟩ := nI_of h0
      rw [nI_leI (by omega) j1] at z
      rw [nI_leI j1 hb] at y
      rw [nI_clamp j1]
      exact ⟨z, y, fun _ _ => rfl⟩
    · rw [if_neg y]
      exact ⟨hab, Nat.le_refl _, fun _ q => absurd q y⟩
  · rw [if_neg z]
    exact ⟨Nat.le_refl _, hab, fun q => absurd q z⟩
theorem xc_clamp {post : Int32 → Prop} {x : Int32} {a b : Nat} (hab : a ≤ b) (hb : b < 2 ^ 31) (h : post (nI (bu_clv x a b))) : wpX_clamp post (f_registers, f_nonterminals, f_words, f_treeLimit, f_openSize, f_openHeight, f_ruleCount, f_nodeCount, f_rootCount, f_labelled, f_statementCount, f_programNodes, f_depth, f_lastValue, f_spent, a_openToken, a_openLow, a_openHigh, a_ruleLhs, a_ruleCost, a_ruleSize, a_ruleToken, a_ruleLow, a_ruleHigh, a_nodeOperator, a_nodeValue, a_subtreeFirst, a_bestCost, a_bestLength, a_place, a_covered, a_statementStart, a_statementNodes, a_statementCost, a_statementLength, a_programOperator, a_programValue, a_memory, a_arguments, a_stack) x (nI a) (nI b) := by
  have q := (bu_clv_bd (x := x) hab hb).2.2
  unfold wpX_clamp
  by_cases z : nI a ≤ x
  · refine br_t z ?_
    by_cases y : x ≤ nI b
    · refine br_t y ?_
      rw [← q z y] at h; exact h
    · refine br_f y ?_
      have e : bu_clv x a b = b := by unfold bu_clv; rw [if_pos z, if_neg y]
      rw [e] at h; exact h
  · refine br_f z ?_
    have e : bu_clv x a b = a := by unfold bu_clv; rw [if_neg z]
    rw [e] at h; exact h
end
section
variable {g_registers g_nonterminals g_words g_treeNodes g_rules g_nodes g_statements g_lastValue g_spent : Int32} {b_lhsOf b_costOf b_tokens b_tokenAt b_lowAt b_highAt b_nodeOp b_nodeValue b_statementCost b_statementLength b_statementNodes b_memory b_arguments b_work b_place b_covered b_bestCost b_bestLength : Nat → Int32}
theorem yc_clamp {post : Int32 → Prop} {x : Int32} {a b : Nat} (hab : a ≤ b) (hb : b < 2 ^ 31) (h : post (nI (bu_clv x a b))) : wpY_clamp post (g_registers, g_nonterminals, g_words, g_treeNodes, g_rules, g_nodes, g_statements, g_lastValue, g_spent, b_lhsOf, b_costOf, b_tokens, b_tokenAt, b_lowAt, b_highAt, b_nodeOp, b_nodeValue, b_statementCost, b_statementLength, b_statementNodes, b_memory, b_arguments, b_work, b_place, b_covered, b_bestCost, b_bestLength) x (nI a) (nI b) := by
  have q := (bu_clv_bd (x := x) hab hb).2.2
  unfold wpY_clamp
  by_cases z : nI a ≤ x
  · refine br_t z ?_
    by_cases y : x ≤ nI b
    · refine br_t y ?_
      rw [← q z y] at h; exact h
    · refine br_f y ?_
      have e : bu_clv x a b = b := by unfold bu_clv; rw [if_pos z, if_neg y]
      rw [e] at h; exact h
  · refine br_f z ?_
    have e : bu_clv x a b = a := by unfold bu_clv; rw [if_neg z]
    rw [e] at h; exact h
end
theorem bu_shl : ∀ b, b < 6 → (1 : Int32) <<< (nI b &&& 31) = nI (2 ^ b) := by decide
theorem bu_msk {b : Nat} (h : b ≤ 5) : bu_Msk (nI (2 ^ b)) := by
  intro x
  have e : (nI (2 ^ b) - 1).toBitVec.toNat = 2 ^ b - 1 := by
    have key : ∀ b, b < 6 → (nI (2 ^ b) - 1).toBitVec.toNat = 2 ^ b - 1 := by decide
    exact key b (by omega)
  have q := pk_andIn x b e (by omega)
  rw [vp_in_iff] at q ⊢
  have p : 2 ^ b ≤ 2 ^ 5 := Nat.pow_le_pow_right (by omega) h
  have p : ((2 ^ b : Nat) : Int) ≤ 32 := by
    have := Int.ofNat_le.mpr p
    exact this
  omega
theorem i_vc0 (k0 : Int32) (k1 : Int32) (k2 : Int32) (k3 : Int32) : wpX_init (fun u => wpY_init (fun v => i_Rel 4 u v) k0 k1 k2 k3) k0 k1 k2 k3 := by
  obtain ⟨m1, m2, _⟩ := bu_clv_bd (x := k1) (a := 0) (b := 3) (by omega) (by decide)
  obtain ⟨r1, r2, _⟩ := bu_clv_bd (x := k0) (a := 1) (b := 3) (by omega) (by decide)
  obtain ⟨b1, b2, _⟩ := bu_clv_bd (x := k2) (a := 2) (b := 5) (by omega) (by decide)
  obtain ⟨t1, t2, _⟩ := bu_clv_bd (x := k3) (a := 4) (b := 20) (by omega) (by decide)
  have ew := bu_shl (bu_clv k2 2 5) (by omega)
  unfold wpX_init
  refine xc_clamp (a := 0) (b := 3) (by omega) (by decide) ?_
  refine xc_clamp (a := 2) (b := 5) (by omega) (by decide) ?_
  refine xc_clamp (a := 1) (b := 3) (by omega) (by decide) ?_
  refine nm_r (nI_add _ _) (nm_r ew ?_)
  refine xc_clamp (a := 4) (b := 20) (by omega) (by decide) ?_
  unfold wpY_init
  refine yc_clamp (a := 1) (b := 3) (by omega) (by decide) ?_
  refine yc_clamp (a := 0) (b := 3) (by omega) (by decide) ?_
  refine nm_r (nI_add _ _) ?_
  refine yc_clamp (a := 2) (b := 5) (by omega) (by decide) ?_
  refine nm_r ew ?_
  refine yc_clamp (a := 4) (b := 20) (by omega) (by decide) ?_
  have p : 2 ^ bu_clv k2 2 5 ≤ 2 ^ 5 := Nat.pow_le_pow_right (by omega) b2
  exact zz_in (os := 0) (rc := 0) (nc := 0) (lb := 0) (sc := 0) (pn := 0) ⟨⟨r1, r2, by omega, by omega, p, bu_msk b2, t2⟩, ⟨by omega, fun j hj => by omega, fun j hj => by omega⟩, ⟨by omega, fun j hj => by omega⟩, ⟨by omega, fun j hj => by omega, fun j hj => by omega⟩, ⟨by omega, fun e he => by omega⟩, ⟨by omega, by omega, rfl, fun q hq => by omega⟩, ⟨fun _ _ => rfl, rfl, fun _ _ => rfl, fun _ _ => rfl, fun _ _ => rfl, fun _ _ => ⟨rfl, rfl, rfl⟩, fun _ _ => rfl, fun _ _ => rfl, fun _ _ => ⟨rfl, rfl⟩⟩⟩
theorem i_vc_lastValue {k : Nat} {u : SX} {v : SY} (I : i_Rel k u v) (hk : k + 4 ≤ 2052) : wpX_lastValue (fun r => wpY_lastValue (fun r' => r' = r ∧ i_Rel (k + 4) u v) v) u := by
  refine zz_el (P := fun u v => i_Rel k u v → wpX_lastValue (fun r => wpY_lastValue (fun r' => r' = r ∧ i_Rel (k + 4) u v) v) u) ?_ I I
  intro rg nt w tl os rc nc lb sc pn dp lv sp a_openToken a_openLow a_openHigh a_ruleLhs a_ruleCost a_ruleSize a_ruleToken a_ruleLow a_ruleHigh a_nodeOperator a_nodeValue a_subtreeFirst a_bestCost a_bestLength a_place a_covered a_statementStart a_statementNodes a_statementCost a_statementLength a_programOperator a_programValue a_memory a_arguments a_stack b_tokens b_tokenAt b_lowAt b_highAt b_nodeOp b_nodeValue b_work b_place b_covered b_bestCost b_bestLength F I
  exact ⟨rfl, I⟩
theorem i_vc_spent {k : Nat} {u : SX} {v : SY} (I : i_Rel k u v) (hk : k + 4 ≤ 2052) : wpX_spent (fun r => wpY_spent (fun r' => r' = r ∧ i_Rel (k + 4) u v) v) u := by
  refine zz_el (P := fun u v => i_Rel k u v → wpX_spent (fun r => wpY_spent (fun r' => r' = r ∧ i_Rel (k + 4) u v) v) u) ?_ I I
  intro rg nt w tl os rc nc lb sc pn dp lv sp a_openToken a_openLow a_openHigh a_ruleLhs a_ruleCost a_ruleSize a_ruleToken a_ruleLow a_ruleHigh a_nodeOperator a_nodeValue a_subtreeFirst a_bestCost a_bestLength a_place a_covered a_statementStart a_statementNodes a_statementCost a_statementLength a_programOperator a_programValue a_memory a_arguments a_stack b_tokens b_tokenAt b_lowAt b_highAt b_nodeOp b_nodeValue b_work b_place b_covered b_bestCost b_bestLength F I
  exact ⟨rfl, I⟩
theorem i_vc_peek {k : Nat} {u : SX} {v : SY} (I : i_Rel k u v) (hk : k + 4 ≤ 2052) (v1 : Int32) : wpX_peek (fun r => wpY_peek (fun r' => r' = r ∧ i_Rel (k + 4) u v) v v1) u v1 := by
  refine zz_el (P := fun u v => i_Rel k u v → wpX_peek (fun r => wpY_peek (fun r' => r' = r ∧ i_Rel (k + 4) u v) v v1) u v1) ?_ I I
  intro rg nt w tl os rc nc lb sc pn dp lv sp a_openToken a_openLow a_openHigh a_ruleLhs a_ruleCost a_ruleSize a_ruleToken a_ruleLow a_ruleHigh a_nodeOperator a_nodeValue a_subtreeFirst a_bestCost a_bestLength a_place a_covered a_statementStart a_statementNodes a_statementCost a_statementLength a_programOperator a_programValue a_memory a_arguments a_stack b_tokens b_tokenAt b_lowAt b_highAt b_nodeOp b_nodeValue b_work b_place b_covered b_bestCost b_bestLength F I
  have hm := F.1.2.2.2.2.2.1 v1
  exact And.intro hm (And.intro hm ⟨rfl, I⟩)
theorem i_vc_poke {k : Nat} {u : SX} {v : SY} (I : i_Rel k u v) (hk : k + 4 ≤ 2052) (v1 : Int32) (v2 : Int32) : wpX_poke (fun u' => wpY_poke (fun v' => i_Rel (k + 4) u' v') v v1 v2) u v1 v2 := by
  refine zz_el (P := fun u v => wpX_poke (fun u' => wpY_poke (fun v' => i_Rel (k + 4) u' v') v v1 v2) u v1 v2) ?_ I
  intro rg nt w tl os rc nc lb sc pn dp lv sp a_openToken a_openLow a_openHigh a_ruleLhs a_ruleCost a_ruleSize a_ruleToken a_ruleLow a_ruleHigh a_nodeOperator a_nodeValue a_subtreeFirst a_bestCost a_bestLength a_place a_covered a_statementStart a_statementNodes a_statementCost a_statementLength a_programOperator a_programValue a_memory a_arguments a_stack b_tokens b_tokenAt b_lowAt b_highAt b_nodeOp b_nodeValue b_work b_place b_covered b_bestCost b_bestLength F
  have hm := F.1.2.2.2.2.2.1 v1
  exact And.intro hm (nm_e (And.intro hm (nm_e (zz_in F))))
theorem i_vc_setArgument {k : Nat} {u : SX} {v : SY} (I : i_Rel k u v) (hk : k + 4 ≤ 2052) (v1 : Int32) (v2 : Int32) : wpX_setArgument (fun r u' => wpY_setArgument (fun r' v' => r' = r ∧ i_Rel (k + 4) u' v') v v1 v2) u v1 v2 := by
  refine zz_el (P := fun u v => wpX_setArgument (fun r u' => wpY_setArgument (fun r' v' => r' = r ∧ i_Rel (k + 4) u' v') v v1 v2) u v1 v2) ?_ I
  intro rg nt w tl os rc nc lb sc pn dp lv sp a_openToken a_openLow a_openHigh a_ruleLhs a_ruleCost a_ruleSize a_ruleToken a_ruleLow a_ruleHigh a_nodeOperator a_nodeValue a_subtreeFirst a_bestCost a_bestLength a_place a_covered a_statementStart a_statementNodes a_statementCost a_statementLength a_programOperator a_programValue a_memory a_arguments a_stack b_tokens b_tokenAt b_lowAt b_highAt b_nodeOp b_nodeValue b_work b_place b_covered b_bestCost b_bestLength F
  unfold wpX_setArgument
  dsimp only
  have hY : ∀ {A B : Prop}, (v1 < 0 ∨ nI 4 ≤ v1) → B → (v1 < 0 → B) ∧ (¬ v1 < 0 → ((v1 ≤ 3 → A) ∧ (¬ v1 ≤ 3 → B))) := by
    intro A B hx h
    refine bu_outL ?_ h
    rcases hx with q | q
    · exact Or.inl q
    · refine Or.inr ?_
      rw [Int32.le_iff_toInt_le] at q
      rw [Int32.lt_iff_toInt_lt]
      have e1 : (nI 4).toInt = 4 := by decide
      have e2 : (3 : Int32).toInt = 3 := by decide
      omega
  rcases bu_em v1 (n := 4) (by decide) with h | ⟨j, j4, rfl⟩
  · refine bu_out (n := 4) h ?_
    unfold wpY_setArgument
    exact hY h ⟨rfl, zz_in F⟩
  · have hv : vp_in (nI j) 4 := vp_in_nI j4 (by decide)
    refine bu_inn (n := 4) j4 (by decide) ⟨hv, nm_e ?_⟩
    unfold wpY_setArgument
    exact br_f (nI_pos (by omega)) (br_t (nI_le (b := 3) (by omega) (by decide)) ⟨hv, nm_e ⟨rfl, zz_in F⟩⟩)
theorem i_vc_argument {k : Nat} {u : SX} {v : SY} (I : i_Rel k u v) (hk : k + 4 ≤ 2052) (v1 : Int32) : wpX_argument (fun r => wpY_argument (fun r' => r' = r ∧ i_Rel (k + 4) u v) v v1) u v1 := by
  refine zz_el (P := fun u v => i_Rel k u v → wpX_argument (fun r => wpY_argument (fun r' => r' = r ∧ i_Rel (k + 4) u v) v v1) u v1) ?_ I I
  intro rg nt w tl os rc nc lb sc pn dp lv sp a_openToken a_openLow a_openHigh a_ruleLhs a_ruleCost a_ruleSize a_ruleToken a_ruleLow a_ruleHigh a_nodeOperator a_nodeValue a_subtreeFirst a_bestCost a_bestLength a_place a_covered a_statementStart a_statementNodes a_statementCost a_statementLength a_programOperator a_programValue a_memory a_arguments a_stack b_tokens b_tokenAt b_lowAt b_highAt b_nodeOp b_nodeValue b_work b_place b_covered b_bestCost b_bestLength F I
  unfold wpX_argument
  dsimp only
  have hY : ∀ {A B : Prop}, (v1 < 0 ∨ nI 4 ≤ v1) → B → (v1 < 0 → B) ∧ (¬ v1 < 0 → ((v1 ≤ 3 → A) ∧ (¬ v1 ≤ 3 → B))) := by
    intro A B hx h
    refine bu_outL ?_ h
    rcases hx with q | q
    · exact Or.inl q
    · refine Or.inr ?_
      rw [Int32.le_iff_toInt_le] at q
      rw [Int32.lt_iff_toInt_lt]
      have e1 : (nI 4).toInt = 4 := by decide
      have e2 : (3 : Int32).toInt = 3 := by decide
      omega
  rcases bu_em v1 (n := 4) (by decide) with h | ⟨j, j4, rfl⟩
  · refine bu_out (n := 4) h ?_
    unfold wpY_argument
    exact hY h ⟨rfl, I⟩
  · have hv : vp_in (nI j) 4 := vp_in_nI j4 (by decide)
    refine bu_inn (n := 4) j4 (by decide) ⟨hv, ?_⟩
    unfold wpY_argument
    exact br_f (nI_pos (by omega)) (br_t (nI_le (b := 3) (by omega) (by decide)) ⟨hv, rfl, I⟩)
theorem bu_Cor_0 {V : Nat → Nat} {c l : Nat → Int32} : bu_Cor (6 * 0) V c l := fun e he => by omega
theorem bu_Rs_cost {tk lhs cost size : Nat → Int32} {nt rc r c : Nat} (h : bu_Rs tk lhs cost size nt rc) (hc : c ≤ 99) : bu_Rs tk lhs (upd cost r (nI c)) size nt rc := by
  intro q hq
  obtain ⟨s, t, d, h1, h2, h3, h4, h5, h6⟩ := h q hq
  by_cases e : q = r
  · subst e
    exact ⟨s, t, c, h1, h2, pk_us, h4, hc, h6⟩
  · exact ⟨s, t, d, h1, h2, by rw [pk_un e]; exact h3, h4, h5, h6⟩
theorem i_vc_setCost {k : Nat} {u : SX} {v : SY} (I : i_Rel k u v) (hk : k + 4 ≤ 2052) (v1 : Int32) (v2 : Int32) : wpX_setCost (fun r u' => wpY_setCost (fun r' v' => r' = r ∧ i_Rel (k + 4) u' v') v v1 v2) u v1 v2 := by
  refine zz_el (P := fun u v => wpX_setCost (fun r u' => wpY_setCost (fun r' v' => r' = r ∧ i_Rel (k + 4) u' v') v v1 v2) u v1 v2) ?_ I
  intro rg nt w tl os rc nc lb sc pn dp lv sp a_openToken a_openLow a_openHigh a_ruleLhs a_ruleCost a_ruleSize a_ruleToken a_ruleLow a_ruleHigh a_nodeOperator a_nodeValue a_subtreeFirst a_bestCost a_bestLength a_place a_covered a_statementStart a_statementNodes a_statementCost a_statementLength a_programOperator a_programValue a_memory a_arguments a_stack b_tokens b_tokenAt b_lowAt b_highAt b_nodeOp b_nodeValue b_work b_place b_covered b_bestCost b_bestLength F
  obtain ⟨F1, F2, ⟨F3, F3'⟩, F4, F5, F6⟩ := F
  unfold wpX_setCost
  rcases bu_em v1 (n := rc) (by omega) with h | ⟨r, hr, rfl⟩
  · refine xi_rule0 h (br_t rfl ?_)
    unfold wpY_setCost
    exact bu_out h ⟨rfl, zz_in ⟨F1, F2, ⟨F3, F3'⟩, F4, F5, F6⟩⟩
  · refine xr_rule hr F3 (br_f (by decide) ?_)
    rcases bu_em99 v2 with h | ⟨c, hc, rfl⟩
    · refine xi_cost0 h (br_t rfl ?_)
      unfold wpY_setCost
      exact bu_inn hr (by omega) (bu_outL h ⟨rfl, zz_in ⟨F1, F2, ⟨F3, F3'⟩, F4, F5, F6⟩⟩)
    · refine xi_cost1 hc (br_f (by decide) ?_)
      have hv : vp_in (nI r) 24 := vp_in_nI (by omega) (by decide)
      rw [nI_clamp (n := r) (by omega)]
      refine ⟨hv, nm_e ?_⟩
      unfold wpY_setCost
      dsimp only
      rw [nI_clamp (n := r) (by omega)]
      refine bu_inn hr (by omega) (br_f (nI_pos (by omega)) (br_t (nI_le (b := 99) hc (by decide)) ⟨hv, nm_e ⟨rfl, ?_⟩⟩))
      exact zz_in (lb := 0) ⟨F1, F2, ⟨F3, bu_Rs_cost F3' hc⟩, F4, ⟨by omega, bu_Cor_0⟩, F6⟩
end
section
/-! getters, clear, match -/
theorem bu_em3 (x : Int32) : (x < 0 ∨ 2 < x) ∨ x = 0 ∨ x = 1 ∨ x = 2 := by
  rcases bu_em x (n := 3) (by decide) with (h | h) | ⟨j, h1, h2⟩
  · exact Or.inl (Or.inl h)
  · refine Or.inl (Or.inr ?_)
    rw [Int32.le_iff_toInt_le] at h
    rw [Int32.lt_iff_toInt_lt]
    have e1 : (nI 3).toInt = 3 := by decide
    have e2 : (2 : Int32).toInt = 2 := by decide
    omega
  · have : j = 0 ∨ j = 1 ∨ j = 2 := by omega
    rcases this with e | e | e
    · subst e; exact Or.inr (Or.inl h2)
    · subst e; exact Or.inr (Or.inr (Or.inl h2))
    · subst e; exact Or.inr (Or.inr (Or.inr h2))
theorem bu_em2 (x : Int32) : (x < 0 ∨ 1 < x) ∨ x = 0 ∨ x = 1 := by
  rcases bu_em3 x with (h | h) | h | h | h
  · exact Or.inl (Or.inl h)
  · refine Or.inl (Or.inr ?_)
    rw [Int32.lt_iff_toInt_lt] at h ⊢
    have e1 : (1 : Int32).toInt = 1 := by decide
    have e2 : (2 : Int32).toInt = 2 := by decide
    omega
  · exact Or.inr (Or.inl h)
  · exact Or.inr (Or.inr h)
  · exact Or.inl (Or.inr (by rw [h]; decide))
/-- out of range, for a guard 'below 0, or above y' -/
theorem bu_outG {x y : Int32} {A B : Prop} (hx : x < 0 ∨ y < x) (h : B) : (x < 0 → B) ∧ (¬ x < 0 → ((y < x → B) ∧ (¬ y < x → A))) := by
  by_cases z : x < 0
  · exact br_t z h
  · exact br_f z (br_t (hx.resolve_left z) h)
theorem i_vc_nodeWord {k : Nat} {u : SX} {v : SY} (I : i_Rel k u v) (hk : k + 4 ≤ 2052) (v1 : Int32) (v2 : Int32) : wpX_nodeWord (fun r => wpY_nodeWord (fun r' => r' = r ∧ i_Rel (k + 4) u v) v v1 v2) u v1 v2 := by
  refine zz_el (P := fun u v => i_Rel k u v → wpX_nodeWord (fun r => wpY_nodeWord (fun r' => r' = r ∧ i_Rel (k + 4) u v) v v1 v2) u v1 v2) ?_ I I
  intro rg nt w tl os rc nc lb sc pn dp lv sp a_openToken a_openLow a_openHigh a_ruleLhs a_ruleCost a_ruleSize a_ruleToken a_ruleLow a_ruleHigh a_nodeOperator a_nodeValue a_subtreeFirst a_bestCost a_bestLength a_place a_covered a_statementStart a_statementNodes a_statementCost a_statementLength a_programOperator a_programValue a_memory a_arguments a_stack b_tokens b_tokenAt b_lowAt b_highAt b_nodeOp b_nodeValue b_work b_place b_covered b_bestCost b_bestLength F I
  obtain ⟨F1, F2, F3, F4, F5, F6, F7⟩ := F
  have n20 : nc ≤ 20 := Nat.le_trans F4.1 F1.2.2.2.2.2.2
  obtain ⟨_, _, _, _, _, _, eO, eV, _⟩ := F7
  unfold wpX_nodeWord
  rcases bu_em v1 (n := nc) (by omega) with h | ⟨n, hn, rfl⟩
  · refine xi_node0 h (br_t rfl ?_)
    unfold wpY_nodeWord
    exact bu_out h ⟨rfl, I⟩
  · refine xi_node1 hn (by omega) (br_f (by decide) ?_)
    have hx : vp_in (nI n) 20 := vp_in_nI (by omega) (by decide)
    have hy : vp_in (nI n) 60 := vp_in_nI (by omega) (by decide)
    rw [nI_clamp (n := n) (by omega)]
    rcases bu_em2 v2 with h | rfl | rfl
    · refine bu_outL h ?_
      unfold wpY_nodeWord
      exact bu_inn hn (by omega) (bu_outL h ⟨rfl, I⟩)
    · refine br_f (by decide) (br_t (by decide) (br_t rfl ⟨hx, ?_⟩))
      unfold wpY_nodeWord
      dsimp only
      rw [nI_clamp (n := n) (by omega)]
      exact bu_inn hn (by omega) (br_f (by decide) (br_t (by decide) (br_t rfl ⟨hy, eO n (by omega), I⟩)))
    · refine br_f (by decide) (br_t (by decide) (br_f (by decide) ⟨hx, ?_⟩))
      unfold wpY_nodeWord
      dsimp only
      rw [nI_clamp (n := n) (by omega)]
      exact bu_inn hn (by omega) (br_f (by decide) (br_t (by decide) (br_f (by decide) ⟨hy, eV n (by omega), I⟩)))
theorem i_vc_statementWord {k : Nat} {u : SX} {v : SY} (I : i_Rel k u v) (hk : k + 4 ≤ 2052) (v1 : Int32) (v2 : Int32) : wpX_statementWord (fun r => wpY_statementWord (fun r' => r' = r ∧ i_Rel (k + 4) u v) v v1 v2) u v1 v2 := by
  refine zz_el (P := fun u v => i_Rel k u v → wpX_statementWord (fun r => wpY_statementWord (fun r' => r' = r ∧ i_Rel (k + 4) u v) v v1 v2) u v1 v2) ?_ I I
  intro rg nt w tl os rc nc lb sc pn dp lv sp a_openToken a_openLow a_openHigh a_ruleLhs a_ruleCost a_ruleSize a_ruleToken a_ruleLow a_ruleHigh a_nodeOperator a_nodeValue a_subtreeFirst a_bestCost a_bestLength a_place a_covered a_statementStart a_statementNodes a_statementCost a_statementLength a_programOperator a_programValue a_memory a_arguments a_stack b_tokens b_tokenAt b_lowAt b_highAt b_nodeOp b_nodeValue b_work b_place b_covered b_bestCost b_bestLength F I
  obtain ⟨F1, F2, F3, F4, F5, F6, F7⟩ := F
  have s8 := F6.1
  unfold wpX_statementWord
  rcases bu_em v1 (n := sc) (by omega) with h | ⟨n, hn, rfl⟩
  · refine xi_stm0 h (br_t rfl ?_)
    unfold wpY_statementWord
    exact bu_out h ⟨rfl, I⟩
  · refine xi_stm1 hn (by omega) (br_f (by decide) ?_)
    have hx : vp_in (nI n) 8 := vp_in_nI (by omega) (by decide)
    rcases bu_em3 v2 with h | rfl | rfl | rfl
    · refine bu_outG h ?_
      unfold wpY_statementWord
      exact bu_inn hn (by omega) (bu_outL h ⟨rfl, I⟩)
    · refine br_f (by decide) (br_f (by decide) (br_t rfl ⟨hx, ?_⟩))
      unfold wpY_statementWord
      exact bu_inn hn (by omega) (br_f (by decide) (br_t (by decide) (br_t rfl ⟨hx, rfl, I⟩)))
    · refine br_f (by decide) (br_f (by decide) (br_f (by decide) (br_t rfl ⟨hx, ?_⟩)))
      unfold wpY_statementWord
      exact bu_inn hn (by omega) (br_f (by decide) (br_t (by decide) (br_f (by decide) (br_t rfl ⟨hx, rfl, I⟩))))
    · refine br_f (by decide) (br_f (by decide) (br_f (by decide) (br_f (by decide) (br_t rfl ⟨hx, ?_⟩))))
      unfold wpY_statementWord
      exact bu_inn hn (by omega) (br_f (by decide) (br_t (by decide) (br_f (by decide) (br_f (by decide) ⟨hx, rfl, I⟩))))
section
variable {g_registers g_nonterminals g_words g_treeNodes g_rules g_nodes g_statements g_lastValue g_spent : Int32} {b_lhsOf b_costOf b_tokens b_tokenAt b_lowAt b_highAt b_nodeOp b_nodeValue b_statementCost b_statementLength b_statementNodes b_memory b_arguments b_work b_place b_covered b_bestCost b_bestLength : Nat → Int32}
/-- the reference's reading of a word of a row -/
theorem yw_76 {post : Int32 → Prop} {x2 x3 : Int32} {r s : Nat} (hr : r < 25) (hs : b_tokens r = nI s) (h7 : s ≤ 7) (hf : x3 = 0 ∨ x3 = 1 ∨ x3 = 2)
    (ho : (x2 < 0 ∨ nI s ≤ x2) → post (-1)) (hi : ∀ j, j < s → x2 = nI j → post (if x3 = 0 then b_tokenAt (7 * r + j) else if x3 = 1 then b_lowAt (7 * r + j) else b_highAt (7 * r + j))) :
    wY_ruleWord_76 post x2 x3 (nI r) g_registers g_nonterminals g_words g_treeNodes g_rules g_nodes g_statements g_lastValue g_spent b_lhsOf b_costOf b_tokens b_tokenAt b_lowAt b_highAt b_nodeOp b_nodeValue b_statementCost b_statementLength b_statementNodes b_memory b_arguments b_work b_place b_covered b_bestCost b_bestLength := by
  unfold wY_ruleWord_76
  rw [nI_clamp (n := r) (by omega), hs, bu_x7]
  rcases bu_em x2 (n := s) (by omega) with h | ⟨j, hj, rfl⟩
  · by_cases z : x2 < 0
    · exact br_t z (ho h)
    · exact br_f z ⟨vp_in_nI hr (by decide), br_f (Int32.not_lt.mpr (h.resolve_left z)) (ho h)⟩
  · have q := hi j hj rfl
    have hv : vp_in (nI (7 * r + j)) 175 := vp_in_nI (by omega) (by decide)
    refine br_f (nI_pos (by omega)) ⟨vp_in_nI hr (by decide), br_t (nI_lt hj (by omega)) (nm_r (nI_add _ _) ?_)⟩
    rw [nI_clamp (n := 7 * r + j) (by omega)]
    rcases hf with rfl | rfl | rfl
    · exact br_t rfl ⟨hv, q⟩
    · exact br_f (by decide) (br_t rfl ⟨hv, q⟩)
    · exact br_f (by decide) (br_f (by decide) ⟨hv, q⟩)
end
theorem bu_em_m1 (x : Int32) (n : Nat) (hn : n < 2 ^ 31) : x = -1 ∨ (x < -1) ∨ (¬ x = -1 ∧ ¬ x < -1 ∧ nI n ≤ x) ∨ ∃ j : Nat, j < n ∧ x = nI j := by
  rcases bu_em x hn with (h | h) | h
  · by_cases e : x = -1
    · exact Or.inl e
    · refine Or.inr (Or.inl ?_)
      have e' : x.toInt ≠ -1 := fun q => e (Int32.toInt_inj.mp (q.trans (by decide)))
      rw [Int32.lt_iff_toInt_lt] at h ⊢
      have e1 : (0 : Int32).toInt = 0 := by decide
      have e2 : (-1 : Int32).toInt = -1 := by decide
      omega
  · refine Or.inr (Or.inr (Or.inl ⟨?_, ?_, h⟩))
    · intro e
      rw [e, Int32.le_iff_toInt_le, nI_toInt hn] at h
      have e2 : (-1 : Int32).toInt = -1 := by decide
      omega
    · intro e
      rw [Int32.le_iff_toInt_le, nI_toInt hn] at h
      rw [Int32.lt_iff_toInt_lt] at e
      have e2 : (-1 : Int32).toInt = -1 := by decide
      omega
  · exact Or.inr (Or.inr (Or.inr h))
theorem bu_nI_m1 {j : Nat} (h : j < 2 ^ 31) : ¬ nI j = -1 ∧ ¬ nI j < -1 := by
  have e2 : (-1 : Int32).toInt = -1 := by decide
  have e := nI_toInt h
  constructor
  · intro q; rw [q, e2] at e; omega
  · intro q; rw [Int32.lt_iff_toInt_lt, e, e2] at q; omega
theorem i_vc_ruleWord {k : Nat} {u : SX} {v : SY} (I : i_Rel k u v) (hk : k + 4 ≤ 2052) (v1 : Int32) (v2 : Int32) (v3 : Int32) : wpX_ruleWord (fun r => wpY_ruleWord (fun r' => r' = r ∧ i_Rel (k + 4) u v) v v1 v2 v3) u v1 v2 v3 := by
  refine zz_el (P := fun u v => i_Rel k u v → wpX_ruleWord (fun r => wpY_ruleWord (fun r' => r' = r ∧ i_Rel (k + 4) u v) v v1 v2 v3) u v1 v2 v3) ?_ I I
  intro rg nt w tl os rc nc lb sc pn dp lv sp a_openToken a_openLow a_openHigh a_ruleLhs a_ruleCost a_ruleSize a_ruleToken a_ruleLow a_ruleHigh a_nodeOperator a_nodeValue a_subtreeFirst a_bestCost a_bestLength a_place a_covered a_statementStart a_statementNodes a_statementCost a_statementLength a_programOperator a_programValue a_memory a_arguments a_stack b_tokens b_tokenAt b_lowAt b_highAt b_nodeOp b_nodeValue b_work b_place b_covered b_bestCost b_bestLength F I
  obtain ⟨F1, F2, ⟨F3, F3'⟩, F4, F5, F6, F7⟩ := F
  obtain ⟨eS, e24, eT, eL, eH, eo, _, _, _⟩ := F7
  have os7 := F2.1
  have t6 := F1.2.2.2.1
  unfold wpX_ruleWord
  rcases bu_em_m1 v1 rc (by omega) with rfl | h | ⟨h1, h2, h3⟩ | ⟨r, hr, rfl⟩
  · -- the pattern that is being written
    refine br_t rfl ?_
    unfold wX_ruleWord_15
    have lt : (-1 : Int32) < nI rc := by
      rw [Int32.lt_iff_toInt_lt, nI_toInt (by omega)]
      have e2 : (-1 : Int32).toInt = -1 := by decide
      omega
    rcases bu_em3 v3 with h | hf
    · refine bu_outL h ?_
      unfold wpY_ruleWord
      exact br_f (by decide) (br_t lt (bu_outL h ⟨rfl, I⟩))
    · have a1 : ¬ v3 < 0 := by rcases hf with rfl | rfl | rfl <;> decide
      have a2 : v3 ≤ 2 := by rcases hf with rfl | rfl | rfl <;> decide
      refine br_f a1 (br_t a2 (br_t rfl ?_))
      have Y : ∀ r0 : Int32, ((v2 < 0 ∨ nI os ≤ v2) → r0 = -1) → (∀ j, j < os → v2 = nI j → r0 = if v3 = 0 then a_openToken j else if v3 = 1 then a_openLow j else a_openHigh j) → wpY_ruleWord (fun r' => r' = r0 ∧ i_Rel (k + 4) ((nI rg), (nI nt), (nI w), (nI tl), (nI os), (nI (bu_h (fun i => bu_ar (a_openToken i)) os)), (nI rc), (nI nc), (nI (bu_h (fun i => bu_ar (a_nodeOperator i)) nc)), (nI lb), (nI sc), (nI pn), dp, lv, sp, a_openToken, a_openLow, a_openHigh, a_ruleLhs, a_ruleCost, a_ruleSize, a_ruleToken, a_ruleLow, a_ruleHigh, a_nodeOperator, a_nodeValue, a_subtreeFirst, a_bestCost, a_bestLength, a_place, a_covered, a_statementStart, a_statementNodes, a_statementCost, a_statementLength, a_programOperator, a_programValue, a_memory, a_arguments, a_stack) ((nI rg), (nI nt), (nI w), (nI tl), (nI rc), (nI nc), (nI sc), lv, sp, a_ruleLhs, a_ruleCost, b_tokens, b_tokenAt, b_lowAt, b_highAt, b_nodeOp, b_nodeValue, a_statementCost, a_statementLength, a_statementNodes, a_memory, a_arguments, b_work, b_place, b_covered, b_bestCost, b_bestLength)) ((nI rg), (nI nt), (nI w), (nI tl), (nI rc), (nI nc), (nI sc), lv, sp, a_ruleLhs, a_ruleCost, b_tokens, b_tokenAt, b_lowAt, b_highAt, b_nodeOp, b_nodeValue, a_statementCost, a_statementLength, a_statementNodes, a_memory, a_arguments, b_work, b_place, b_covered, b_bestCost, b_bestLength) (-1) v2 v3 := by
        intro r0 y1 y2
        unfold wpY_ruleWord
        refine br_f (by decide) (br_t lt (br_f a1 (br_t a2 (br_t (by decide) ?_))))
        unfold wY_ruleWord_65
        refine br_t rfl ?_
        refine yw_76 (r := 24) (by omega) e24 os7 hf (fun q => ⟨(y1 q).symm, I⟩) (fun j hj e => ⟨?_, I⟩)
        rw [y2 j hj e, (eo j (by omega)).1, (eo j (by omega)).2.1, (eo j (by omega)).2.2]
      unfold wpX_openWord
      rcases bu_em v2 (n := os) (by omega) with h | ⟨j, hj, rfl⟩
      · exact bu_out h (Y (-1) (fun _ => rfl) (fun j hj e => by
          subst e
          rcases h with q | q
          · exact absurd q (nI_pos (by omega))
          · exact absurd q (nI_ge hj (by omega))))
      · have hx : vp_in (nI j) 7 := vp_in_nI (by omega) (by decide)
        have no : ∀ r0 : Int32, (nI j < 0 ∨ nI os ≤ nI j) → r0 = -1 := by
          intro r0 q
          rcases q with q | q
          · exact absurd q (nI_pos (by omega))
          · exact absurd q (nI_ge hj (by omega))
        have ij : ∀ j', nI j = nI j' → j' < os → j' = j := fun j' e hj' => ((nI_eq (by omega) (by omega)).mp e).symm
        refine bu_inn hj (by omega) ?_
        rw [nI_clamp (n := j) (by omega)]
        rcases hf with rfl | rfl | rfl
        · exact br_t rfl ⟨hx, Y _ (no _) (fun j' hj' e => by rw [ij j' e hj']; rfl)⟩
        · exact br_f (by decide) (br_t rfl ⟨hx, Y _ (no _) (fun j' hj' e => by rw [ij j' e hj']; rfl)⟩)
        · exact br_f (by decide) (br_f (by decide) ⟨hx, Y _ (no _) (fun j' hj' e => by rw [ij j' e hj']; rfl)⟩)
  · have n1 : ¬ v1 = -1 := fun e => by rw [e] at h; exact absurd h (by decide)
    have n0 : v1 < 0 := Int32.lt_trans h (by decide)
    refine br_f n1 (xi_rule0 (Or.inl n0) (br_t rfl ?_))
    unfold wpY_ruleWord
    exact br_t h ⟨rfl, I⟩
  · refine br_f h1 (xi_rule0 (Or.inr h3) (br_t rfl ?_))
    unfold wpY_ruleWord
    exact br_f h2 (br_f (Int32.not_lt.mpr h3) ⟨rfl, I⟩)
  · obtain ⟨m1, m2⟩ := bu_nI_m1 (j := r) (by omega)
    obtain ⟨r1, r2, r3, r4, r5, r6, r7⟩ := bu_Rs_1 F3' hr t6
    have s7 := r6.2.1
    have p0 : ¬ nI r < 0 := nI_pos (by omega)
    refine br_f m1 (xr_rule hr F3 (br_f (by decide) ?_))
    unfold wX_ruleWord_15
    rcases bu_em3 v3 with h | hf
    · refine bu_outL h ?_
      unfold wpY_ruleWord
      exact br_f m2 (br_t (nI_lt hr (by omega)) (bu_outL h ⟨rfl, I⟩))
    · have a1 : ¬ v3 < 0 := by rcases hf with rfl | rfl | rfl <;> decide
      have a2 : v3 ≤ 2 := by rcases hf with rfl | rfl | rfl <;> decide
      have hv : vp_in (nI r) 24 := vp_in_nI (by omega) (by decide)
      have hv5 : vp_in (nI r) 25 := vp_in_nI (by omega) (by decide)
      refine br_f a1 (br_t a2 (br_f m1 ?_))
      by_cases vm : v2 = -1
      · refine br_t vm ?_
        unfold wpX_headWord
        dsimp only
        rw [nI_clamp (n := r) (by omega)]
        rcases hf with rfl | rfl | rfl
        · refine br_t rfl ⟨hv, ?_⟩
          unfold wpY_ruleWord
          dsimp only
          rw [nI_clamp (n := r) (by omega)]
          exact br_f m2 (br_t (nI_lt hr (by omega)) (br_f a1 (br_t a2 (br_f p0 (br_t vm (br_t rfl ⟨hv, rfl, I⟩))))))
        · refine br_f (by decide) (br_t rfl ⟨hv, ?_⟩)
          unfold wpY_ruleWord
          dsimp only
          rw [nI_clamp (n := r) (by omega)]
          exact br_f m2 (br_t (nI_lt hr (by omega)) (br_f a1 (br_t a2 (br_f p0 (br_t vm (br_f (by decide) (br_t rfl ⟨hv, rfl, I⟩)))))))
        · refine br_f (by decide) (br_f (by decide) ⟨hv, ?_⟩)
          unfold wpY_ruleWord
          dsimp only
          rw [nI_clamp (n := r) (by omega)]
          exact br_f m2 (br_t (nI_lt hr (by omega)) (br_f a1 (br_t a2 (br_f p0 (br_t vm (br_f (by decide) (br_f (by decide) ⟨hv5, eS r (by omega), I⟩)))))))
      · refine br_f vm ?_
        have Y : ∀ r0 : Int32, ((v2 < 0 ∨ nI (bu_cl a_ruleSize r) ≤ v2) → r0 = -1) → (∀ j, j < bu_cl a_ruleSize r → v2 = nI j → r0 = if v3 = 0 then a_ruleToken (7 * r + j) else if v3 = 1 then a_ruleLow (7 * r + j) else a_ruleHigh (7 * r + j)) → wpY_ruleWord (fun r' => r' = r0 ∧ i_Rel (k + 4) ((nI rg), (nI nt), (nI w), (nI tl), (nI os), (nI (bu_h (fun i => bu_ar (a_openToken i)) os)), (nI rc), (nI nc), (nI (bu_h (fun i => bu_ar (a_nodeOperator i)) nc)), (nI lb), (nI sc), (nI pn), dp, lv, sp, a_openToken, a_openLow, a_openHigh, a_ruleLhs, a_ruleCost, a_ruleSize, a_ruleToken, a_ruleLow, a_ruleHigh, a_nodeOperator, a_nodeValue, a_subtreeFirst, a_bestCost, a_bestLength, a_place, a_covered, a_statementStart, a_statementNodes, a_statementCost, a_statementLength, a_programOperator, a_programValue, a_memory, a_arguments, a_stack) ((nI rg), (nI nt), (nI w), (nI tl), (nI rc), (nI nc), (nI sc), lv, sp, a_ruleLhs, a_ruleCost, b_tokens, b_tokenAt, b_lowAt, b_highAt, b_nodeOp, b_nodeValue, a_statementCost, a_statementLength, a_statementNodes, a_memory, a_arguments, b_work, b_place, b_covered, b_bestCost, b_bestLength)) ((nI rg), (nI nt), (nI w), (nI tl), (nI rc), (nI nc), (nI sc), lv, sp, a_ruleLhs, a_ruleCost, b_tokens, b_tokenAt, b_lowAt, b_highAt, b_nodeOp, b_nodeValue, a_statementCost, a_statementLength, a_statementNodes, a_memory, a_arguments, b_work, b_place, b_covered, b_bestCost, b_bestLength) (nI r) v2 v3 := by
          intro r0 y1 y2
          unfold wpY_ruleWord
          refine br_f m2 (br_t (nI_lt hr (by omega)) (br_f a1 (br_t a2 (br_f p0 (br_f vm ?_)))))
          unfold wY_ruleWord_65
          refine br_f m1 ?_
          refine yw_76 (r := r) (by omega) (by rw [eS r (by omega)]; exact r1) s7 hf (fun q => ⟨(y1 q).symm, I⟩) (fun j hj e => ⟨?_, I⟩)
          rw [y2 j hj e, eT (7 * r + j) (by omega), eL (7 * r + j) (by omega), eH (7 * r + j) (by omega)]
        rw [nI_clamp (n := r) (by omega), r1, bu_x7]
        rcases bu_em v2 (n := bu_cl a_ruleSize r) (by omega) with h | ⟨j, hj, rfl⟩
        · have fin := Y (-1) (fun _ => rfl) (fun j hj e => by
            subst e
            rcases h with q | q
            · exact absurd q (nI_pos (by omega))
            · exact absurd q (nI_ge hj (by omega)))
          by_cases z : v2 < 0
          · exact br_t z fin
          · exact br_f z ⟨hv, br_f (Int32.not_lt.mpr (h.resolve_left z)) fin⟩
        · have hx : vp_in (nI (7 * r + j)) 168 := vp_in_nI (by omega) (by decide)
          have no : ∀ r0 : Int32, (nI j < 0 ∨ nI (bu_cl a_ruleSize r) ≤ nI j) → r0 = -1 := by
            intro r0 q
            rcases q with q | q
            · exact absurd q (nI_pos (by omega))
            · exact absurd q (nI_ge hj (by omega))
          have ij : ∀ j', nI j = nI j' → j' < bu_cl a_ruleSize r → j' = j := fun j' e hj' => ((nI_eq (by omega) (by omega)).mp e).symm
          refine br_f (nI_pos (by omega)) ⟨hv, br_t (nI_lt hj (by omega)) (nm_r (nI_add _ _) ?_)⟩
          rw [nI_clamp (n := 7 * r + j) (by omega)]
          rcases hf with rfl | rfl | rfl
          · exact br_t rfl ⟨hx, Y _ (no _) (fun j' hj' e => by rw [ij j' e hj']; rfl)⟩
          · exact br_f (by decide) (br_t rfl ⟨hx, Y _ (no _) (fun j' hj' e => by rw [ij j' e hj']; rfl)⟩)
          · exact br_f (by decide) (br_f (by decide) ⟨hx, Y _ (no _) (fun j' hj' e => by rw [ij j' e hj']; rfl)⟩)
end
section
/-! count, clear, match, costAt, lengthAt, evaluate -/
theorem bu_em9 (x : Int32) : (x < 0 ∨ 8 < x) ∨ bu_op x := by
  rcases bu_em x (n := 9) (by decide) with (h | h) | ⟨j, h1, h2⟩
  · exact Or.inl (Or.inl h)
  · refine Or.inl (Or.inr ?_)
    rw [Int32.le_iff_toInt_le] at h
    rw [Int32.lt_iff_toInt_lt]
    have e1 : (nI 9).toInt = 9 := by decide
    have e2 : (8 : Int32).toInt = 8 := by decide
    omega
  · refine Or.inr ?_
    have : j = 0 ∨ j = 1 ∨ j = 2 ∨ j = 3 ∨ j = 4 ∨ j = 5 ∨ j = 6 ∨ j = 7 ∨ j = 8 := by omega
    unfold bu_op
    rcases this with e | e | e | e | e | e | e | e | e <;> subst e <;> subst h2 <;> decide
theorem bu_ne9 {x : Int32} (h : x < 0 ∨ 8 < x) {c : Int32} (hc : bu_op c) : ¬ x = c := by
  intro e
  subst e
  rcases hc with e | e | e | e | e | e | e | e | e <;> subst e <;> revert h <;> decide
theorem i_vc_count {k : Nat} {u : SX} {v : SY} (I : i_Rel k u v) (hk : k + 4 ≤ 2052) (v1 : Int32) : wpX_count (fun r => wpY_count (fun r' => r' = r ∧ i_Rel (k + 4) u v) v v1) u v1 := by
  refine zz_el (P := fun u v => i_Rel k u v → wpX_count (fun r => wpY_count (fun r' => r' = r ∧ i_Rel (k + 4) u v) v v1) u v1) ?_ I I
  intro rg nt w tl os rc nc lb sc pn dp lv sp a_openToken a_openLow a_openHigh a_ruleLhs a_ruleCost a_ruleSize a_ruleToken a_ruleLow a_ruleHigh a_nodeOperator a_nodeValue a_subtreeFirst a_bestCost a_bestLength a_place a_covered a_statementStart a_statementNodes a_statementCost a_statementLength a_programOperator a_programValue a_memory a_arguments a_stack b_tokens b_tokenAt b_lowAt b_highAt b_nodeOp b_nodeValue b_work b_place b_covered b_bestCost b_bestLength F I
  obtain ⟨F1, F2, ⟨F3, F3'⟩, F4, F5, F6, F7⟩ := F
  obtain ⟨eS, e24, eT, eL, eH, eo, eO, eV, _⟩ := F7
  have os7 := F2.1
  have n20 : nc ≤ 20 := Nat.le_trans F4.1 F1.2.2.2.2.2.2
  unfold wpX_count
  rcases bu_em9 v1 with h | h
  · refine bu_outG h ?_
    unfold wpY_count
    exact br_f (bu_ne9 h (by unfold bu_op; decide)) (br_f (bu_ne9 h (by unfold bu_op; decide)) (br_f (bu_ne9 h (by unfold bu_op; decide)) (br_f (bu_ne9 h (by unfold bu_op; decide)) (br_f (bu_ne9 h (by unfold bu_op; decide)) (br_f (bu_ne9 h (by unfold bu_op; decide)) (br_f (bu_ne9 h (by unfold bu_op; decide)) (br_f (bu_ne9 h (by unfold bu_op; decide)) (br_f (bu_ne9 h (by unfold bu_op; decide)) ⟨rfl, I⟩))))))))
  · rcases h with rfl | rfl | rfl | rfl | rfl | rfl | rfl | rfl | rfl
    · refine br_f (by decide) (br_f (by decide) (br_t rfl ?_))
      unfold wpY_count
      exact br_t rfl ⟨e24, I⟩
    · refine br_f (by decide) (br_f (by decide) (br_f (by decide) (br_t rfl ?_)))
      unfold wpY_count
      exact br_f (by decide) (br_t rfl ⟨rfl, I⟩)
    · refine br_f (by decide) (br_f (by decide) (br_f (by decide) (br_f (by decide) (br_t rfl ?_))))
      unfold wpY_count
      exact br_f (by decide) (br_f (by decide) (br_t rfl ⟨rfl, I⟩))
    · refine br_f (by decide) (br_f (by decide) (br_f (by decide) (br_f (by decide) (br_f (by decide) (br_t rfl ?_)))))
      unfold wpY_count
      exact br_f (by decide) (br_f (by decide) (br_f (by decide) (br_t rfl ⟨rfl, I⟩)))
    · refine br_f (by decide) (br_f (by decide) (br_f (by decide) (br_f (by decide) (br_f (by decide) (br_f (by decide) (br_t rfl ?_))))))
      unfold wpY_count
      exact br_f (by decide) (br_f (by decide) (br_f (by decide) (br_f (by decide) (br_t rfl ⟨rfl, I⟩))))
    · refine br_f (by decide) (br_f (by decide) (br_f (by decide) (br_f (by decide) (br_f (by decide) (br_f (by decide) (br_f (by decide) (br_t rfl ?_)))))))
      unfold wpY_count
      exact br_f (by decide) (br_f (by decide) (br_f (by decide) (br_f (by decide) (br_f (by decide) (br_t rfl (yr_roots n20 eO F4.2.1 ⟨rfl, I⟩))))))
    · refine br_f (by decide) (br_f (by decide) (br_f (by decide) (br_f (by decide) (br_f (by decide) (br_f (by decide) (br_f (by decide) (br_f (by decide) (br_t rfl ?_))))))))
      unfold wpY_count
      have eh : bu_h (fun j => bu_ar (b_tokenAt (7 * 24 + j))) os = bu_h (fun j => bu_ar (a_openToken j)) os := bu_h_cg (fun j hj => by rw [(eo j (by omega)).1])
      have ew : bu_wf (fun j => bu_ar (b_tokenAt (7 * 24 + j))) os := bu_wf_cg (fun j hj => by rw [(eo j (by omega)).1]) F2.2.1
      exact br_f (by decide) (br_f (by decide) (br_f (by decide) (br_f (by decide) (br_f (by decide) (br_f (by decide) (br_t rfl (yh_height (r := 24) (by omega) e24 os7 ew ⟨by rw [eh], I⟩)))))))
    · refine br_f (by decide) (br_f (by decide) (br_f (by decide) (br_f (by decide) (br_f (by decide) (br_f (by decide) (br_f (by decide) (br_f (by decide) (br_f (by decide) (br_t rfl ?_)))))))))
      unfold wpY_count
      exact br_f (by decide) (br_f (by decide) (br_f (by decide) (br_f (by decide) (br_f (by decide) (br_f (by decide) (br_f (by decide) (br_t rfl (yn_before F6.1 (fun j hj => (F6.2.2.2 j hj).2.1) ⟨by rw [F6.2.2.1], I⟩))))))))
    · refine br_f (by decide) (br_f (by decide) (br_f (by decide) (br_f (by decide) (br_f (by decide) (br_f (by decide) (br_f (by decide) (br_f (by decide) (br_f (by decide) (br_f (by decide) (br_t rfl ?_))))))))))
      unfold wpY_count
      exact br_f (by decide) (br_f (by decide) (br_f (by decide) (br_f (by decide) (br_f (by decide) (br_f (by decide) (br_f (by decide) (br_f (by decide) (br_t rfl ⟨rfl, I⟩))))))))
/-! clear -/
section
variable {f_registers f_nonterminals f_words f_treeLimit f_openSize f_openHeight f_ruleCount f_nodeCount f_rootCount f_labelled f_statementCount f_programNodes f_depth f_lastValue f_spent : Int32} {a_openToken a_openLow a_openHigh a_ruleLhs a_ruleCost a_ruleSize a_ruleToken a_ruleLow a_ruleHigh a_nodeOperator a_nodeValue a_subtreeFirst a_bestCost a_bestLength a_place a_covered a_statementStart a_statementNodes a_statementCost a_statementLength a_programOperator a_programValue a_memory a_arguments a_stack : Nat → Int32}
theorem xc_85 {post : Int32 → SX → Prop} {w : Nat} (hw : w ≤ 32) {m0 : Nat → Int32} (h : post 0 (f_registers, f_nonterminals, (nI w), f_treeLimit, f_openSize, f_openHeight, f_ruleCount, f_nodeCount, f_rootCount, f_labelled, f_statementCount, f_programNodes, f_depth, f_lastValue, f_spent, a_openToken, a_openLow, a_openHigh, a_ruleLhs, a_ruleCost, a_ruleSize, a_ruleToken, a_ruleLow, a_ruleHigh, a_nodeOperator, a_nodeValue, a_subtreeFirst, a_bestCost, a_bestLength, a_place, a_covered, a_statementStart, a_statementNodes, a_statementCost, a_statementLength, a_programOperator, a_programValue, (bu_cp m0 (fun _ => 0) 0 w), a_arguments, a_stack)) :
    ∀ (fuel j : Nat), w < j + fuel → j ≤ w → wX_clear_85 post f_registers f_nonterminals (nI w) f_treeLimit f_openSize f_openHeight f_ruleCount f_nodeCount f_rootCount f_labelled f_statementCount f_programNodes f_depth f_lastValue f_spent fuel (nI j) a_openToken a_openLow a_openHigh a_ruleLhs a_ruleCost a_ruleSize a_ruleToken a_ruleLow a_ruleHigh a_nodeOperator a_nodeValue a_subtreeFirst a_bestCost a_bestLength a_place a_covered a_statementStart a_statementNodes a_statementCost a_statementLength a_programOperator a_programValue (bu_cp m0 (fun _ => 0) 0 j) a_arguments a_stack := by
  intro fuel
  induction fuel with
  | zero => intro j hf hj; omega
  | succ fuel ih =>
    intro j hf hj
    rw [wX_clear_85]
    dsimp only
    rcases Nat.lt_or_ge j w with z | z
    · refine br_f (nI_ge z (by omega)) ⟨vp_in_nI (by omega) (by decide), ?_⟩
      rw [nI_clamp (n := j) (by omega)]
      have e := bu_cp_s (f := m0) (g := fun _ => 0) (b := 0) (i := j)
      rw [Nat.zero_add] at e
      exact nm_r e (nm_r (nI_1 j) (ih (j + 1) (by omega) (by omega)))
    · have ej : j = w := by omega
      subst ej
      exact br_t (nI_le (by omega) (by omega)) h
end
section
variable {g_registers g_nonterminals g_words g_treeNodes g_rules g_nodes g_statements g_lastValue g_spent : Int32} {b_lhsOf b_costOf b_tokens b_tokenAt b_lowAt b_highAt b_nodeOp b_nodeValue b_statementCost b_statementLength b_statementNodes b_memory b_arguments b_work b_place b_covered b_bestCost b_bestLength : Nat → Int32}
theorem yc_60 {post : Int32 → SY → Prop} {w : Nat} (hw : w ≤ 32) {m0 : Nat → Int32} (h : post 0 (g_registers, g_nonterminals, (nI w), g_treeNodes, g_rules, g_nodes, g_statements, g_lastValue, g_spent, b_lhsOf, b_costOf, b_tokens, b_tokenAt, b_lowAt, b_highAt, b_nodeOp, b_nodeValue, b_statementCost, b_statementLength, b_statementNodes, (bu_cp m0 (fun _ => 0) 0 w), b_arguments, b_work, b_place, b_covered, b_bestCost, b_bestLength)) :
    ∀ (fuel j : Nat), w < j + fuel → j ≤ w → wY_clear_60 post g_registers g_nonterminals (nI w) g_treeNodes g_rules g_nodes g_statements g_lastValue g_spent fuel (nI j) b_lhsOf b_costOf b_tokens b_tokenAt b_lowAt b_highAt b_nodeOp b_nodeValue b_statementCost b_statementLength b_statementNodes (bu_cp m0 (fun _ => 0) 0 j) b_arguments b_work b_place b_covered b_bestCost b_bestLength := by
  intro fuel
  induction fuel with
  | zero => intro j hf hj; omega
  | succ fuel ih =>
    intro j hf hj
    rw [wY_clear_60]
    dsimp only
    rcases Nat.lt_or_ge j w with z | z
    · refine br_f (nI_ge z (by omega)) ⟨vp_in_nI (by omega) (by decide), ?_⟩
      rw [nI_clamp (n := j) (by omega)]
      have e := bu_cp_s (f := m0) (g := fun _ => 0) (b := 0) (i := j)
      rw [Nat.zero_add] at e
      exact nm_r e (nm_r (nI_1 j) (ih (j + 1) (by omega) (by omega)))
    · have ej : j = w := by omega
      subst ej
      exact br_t (nI_le (by omega) (by omega)) h
end
theorem bu_em5 (x : Int32) : (x < 0 ∨ 4 < x) ∨ x = 0 ∨ x = 1 ∨ x = 2 ∨ x = 3 ∨ x = 4 := by
  rcases bu_em x (n := 5) (by decide) with (h | h) | ⟨j, h1, h2⟩
  · exact Or.inl (Or.inl h)
  · refine Or.inl (Or.inr ?_)
    rw [Int32.le_iff_toInt_le] at h
    rw [Int32.lt_iff_toInt_lt]
    have e1 : (nI 5).toInt = 5 := by decide
    have e2 : (4 : Int32).toInt = 4 := by decide
    omega
  · refine Or.inr ?_
    have : j = 0 ∨ j = 1 ∨ j = 2 ∨ j = 3 ∨ j = 4 := by omega
    rcases this with e | e | e | e | e <;> subst e <;> subst h2 <;> decide
theorem i_vc_clear {k : Nat} {u : SX} {v : SY} (I : i_Rel k u v) (hk : k + 4 ≤ 2052) (v1 : Int32) : wpX_clear (fun r u' => wpY_clear (fun r' v' => r' = r ∧ i_Rel (k + 4) u' v') v v1) u v1 := by
  refine zz_el (P := fun u v => wpX_clear (fun r u' => wpY_clear (fun r' v' => r' = r ∧ i_Rel (k + 4) u' v') v v1) u v1) ?_ I
  intro rg nt w tl os rc nc lb sc pn dp lv sp a_openToken a_openLow a_openHigh a_ruleLhs a_ruleCost a_ruleSize a_ruleToken a_ruleLow a_ruleHigh a_nodeOperator a_nodeValue a_subtreeFirst a_bestCost a_bestLength a_place a_covered a_statementStart a_statementNodes a_statementCost a_statementLength a_programOperator a_programValue a_memory a_arguments a_stack b_tokens b_tokenAt b_lowAt b_highAt b_nodeOp b_nodeValue b_work b_place b_covered b_bestCost b_bestLength F
  obtain ⟨F1, F2, ⟨F3, F3'⟩, F4, F5, F6, F7⟩ := F
  unfold wpX_clear
  rcases bu_em5 v1 with h | rfl | rfl | rfl | rfl | rfl
  · refine bu_outG h ?_
    unfold wpY_clear
    exact bu_outL h ⟨rfl, zz_in ⟨F1, F2, ⟨F3, F3'⟩, F4, F5, F6, F7⟩⟩
  · refine br_f (by decide) (br_f (by decide) (br_t rfl ?_))
    unfold wpX_clearPattern wpY_clear
    refine br_f (by decide) (br_t (by decide) (br_t rfl (nm_e ?_)))
    unfold wY_clear_23 wY_clear_33 wY_clear_43 wY_clear_53
    refine br_f (by decide) (br_f (by decide) (br_f (by decide) (br_f (by decide) ⟨rfl, ?_⟩)))
    obtain ⟨eS, e24, eT, eL, eH, eo, eO, eV, eP⟩ := F7
    exact zz_in (os := 0) ⟨F1, ⟨by omega, fun j hj => by omega, fun j hj => by omega⟩, ⟨F3, F3'⟩, F4, F5, F6, ⟨fun j hj => by rw [pk_un (by omega)]; exact eS j hj, pk_us, eT, eL, eH, eo, eO, eV, eP⟩⟩
  · refine br_f (by decide) (br_f (by decide) (br_f (by decide) (br_t rfl ?_)))
    unfold wpY_clear
    refine br_f (by decide) (br_t (by decide) (br_f (by decide) ?_))
    unfold wY_clear_23 wY_clear_33 wY_clear_43 wY_clear_53
    refine br_t rfl (br_f (by decide) (br_f (by decide) (br_f (by decide) ⟨rfl, ?_⟩)))
    exact zz_in (rc := 0) (lb := 0) ⟨F1, F2, ⟨by omega, fun j hj => by omega⟩, F4, ⟨by omega, bu_Cor_0⟩, F6, F7⟩
  · refine br_f (by decide) (br_f (by decide) (br_f (by decide) (br_f (by decide) (br_t rfl ?_))))
    unfold wpY_clear
    refine br_f (by decide) (br_t (by decide) (br_f (by decide) ?_))
    unfold wY_clear_23 wY_clear_33 wY_clear_43 wY_clear_53
    refine br_f (by decide) (br_t rfl (br_f (by decide) (br_f (by decide) ⟨rfl, ?_⟩)))
    exact zz_in (nc := 0) (lb := 0) ⟨F1, F2, ⟨F3, F3'⟩, ⟨by omega, fun j hj => by omega, fun j hj => by omega⟩, ⟨by omega, bu_Cor_0⟩, F6, F7⟩
  · refine br_f (by decide) (br_f (by decide) (br_f (by decide) (br_f (by decide) (br_f (by decide) (br_t rfl ?_)))))
    unfold wpY_clear
    refine br_f (by decide) (br_t (by decide) (br_f (by decide) ?_))
    unfold wY_clear_23 wY_clear_33 wY_clear_43 wY_clear_53
    refine br_f (by decide) (br_f (by decide) (br_t rfl (br_f (by decide) ⟨rfl, ?_⟩)))
    exact zz_in (sc := 0) (pn := 0) ⟨F1, F2, ⟨F3, F3'⟩, F4, F5, ⟨by omega, by omega, rfl, fun q hq => by omega⟩, F7⟩
  · refine br_f (by decide) (br_f (by decide) (br_f (by decide) (br_f (by decide) (br_f (by decide) (br_f (by decide) (br_t rfl ⟨w + 1, ?_⟩))))))
    have w32 := F1.2.2.2.2.1
    have key := xc_85 (post := fun r u' => wpY_clear (fun r' v' => r' = r ∧ i_Rel (k + 4) u' v') ((nI rg), (nI nt), (nI w), (nI tl), (nI rc), (nI nc), (nI sc), lv, sp, a_ruleLhs, a_ruleCost, b_tokens, b_tokenAt, b_lowAt, b_highAt, b_nodeOp, b_nodeValue, a_statementCost, a_statementLength, a_statementNodes, a_memory, a_arguments, b_work, b_place, b_covered, b_bestCost, b_bestLength) 4) (m0 := a_memory) w32 (f_registers := nI rg) (f_nonterminals := nI nt) (f_treeLimit := nI tl) (f_openSize := nI os) (f_openHeight := nI (bu_h (fun i => bu_ar (a_openToken i)) os)) (f_ruleCount := nI rc) (f_nodeCount := nI nc) (f_rootCount := nI (bu_h (fun i => bu_ar (a_nodeOperator i)) nc)) (f_labelled := nI lb) (f_statementCount := nI sc) (f_programNodes := nI pn) (f_depth := dp) (f_lastValue := lv) (f_spent := sp) (a_openToken := a_openToken) (a_openLow := a_openLow) (a_openHigh := a_openHigh) (a_ruleLhs := a_ruleLhs) (a_ruleCost := a_ruleCost) (a_ruleSize := a_ruleSize) (a_ruleToken := a_ruleToken) (a_ruleLow := a_ruleLow) (a_ruleHigh := a_ruleHigh) (a_nodeOperator := a_nodeOperator) (a_nodeValue := a_nodeValue) (a_subtreeFirst := a_subtreeFirst) (a_bestCost := a_bestCost) (a_bestLength := a_bestLength) (a_place := a_place) (a_covered := a_covered) (a_statementStart := a_statementStart) (a_statementNodes := a_statementNodes) (a_statementCost := a_statementCost) (a_statementLength := a_statementLength) (a_programOperator := a_programOperator) (a_programValue := a_programValue) (a_arguments := a_arguments) (a_stack := a_stack) (by
      unfold wpY_clear
      refine br_f (by decide) (br_t (by decide) (br_f (by decide) ?_))
      unfold wY_clear_23 wY_clear_33 wY_clear_43 wY_clear_53
      refine br_f (by decide) (br_f (by decide) (br_f (by decide) (br_t rfl ⟨w + 1, ?_⟩)))
      have ky := yc_60 (post := fun r' v' => r' = 0 ∧ i_Rel (k + 4) ((nI rg), (nI nt), (nI w), (nI tl), (nI os), (nI (bu_h (fun i => bu_ar (a_openToken i)) os)), (nI rc), (nI nc), (nI (bu_h (fun i => bu_ar (a_nodeOperator i)) nc)), (nI lb), (nI sc), (nI pn), dp, lv, sp, a_openToken, a_openLow, a_openHigh, a_ruleLhs, a_ruleCost, a_ruleSize, a_ruleToken, a_ruleLow, a_ruleHigh, a_nodeOperator, a_nodeValue, a_subtreeFirst, a_bestCost, a_bestLength, a_place, a_covered, a_statementStart, a_statementNodes, a_statementCost, a_statementLength, a_programOperator, a_programValue, (bu_cp a_memory (fun _ => 0) 0 w), a_arguments, a_stack) v') (m0 := a_memory) w32 (g_registers := nI rg) (g_nonterminals := nI nt) (g_treeNodes := nI tl) (g_rules := nI rc) (g_nodes := nI nc) (g_statements := nI sc) (g_lastValue := lv) (g_spent := sp) (b_lhsOf := a_ruleLhs) (b_costOf := a_ruleCost) (b_tokens := b_tokens) (b_tokenAt := b_tokenAt) (b_lowAt := b_lowAt) (b_highAt := b_highAt) (b_nodeOp := b_nodeOp) (b_nodeValue := b_nodeValue) (b_statementCost := a_statementCost) (b_statementLength := a_statementLength) (b_statementNodes := a_statementNodes) (b_arguments := a_arguments) (b_work := b_work) (b_place := b_place) (b_covered := b_covered) (b_bestCost := b_bestCost) (b_bestLength := b_bestLength) ⟨rfl, zz_in ⟨F1, F2, ⟨F3, F3'⟩, F4, F5, F6, F7⟩⟩ (w + 1) 0 (by omega) (by omega)
      rw [bu_cp_0] at ky
      exact ky) (w + 1) 0 (by omega) (by omega)
    rw [bu_cp_0] at key
    exact key
theorem bu_dat {rg nt w tl rc nc : Nat} {tk lhs cost size no nv sf : Nat → Int32} (F1 : bu_Cfg rg nt w tl) (F3 : rc ≤ 24 ∧ bu_Rs tk lhs cost size nt rc) (F4 : bu_Tre nc tl no nv sf) : bu_Dat rg nt rc nc tk lhs cost size no :=
  ⟨F1.1, F1.2.2.1, F1.2.2.2.1, F3.1, Nat.le_trans F4.1 F1.2.2.2.2.2.2, F4.2.1, F3.2⟩
theorem i_vc_match {k : Nat} {u : SX} {v : SY} (I : i_Rel k u v) (hk : k + 4 ≤ 2052) (v1 : Int32) (v2 : Int32) : wpX_match (fun r u' => wpY_match (fun r' v' => r' = r ∧ i_Rel (k + 4) u' v') v v1 v2) u v1 v2 := by
  refine zz_el (P := fun u v => wpX_match (fun r u' => wpY_match (fun r' v' => r' = r ∧ i_Rel (k + 4) u' v') v v1 v2) u v1 v2) ?_ I
  intro rg nt w tl os rc nc lb sc pn dp lv sp a_openToken a_openLow a_openHigh a_ruleLhs a_ruleCost a_ruleSize a_ruleToken a_ruleLow a_ruleHigh a_nodeOperator a_nodeValue a_subtreeFirst a_bestCost a_bestLength a_place a_covered a_statementStart a_statementNodes a_statementCost a_statementLength a_programOperator a_programValue a_memory a_arguments a_stack b_tokens b_tokenAt b_lowAt b_highAt b_nodeOp b_nodeValue b_work b_place b_covered b_bestCost b_bestLength F
  have F0 := F
  obtain ⟨F1, F2, F3, F4, F5, F6, F7⟩ := F
  have D := bu_dat F1 F3 F4
  obtain ⟨d1, d2, d3, d4, d5, d6, d7⟩ := D
  obtain ⟨eS, e24, eT, eL, eH, eo, eO, eV, eP⟩ := F7
  unfold wpX_match
  rcases bu_em v1 (n := rc) (by omega) with h | ⟨r, hr, rfl⟩
  · refine xi_rule0 h (br_t rfl ?_)
    unfold wpY_match
    exact bu_out h ⟨rfl, zz_in F0⟩
  · refine xr_rule hr d4 (br_f (by decide) ?_)
    rcases bu_em v2 (n := nc) (by omega) with h | ⟨n, hn, rfl⟩
    · refine xi_node0 h (br_t rfl ?_)
      unfold wpY_match
      exact bu_inn hr (by omega) (bu_out h ⟨rfl, zz_in F0⟩)
    · refine xi_node1 hn (by omega) (br_f (by decide) ?_)
      obtain ⟨r1, r2, r3, r4, r5, r6, r7⟩ := bu_Rs_1 d7 hr d3
      have hs : b_tokens r = nI (bu_cl a_ruleSize r) := by rw [eS r (by omega)]; exact r1
      refine xl_lay (s := bu_cl a_ruleSize r) d6 d5 hn (by omega) r1 r6 (fun j hj => (F4.2.2 j hj).2.2) (fun q P C => ?_) (fun q1 q2 P C => ?_) (fun q1 q2 P C hP => ?_)
      · exact ym_match (s := bu_cl a_ruleSize r) d6 d5 hn hr d4 hs r6 eT eL eH eO eV (fun _ P C => ⟨rfl, zz_in F0⟩) (fun q1 => absurd q1 q) (fun q1 => absurd q1 q)
      · exact ym_match (s := bu_cl a_ruleSize r) d6 d5 hn hr d4 hs r6 eT eL eH eO eV (fun q => absurd q1 q) (fun _ _ P C => ⟨rfl, zz_in F0⟩) (fun _ q => absurd q q2)
      · exact ym_match (s := bu_cl a_ruleSize r) d6 d5 hn hr d4 hs r6 eT eL eH eO eV (fun q => absurd q1 q) (fun _ q => absurd q2 q) (fun _ _ P C _ => ⟨rfl, zz_in F0⟩)
theorem bu_L_lo {rg nt rc nc : Nat} {tk lo hi size lhs cost no nv : Nat → Int32} (D : bu_Dat rg nt rc nc tk lhs cost size no) {e n m : Nat} (he : e < 6 * n) (h : n ≤ m) : bu_L rg nt rc tk lo hi size lhs cost no nv m e = bu_L rg nt rc tk lo hi size lhs cost no nv n e :=
  bu_lab_lo (bu_dsys D) he h
/-- the two sides' entries for one label -/
theorem bu_two {V W : Nat → Nat} {c l c' l' : Nat → Int32} {m m' e : Nat} (h : bu_Cor m V c l) (h' : bu_Cor m' W c' l') (he : e < m) (he' : e < m') (q : V e = W e) : c e = c' e ∧ (0 ≤ c e → l e = l' e) := by
  rcases h e he with ⟨a1, a2⟩ | ⟨a1, a2, a3⟩
  · rcases h' e he' with ⟨b1, b2⟩ | ⟨b1, b2, b3⟩
    · rw [a2, b2]; exact ⟨rfl, fun z => absurd z (by decide)⟩
    · rw [q] at a1; rw [a1] at b1; exact absurd b1 (Nat.lt_irrefl _)
  · rcases h' e he' with ⟨b1, b2⟩ | ⟨b1, b2, b3⟩
    · rw [q, b1] at a1; exact absurd a1 (Nat.lt_irrefl _)
    · rw [a2, a3, b2, b3, q]; exact ⟨rfl, fun _ => rfl⟩
theorem i_vc_costAt {k : Nat} {u : SX} {v : SY} (I : i_Rel k u v) (hk : k + 4 ≤ 2052) (v1 : Int32) (v2 : Int32) : wpX_costAt (fun r u' => wpY_costAt (fun r' v' => r' = r ∧ i_Rel (k + 4) u' v') v v1 v2) u v1 v2 := by
  refine zz_el (P := fun u v => wpX_costAt (fun r u' => wpY_costAt (fun r' v' => r' = r ∧ i_Rel (k + 4) u' v') v v1 v2) u v1 v2) ?_ I
  intro rg nt w tl os rc nc lb sc pn dp lv sp a_openToken a_openLow a_openHigh a_ruleLhs a_ruleCost a_ruleSize a_ruleToken a_ruleLow a_ruleHigh a_nodeOperator a_nodeValue a_subtreeFirst a_bestCost a_bestLength a_place a_covered a_statementStart a_statementNodes a_statementCost a_statementLength a_programOperator a_programValue a_memory a_arguments a_stack b_tokens b_tokenAt b_lowAt b_highAt b_nodeOp b_nodeValue b_work b_place b_covered b_bestCost b_bestLength F
  have F0 := F
  obtain ⟨F1, F2, F3, F4, F5, F6, F7⟩ := F
  have D := bu_dat F1 F3 F4
  have D' := D
  obtain ⟨d1, d2, d3, d4, d5, d6, d7⟩ := D'
  have F7' := F7
  obtain ⟨eS, e24, eT, eL, eH, eo, eO, eV, eP⟩ := F7'
  unfold wpX_costAt
  rcases bu_em v1 (n := nc) (by omega) with h | ⟨n, hn, rfl⟩
  · refine xi_node0 h (br_t rfl ?_)
    unfold wpY_costAt
    exact bu_out h ⟨rfl, zz_in F0⟩
  · refine xi_node1 hn (by omega) (br_f (by decide) ?_)
    rcases bu_em v2 (n := nt) (by omega) with h | ⟨t, ht, rfl⟩
    · refine xi_nt0 h (br_t rfl ?_)
      unfold wpY_costAt
      exact bu_inn hn (by omega) (bu_out h ⟨rfl, zz_in F0⟩)
    · refine xi_nt1 ht (by omega) (br_f (by decide) ?_)
      refine xn_upTo D hn F5.1 (fun j hj => (F4.2.2 j hj).2.2) F5.2 (fun P C bc bl lb' h1 h2 hC => ?_)
      have hv : vp_in (nI (6 * n + t)) 120 := vp_in_nI (by omega) (by decide)
      rw [bu_x6, nI_add, nI_clamp (n := 6 * n + t) (by omega)]
      have Y : ∀ r0 : Int32, (0 ≤ bc (6 * n + t) → r0 = bc (6 * n + t)) → (¬ 0 ≤ bc (6 * n + t) → r0 = -6) → wpY_costAt (fun r' v' => r' = r0 ∧ i_Rel (k + 4) ((nI rg), (nI nt), (nI w), (nI tl), (nI os), (nI (bu_h (fun i => bu_ar (a_openToken i)) os)), (nI rc), (nI nc), (nI (bu_h (fun i => bu_ar (a_nodeOperator i)) nc)), (nI lb'), (nI sc), (nI pn), dp, lv, sp, a_openToken, a_openLow, a_openHigh, a_ruleLhs, a_ruleCost, a_ruleSize, a_ruleToken, a_ruleLow, a_ruleHigh, a_nodeOperator, a_nodeValue, a_subtreeFirst, bc, bl, P, C, a_statementStart, a_statementNodes, a_statementCost, a_statementLength, a_programOperator, a_programValue, a_memory, a_arguments, a_stack) v') ((nI rg), (nI nt), (nI w), (nI tl), (nI rc), (nI nc), (nI sc), lv, sp, a_ruleLhs, a_ruleCost, b_tokens, b_tokenAt, b_lowAt, b_highAt, b_nodeOp, b_nodeValue, a_statementCost, a_statementLength, a_statementNodes, a_memory, a_arguments, b_work, b_place, b_covered, b_bestCost, b_bestLength) (nI n) (nI t) := by
        intro r0 y1 y2
        unfold wpY_costAt
        refine bu_inn hn (by omega) (bu_inn ht (by omega) ?_)
        refine yd_derive D eT eL eH eS eO eV (fun P' C' bc' bl' hC' => ?_)
        have tw := bu_two hC hC' (e := 6 * n + t) (by omega) (by omega) (bu_L_lo D (e := 6 * n + t) (n := lb') (m := nc) (by omega) h2).symm
        rw [bu_x6, nI_add]
        refine nm_e ⟨hv, ?_⟩
        rw [nI_clamp (n := 6 * n + t) (by omega), ← tw.1]
        have fin : i_Rel (k + 4) ((nI rg), (nI nt), (nI w), (nI tl), (nI os), (nI (bu_h (fun i => bu_ar (a_openToken i)) os)), (nI rc), (nI nc), (nI (bu_h (fun i => bu_ar (a_nodeOperator i)) nc)), (nI lb'), (nI sc), (nI pn), dp, lv, sp, a_openToken, a_openLow, a_openHigh, a_ruleLhs, a_ruleCost, a_ruleSize, a_ruleToken, a_ruleLow, a_ruleHigh, a_nodeOperator, a_nodeValue, a_subtreeFirst, bc, bl, P, C, a_statementStart, a_statementNodes, a_statementCost, a_statementLength, a_programOperator, a_programValue, a_memory, a_arguments, a_stack) ((nI rg), (nI nt), (nI w), (nI tl), (nI rc), (nI nc), (nI sc), lv, sp, a_ruleLhs, a_ruleCost, b_tokens, b_tokenAt, b_lowAt, b_highAt, b_nodeOp, b_nodeValue, a_statementCost, a_statementLength, a_statementNodes, a_memory, a_arguments, b_work, P', C', bc', bl') := zz_in ⟨F1, F2, F3, F4, ⟨h2, hC⟩, F6, F7⟩
        by_cases z : 0 ≤ bc (6 * n + t)
        · exact br_t z ⟨hv, (y1 z).symm, fin⟩
        · exact br_f z ⟨(y2 z).symm, fin⟩
      refine ⟨hv, nm_e ?_⟩
      by_cases z : 0 ≤ bc (6 * n + t)
      · exact br_t z (Y _ (fun _ => rfl) (fun q => absurd z q))
      · exact br_f z (Y _ (fun q => absurd q z) (fun _ => rfl))
theorem i_vc_lengthAt {k : Nat} {u : SX} {v : SY} (I : i_Rel k u v) (hk : k + 4 ≤ 2052) (v1 : Int32) (v2 : Int32) : wpX_lengthAt (fun r u' => wpY_lengthAt (fun r' v' => r' = r ∧ i_Rel (k + 4) u' v') v v1 v2) u v1 v2 := by
  refine zz_el (P := fun u v => wpX_lengthAt (fun r u' => wpY_lengthAt (fun r' v' => r' = r ∧ i_Rel (k + 4) u' v') v v1 v2) u v1 v2) ?_ I
  intro rg nt w tl os rc nc lb sc pn dp lv sp a_openToken a_openLow a_openHigh a_ruleLhs a_ruleCost a_ruleSize a_ruleToken a_ruleLow a_ruleHigh a_nodeOperator a_nodeValue a_subtreeFirst a_bestCost a_bestLength a_place a_covered a_statementStart a_statementNodes a_statementCost a_statementLength a_programOperator a_programValue a_memory a_arguments a_stack b_tokens b_tokenAt b_lowAt b_highAt b_nodeOp b_nodeValue b_work b_place b_covered b_bestCost b_bestLength F
  have F0 := F
  obtain ⟨F1, F2, F3, F4, F5, F6, F7⟩ := F
  have D := bu_dat F1 F3 F4
  have D' := D
  obtain ⟨d1, d2, d3, d4, d5, d6, d7⟩ := D'
  have F7' := F7
  obtain ⟨eS, e24, eT, eL, eH, eo, eO, eV, eP⟩ := F7'
  unfold wpX_lengthAt
  rcases bu_em v1 (n := nc) (by omega) with h | ⟨n, hn, rfl⟩
  · refine xi_node0 h (br_t rfl ?_)
    unfold wpY_lengthAt
    exact bu_out h ⟨rfl, zz_in F0⟩
  · refine xi_node1 hn (by omega) (br_f (by decide) ?_)
    rcases bu_em v2 (n := nt) (by omega) with h | ⟨t, ht, rfl⟩
    · refine xi_nt0 h (br_t rfl ?_)
      unfold wpY_lengthAt
      exact bu_inn hn (by omega) (bu_out h ⟨rfl, zz_in F0⟩)
    · refine xi_nt1 ht (by omega) (br_f (by decide) ?_)
      refine xn_upTo D hn F5.1 (fun j hj => (F4.2.2 j hj).2.2) F5.2 (fun P C bc bl lb' h1 h2 hC => ?_)
      have hv : vp_in (nI (6 * n + t)) 120 := vp_in_nI (by omega) (by decide)
      rw [bu_x6, nI_add]
      have Y : ∀ r0 : Int32, (0 ≤ bc (6 * n + t) → r0 = bl (6 * n + t)) → (¬ 0 ≤ bc (6 * n + t) → r0 = -6) → wpY_lengthAt (fun r' v' => r' = r0 ∧ i_Rel (k + 4) ((nI rg), (nI nt), (nI w), (nI tl), (nI os), (nI (bu_h (fun i => bu_ar (a_openToken i)) os)), (nI rc), (nI nc), (nI (bu_h (fun i => bu_ar (a_nodeOperator i)) nc)), (nI lb'), (nI sc), (nI pn), dp, lv, sp, a_openToken, a_openLow, a_openHigh, a_ruleLhs, a_ruleCost, a_ruleSize, a_ruleToken, a_ruleLow, a_ruleHigh, a_nodeOperator, a_nodeValue, a_subtreeFirst, bc, bl, P, C, a_statementStart, a_statementNodes, a_statementCost, a_statementLength, a_programOperator, a_programValue, a_memory, a_arguments, a_stack) v') ((nI rg), (nI nt), (nI w), (nI tl), (nI rc), (nI nc), (nI sc), lv, sp, a_ruleLhs, a_ruleCost, b_tokens, b_tokenAt, b_lowAt, b_highAt, b_nodeOp, b_nodeValue, a_statementCost, a_statementLength, a_statementNodes, a_memory, a_arguments, b_work, b_place, b_covered, b_bestCost, b_bestLength) (nI n) (nI t) := by
        intro r0 y1 y2
        unfold wpY_lengthAt
        refine bu_inn hn (by omega) (bu_inn ht (by omega) ?_)
        refine yd_derive D eT eL eH eS eO eV (fun P' C' bc' bl' hC' => ?_)
        have tw := bu_two hC hC' (e := 6 * n + t) (by omega) (by omega) (bu_L_lo D (e := 6 * n + t) (n := lb') (m := nc) (by omega) h2).symm
        rw [bu_x6, nI_add]
        refine nm_e ⟨hv, ?_⟩
        rw [nI_clamp (n := 6 * n + t) (by omega), ← tw.1]
        have fin : i_Rel (k + 4) ((nI rg), (nI nt), (nI w), (nI tl), (nI os), (nI (bu_h (fun i => bu_ar (a_openToken i)) os)), (nI rc), (nI nc), (nI (bu_h (fun i => bu_ar (a_nodeOperator i)) nc)), (nI lb'), (nI sc), (nI pn), dp, lv, sp, a_openToken, a_openLow, a_openHigh, a_ruleLhs, a_ruleCost, a_ruleSize, a_ruleToken, a_ruleLow, a_ruleHigh, a_nodeOperator, a_nodeValue, a_subtreeFirst, bc, bl, P, C, a_statementStart, a_statementNodes, a_statementCost, a_statementLength, a_programOperator, a_programValue, a_memory, a_arguments, a_stack) ((nI rg), (nI nt), (nI w), (nI tl), (nI rc), (nI nc), (nI sc), lv, sp, a_ruleLhs, a_ruleCost, b_tokens, b_tokenAt, b_lowAt, b_highAt, b_nodeOp, b_nodeValue, a_statementCost, a_statementLength, a_statementNodes, a_memory, a_arguments, b_work, P', C', bc', bl') := zz_in ⟨F1, F2, F3, F4, ⟨h2, hC⟩, F6, F7⟩
        by_cases z : 0 ≤ bc (6 * n + t)
        · refine br_t z ⟨hv, ?_, fin⟩
          rw [← tw.2 z]; exact (y1 z).symm
        · exact br_f z ⟨(y2 z).symm, fin⟩
      refine nm_e ⟨hv, ?_⟩
      rw [nI_clamp (n := 6 * n + t) (by omega)]
      by_cases z : 0 ≤ bc (6 * n + t)
      · exact br_t z ⟨hv, Y _ (fun _ => rfl) (fun q => absurd z q)⟩
      · exact br_f z (Y _ (fun q => absurd q z) (fun _ => rfl))
theorem i_vc_evaluate {k : Nat} {u : SX} {v : SY} (I : i_Rel k u v) (hk : k + 4 ≤ 2052) : wpX_evaluate (fun r u' => wpY_evaluate (fun r' v' => r' = r ∧ i_Rel (k + 4) u' v') v) u := by
  refine zz_el (P := fun u v => wpX_evaluate (fun r u' => wpY_evaluate (fun r' v' => r' = r ∧ i_Rel (k + 4) u' v') v) u) ?_ I
  intro rg nt w tl os rc nc lb sc pn dp lv sp a_openToken a_openLow a_openHigh a_ruleLhs a_ruleCost a_ruleSize a_ruleToken a_ruleLow a_ruleHigh a_nodeOperator a_nodeValue a_subtreeFirst a_bestCost a_bestLength a_place a_covered a_statementStart a_statementNodes a_statementCost a_statementLength a_programOperator a_programValue a_memory a_arguments a_stack b_tokens b_tokenAt b_lowAt b_highAt b_nodeOp b_nodeValue b_work b_place b_covered b_bestCost b_bestLength F
  have F0 := F
  obtain ⟨F1, F2, F3, F4, F5, F6, F7⟩ := F
  have n20 : nc ≤ 20 := Nat.le_trans F4.1 F1.2.2.2.2.2.2
  have F7' := F7
  obtain ⟨eS, e24, eT, eL, eH, eo, eO, eV, eP⟩ := F7'
  have hl := bu_h_le (a := fun i => bu_ar (a_nodeOperator i)) nc
  unfold wpX_evaluate
  by_cases z : bu_h (fun i => bu_ar (a_nodeOperator i)) nc = 1
  · refine br_t (by rw [z]; rfl) ⟨nc + 1, ?_⟩
    have n1 : 1 ≤ nc := by omega
    have E : bu_Ev a_nodeOperator a_nodeValue nc := ⟨n1, n20, F4.2.1, z, fun i hi => ⟨(F4.2.2 i hi).1, (F4.2.2 i hi).2.1⟩⟩
    have hm := F1.2.2.2.2.2.1
    refine xe_18 (S0 := a_stack) (m0 := a_memory) E hm ?_ (nc + 1) 0 (by omega) (by omega)
    unfold wpY_evaluate
    refine yr_roots n20 eO F4.2.1 (br_t (by rw [z]; rfl) ?_)
    have := yf_perf (post := fun u => match u with | (g_registers, g_nonterminals, g_words, g_treeNodes, g_rules, g_nodes, g_statements, g_lastValue, g_spent, b_lhsOf, b_costOf, b_tokens, b_tokenAt, b_lowAt, b_highAt, b_nodeOp, b_nodeValue, b_statementCost, b_statementLength, b_statementNodes, b_memory, b_arguments, b_work, b_place, b_covered, b_bestCost, b_bestLength) => ((0 : Int32) = 0 ∧ i_Rel (k + 4) ((nI rg), (nI nt), (nI w), (nI tl), (nI os), (nI (bu_h (fun i => bu_ar (a_openToken i)) os)), (nI rc), (nI nc), (nI (bu_h (fun i => bu_ar (a_nodeOperator i)) nc)), (nI lb), (nI sc), (nI pn), (nI 1), ((bu_rn a_nodeOperator a_nodeValue (nI w) a_arguments a_stack a_memory nc).1 0), sp, a_openToken, a_openLow, a_openHigh, a_ruleLhs, a_ruleCost, a_ruleSize, a_ruleToken, a_ruleLow, a_ruleHigh, a_nodeOperator, a_nodeValue, a_subtreeFirst, a_bestCost, a_bestLength, a_place, a_covered, a_statementStart, a_statementNodes, a_statementCost, a_statementLength, a_programOperator, a_programValue, ((bu_rn a_nodeOperator a_nodeValue (nI w) a_arguments a_stack a_memory nc).2), a_arguments, ((bu_rn a_nodeOperator a_nodeValue (nI w) a_arguments a_stack a_memory nc).1)) (g_registers, g_nonterminals, g_words, g_treeNodes, g_rules, g_nodes, g_statements, g_lastValue, g_spent, b_lhsOf, b_costOf, b_tokens, b_tokenAt, b_lowAt, b_highAt, b_nodeOp, b_nodeValue, b_statementCost, b_statementLength, b_statementNodes, b_memory, b_arguments, b_work, b_place, b_covered, b_bestCost, b_bestLength))) (s := nc) (b := 0) (ops := a_nodeOperator) (vals := a_nodeValue) (S0 := a_stack) (g_registers := nI rg) (g_nonterminals := nI nt) (g_words := nI w) (g_treeNodes := nI tl) (g_rules := nI rc) (g_nodes := nI nc) (g_statements := nI sc) (g_lastValue := lv) (g_spent := sp) (b_lhsOf := a_ruleLhs) (b_costOf := a_ruleCost) (b_tokens := b_tokens) (b_tokenAt := b_tokenAt) (b_lowAt := b_lowAt) (b_highAt := b_highAt) (b_nodeOp := b_nodeOp) (b_nodeValue := b_nodeValue) (b_statementCost := a_statementCost) (b_statementLength := a_statementLength) (b_statementNodes := a_statementNodes) (b_memory := a_memory) (b_arguments := a_arguments) (b_work := b_work) (b_place := b_place) (b_covered := b_covered) (b_bestCost := b_bestCost) (b_bestLength := b_bestLength) (by omega) E hm (fun i hi => by rw [Nat.zero_add]; exact eO i (by omega)) (fun i hi => by rw [Nat.zero_add]; exact eV i (by omega)) (fun W => ⟨rfl, zz_in ⟨F1, F2, F3, F4, F5, F6, F7⟩⟩)
    exact this
  · have nz : ¬ nI (bu_h (fun i => bu_ar (a_nodeOperator i)) nc) = 1 := fun q => z ((nI_eq (a := bu_h (fun i => bu_ar (a_nodeOperator i)) nc) (b := 1) (by omega) (by decide)).mp q)
    refine br_f nz ?_
    unfold wpY_evaluate
    exact yr_roots n20 eO F4.2.1 (br_f nz ⟨rfl, zz_in F0⟩)
end
section
/-! select and run -/
theorem bu_Ev_cg {ops ops' vals vals' : Nat → Int32} {s : Nat} (h : bu_Ev ops vals s) (e : ∀ i, i < s → ops i = ops' i ∧ vals i = vals' i) : bu_Ev ops' vals' s := by
  obtain ⟨h1, h2, h3, h4, h5⟩ := h
  have eh := bu_h_cg (a := fun j => bu_ar (ops j)) (a' := fun j => bu_ar (ops' j)) (y := s) (fun j hj => by rw [(e j hj).1])
  refine ⟨h1, h2, bu_wf_cg (fun j hj => by rw [(e j hj).1]) h3, by rw [← eh]; exact h4, fun i hi => ?_⟩
  have := h5 i hi
  rw [(e i hi).1, (e i hi).2] at this
  exact this
theorem bu_cp_sh {f f' g : Nat → Int32} {b i j : Nat} (h : f (20 + j) = f' j) : bu_cp f g (20 + b) i (20 + j) = bu_cp f' g b i j := by
  unfold bu_cp
  by_cases z : b ≤ j ∧ j < b + i
  · rw [if_pos z, if_pos (by omega), show 20 + j - (20 + b) = j - b by omega]
  · rw [if_neg z, if_neg (by omega), h]
theorem bu_Prg_add {sc pn nc : Nat} {sst snd pO pV no nv : Nat → Int32} (h : bu_Prg sc pn sst snd pO pV) (hs : sc < 8) (hp : pn + nc ≤ 40) (hE : bu_Ev no nv nc) :
    bu_Prg (sc + 1) (pn + nc) (upd sst sc (nI pn)) (upd snd sc (nI nc)) (bu_cp pO no pn nc) (bu_cp pV nv pn nc) := by
  obtain ⟨h1, h2, h3, h4⟩ := h
  have n20 := hE.2.1
  have c1 : ∀ q, q ≠ sc → bu_cl (upd snd sc (nI nc)) q = bu_cl snd q := by
    intro q hq; unfold bu_cl; rw [pk_un hq]
  have c2 : bu_cl (upd snd sc (nI nc)) sc = nc := by
    unfold bu_cl; rw [pk_us, nI_clamp (by omega)]
  have s1 : ∀ q, q ≤ sc → bu_su (bu_cl (upd snd sc (nI nc))) q = bu_su (bu_cl snd) q := fun q hq => bu_su_cg (fun j hj => c1 j (by omega))
  refine ⟨by omega, hp, ?_, ?_⟩
  · rw [bu_su_s, s1 sc (Nat.le_refl _), c2, ← h3]
  · intro q hq
    by_cases e : q = sc
    · subst e
      rw [s1 q (Nat.le_refl _), c2, pk_us, pk_us, ← h3]
      refine ⟨rfl, rfl, bu_Ev_cg hE (fun i hi => ?_)⟩
      rw [bu_cp_in hi, bu_cp_in hi]; exact ⟨rfl, rfl⟩
    · obtain ⟨a1, a2, a3⟩ := h4 q (by omega)
      rw [s1 q (by omega), c1 q e, pk_un e, pk_un e]
      refine ⟨a1, a2, bu_Ev_cg a3 (fun i hi => ?_)⟩
      have mo := bu_su_mo (f := bu_cl snd) (j := q + 1) (k := sc) (by omega)
      rw [bu_su_s] at mo
      rw [bu_cp_lo (by omega), bu_cp_lo (by omega)]; exact ⟨rfl, rfl⟩
section
variable {f_registers f_nonterminals f_words f_treeLimit f_openSize f_openHeight f_ruleCount f_nodeCount f_rootCount f_labelled f_statementCount f_programNodes f_depth f_lastValue f_spent : Int32} {a_openToken a_openLow a_openHigh a_ruleLhs a_ruleCost a_ruleSize a_ruleToken a_ruleLow a_ruleHigh a_nodeOperator a_nodeValue a_subtreeFirst a_bestCost a_bestLength a_place a_covered a_statementStart a_statementNodes a_statementCost a_statementLength a_programOperator a_programValue a_memory a_arguments a_stack : Nat → Int32}
theorem xs_142 {post : Int32 → SX → Prop} {nc pn sc : Nat} {pO pV : Nat → Int32} (hn : nc ≤ 20) (hp : pn + nc ≤ 40)
    (h : post (nI sc) (f_registers, f_nonterminals, f_words, f_treeLimit, f_openSize, f_openHeight, f_ruleCount, (nI nc), f_rootCount, f_labelled, (nI (sc + 1)), (nI (pn + nc)), f_depth, f_lastValue, f_spent, a_openToken, a_openLow, a_openHigh, a_ruleLhs, a_ruleCost, a_ruleSize, a_ruleToken, a_ruleLow, a_ruleHigh, a_nodeOperator, a_nodeValue, a_subtreeFirst, a_bestCost, a_bestLength, a_place, a_covered, a_statementStart, a_statementNodes, a_statementCost, a_statementLength, (bu_cp pO a_nodeOperator pn nc), (bu_cp pV a_nodeValue pn nc), a_memory, a_arguments, a_stack)) :
    ∀ (fuel j : Nat), nc < j + fuel → j ≤ nc → wX_select_142 post (nI sc) f_registers f_nonterminals f_words f_treeLimit f_openSize f_openHeight f_ruleCount (nI nc) f_rootCount f_labelled f_statementCount (nI pn) f_depth f_lastValue f_spent fuel (nI j) a_openToken a_openLow a_openHigh a_ruleLhs a_ruleCost a_ruleSize a_ruleToken a_ruleLow a_ruleHigh a_nodeOperator a_nodeValue a_subtreeFirst a_bestCost a_bestLength a_place a_covered a_statementStart a_statementNodes a_statementCost a_statementLength (bu_cp pO a_nodeOperator pn j) (bu_cp pV a_nodeValue pn j) a_memory a_arguments a_stack := by
  intro fuel
  induction fuel with
  | zero => intro j hf hj; omega
  | succ fuel ih =>
    intro j hf hj
    rw [wX_select_142]
    dsimp only
    rcases Nat.lt_or_ge j nc with z | z
    · refine br_f (nI_ge z (by omega)) ?_
      have v1 : vp_in (nI j) 20 := vp_in_nI (by omega) (by decide)
      have v2 : vp_in (nI (pn + j)) 40 := vp_in_nI (by omega) (by decide)
      rw [nI_add, nI_clamp (n := j) (by omega), nI_clamp (n := pn + j) (by omega)]
      exact ⟨v1, v2, nm_r bu_cp_s ⟨v1, v2, nm_r bu_cp_s (nm_r (nI_1 j) (ih (j + 1) (by omega) (by omega)))⟩⟩
    · have ej : j = nc := by omega
      subst ej
      exact br_t (nI_le (by omega) (by omega)) (nm_r (nI_add _ _) (nm_r (nI_1 sc) h))
end
section
variable {g_registers g_nonterminals g_words g_treeNodes g_rules g_nodes g_statements g_lastValue g_spent : Int32} {b_lhsOf b_costOf b_tokens b_tokenAt b_lowAt b_highAt b_nodeOp b_nodeValue b_statementCost b_statementLength b_statementNodes b_memory b_arguments b_work b_place b_covered b_bestCost b_bestLength : Nat → Int32}
theorem ys_91 {post : Int32 → SY → Prop} {nc pn sc e : Nat} {nO nV no nv : Nat → Int32} (hn : nc ≤ 20) (hp : pn + nc ≤ 40) (hs : sc < 8) (he : e < 120)
    (eO : ∀ j, j < 20 → nO j = no j) (eV : ∀ j, j < 20 → nV j = nv j)
    (h : post (nI sc) (g_registers, g_nonterminals, g_words, g_treeNodes, g_rules, (nI nc), (nI (sc + 1)), g_lastValue, g_spent, b_lhsOf, b_costOf, b_tokens, b_tokenAt, b_lowAt, b_highAt, (bu_cp nO no (20 + pn) nc), (bu_cp nV nv (20 + pn) nc), (upd b_statementCost sc (b_bestCost e)), (upd b_statementLength sc (b_bestLength e)), (upd b_statementNodes sc (nI nc)), b_memory, b_arguments, b_work, b_place, b_covered, b_bestCost, b_bestLength)) :
    ∀ (fuel j : Nat), nc < j + fuel → j ≤ nc → wY_select_91 post (nI pn) (nI e) g_registers g_nonterminals g_words g_treeNodes g_rules (nI nc) (nI sc) g_lastValue g_spent fuel (nI j) b_lhsOf b_costOf b_tokens b_tokenAt b_lowAt b_highAt (bu_cp nO no (20 + pn) j) (bu_cp nV nv (20 + pn) j) b_statementCost b_statementLength b_statementNodes b_memory b_arguments b_work b_place b_covered b_bestCost b_bestLength := by
  intro fuel
  induction fuel with
  | zero => intro j hf hj; omega
  | succ fuel ih =>
    intro j hf hj
    rw [wY_select_91]
    dsimp only
    have e20 : (20 : Int32) + nI pn = nI (20 + pn) := nI_add 20 pn
    rcases Nat.lt_or_ge j nc with z | z
    · refine br_f (nI_ge z (by omega)) ?_
      have v1 : vp_in (nI j) 60 := vp_in_nI (by omega) (by decide)
      have v2 : vp_in (nI (20 + pn + j)) 60 := vp_in_nI (by omega) (by decide)
      rw [e20, nI_add, nI_clamp (n := j) (by omega), nI_clamp (n := 20 + pn + j) (by omega)]
      have r1 : bu_cp nO no (20 + pn) j j = no j := by rw [bu_cp_lo (by omega)]; exact eO j (by omega)
      have r2 : bu_cp nV nv (20 + pn) j j = nv j := by rw [bu_cp_lo (by omega)]; exact eV j (by omega)
      rw [r1, r2]
      exact ⟨v1, v2, nm_r bu_cp_s ⟨v1, v2, nm_r bu_cp_s (nm_r (nI_1 j) (ih (j + 1) (by omega) (by omega)))⟩⟩
    · have ej : j = nc := by omega
      subst ej
      have v1 : vp_in (nI e) 120 := vp_in_nI he (by decide)
      have v2 : vp_in (nI sc) 8 := vp_in_nI hs (by decide)
      rw [nI_clamp (n := e) (by omega), nI_clamp (n := sc) (by omega)]
      refine br_t (nI_le (by omega) (by omega)) ⟨v1, v2, nm_e ⟨v1, v2, nm_e ⟨v2, nm_e (nm_r (nI_1 sc) ?_)⟩⟩⟩
      rw [nI_pred]
      exact h
end
theorem i_vc_select {k : Nat} {u : SX} {v : SY} (I : i_Rel k u v) (hk : k + 4 ≤ 2052) (v1 : Int32) : wpX_select (fun r u' => wpY_select (fun r' v' => r' = r ∧ i_Rel (k + 4) u' v') v v1) u v1 := by
  refine zz_el (P := fun u v => wpX_select (fun r u' => wpY_select (fun r' v' => r' = r ∧ i_Rel (k + 4) u' v') v v1) u v1) ?_ I
  intro rg nt w tl os rc nc lb sc pn dp lv sp a_openToken a_openLow a_openHigh a_ruleLhs a_ruleCost a_ruleSize a_ruleToken a_ruleLow a_ruleHigh a_nodeOperator a_nodeValue a_subtreeFirst a_bestCost a_bestLength a_place a_covered a_statementStart a_statementNodes a_statementCost a_statementLength a_programOperator a_programValue a_memory a_arguments a_stack b_tokens b_tokenAt b_lowAt b_highAt b_nodeOp b_nodeValue b_work b_place b_covered b_bestCost b_bestLength F
  have F0 := F
  obtain ⟨F1, F2, F3, F4, F5, F6, F7⟩ := F
  have D := bu_dat F1 F3 F4
  have D' := D
  obtain ⟨d1, d2, d3, d4, d5, d6, d7⟩ := D'
  have F7' := F7
  obtain ⟨eS, e24, eT, eL, eH, eo, eO, eV, eP⟩ := F7'
  have hl := bu_h_le (a := fun i => bu_ar (a_nodeOperator i)) nc
  have s8 := F6.1
  have p40 := F6.2.1
  have hsn : ∀ j, j < sc → a_statementNodes j = nI (bu_cl a_statementNodes j) := fun j hj => (F6.2.2.2 j hj).2.1
  have epn := F6.2.2.1
  unfold wpX_select
  rcases bu_em v1 (n := rg) (by omega) with h | ⟨t, ht, rfl⟩
  · refine bu_out h ?_
    unfold wpY_select
    exact bu_out h ⟨rfl, zz_in F0⟩
  · refine bu_inn ht (by omega) ?_
    by_cases z : bu_h (fun i => bu_ar (a_nodeOperator i)) nc = 1
    · have z1 : nI (bu_h (fun i => bu_ar (a_nodeOperator i)) nc) = 1 := by rw [z]; rfl
      refine br_t z1 ?_
      rcases Nat.lt_or_ge sc 8 with y | y
      · refine br_t (nI_lt (b := 8) y (by decide)) ?_
        rw [nI_add]
        rcases Nat.lt_or_ge 40 (pn + nc) with x | x
        · refine br_f (nI_ge (a := 40) x (by omega)) ?_
          unfold wpY_select
          refine bu_inn ht (by omega) (yr_roots d5 eO d6 (br_t z1 (br_t (nI_lt (b := 8) y (by decide)) (yn_before s8 hsn ?_))))
          rw [← epn, nI_add]
          exact br_f (nI_ge (a := 40) x (by omega)) ⟨rfl, zz_in F0⟩
        · refine br_t (nI_le (b := 40) x (by decide)) ?_
          obtain ⟨n, en⟩ : ∃ n, nc = n + 1 := ⟨nc - 1, by omega⟩
          have hn : n < nc := by omega
          have en1 : nI nc - 1 = nI n := by rw [en, nI_pred]
          have E : bu_Ev a_nodeOperator a_nodeValue nc := ⟨by omega, d5, F4.2.1, z, fun i hi => ⟨(F4.2.2 i hi).1, (F4.2.2 i hi).2.1⟩⟩
          refine nm_r en1 ?_
          refine xn_upTo D hn F5.1 (fun j hj => (F4.2.2 j hj).2.2) F5.2 (fun P C bc bl lb' h1 h2 hC => ?_)
          have hv : vp_in (nI (6 * n + t)) 120 := vp_in_nI (by omega) (by decide)
          have hv8 : vp_in (nI sc) 8 := vp_in_nI y (by decide)
          rw [bu_x6, nI_add]
          refine nm_e ⟨hv, ?_⟩
          rw [nI_clamp (n := 6 * n + t) (by omega), nI_clamp (n := sc) (by omega)]
          -- the reference, up to its test
          have Y : ∀ (r0 : Int32) (ux : SX), (¬ 0 ≤ bc (6 * n + t) → r0 = -6 ∧ ux = ((nI rg), (nI nt), (nI w), (nI tl), (nI os), (nI (bu_h (fun i => bu_ar (a_openToken i)) os)), (nI rc), (nI nc), (nI (bu_h (fun i => bu_ar (a_nodeOperator i)) nc)), (nI lb'), (nI sc), (nI pn), dp, lv, sp, a_openToken, a_openLow, a_openHigh, a_ruleLhs, a_ruleCost, a_ruleSize, a_ruleToken, a_ruleLow, a_ruleHigh, a_nodeOperator, a_nodeValue, a_subtreeFirst, bc, bl, P, C, a_statementStart, a_statementNodes, a_statementCost, a_statementLength, a_programOperator, a_programValue, a_memory, a_arguments, a_stack)) →
              (0 ≤ bc (6 * n + t) → r0 = nI sc ∧ ux = ((nI rg), (nI nt), (nI w), (nI tl), (nI os), (nI (bu_h (fun i => bu_ar (a_openToken i)) os)), (nI rc), (nI nc), (nI (bu_h (fun i => bu_ar (a_nodeOperator i)) nc)), (nI lb'), (nI (sc + 1)), (nI (pn + nc)), dp, lv, sp, a_openToken, a_openLow, a_openHigh, a_ruleLhs, a_ruleCost, a_ruleSize, a_ruleToken, a_ruleLow, a_ruleHigh, a_nodeOperator, a_nodeValue, a_subtreeFirst, bc, bl, P, C, (upd a_statementStart sc (nI pn)), (upd a_statementNodes sc (nI nc)), (upd a_statementCost sc (bc (6 * n + t))), (upd a_statementLength sc (bl (6 * n + t))), (bu_cp a_programOperator a_nodeOperator pn nc), (bu_cp a_programValue a_nodeValue pn nc), a_memory, a_arguments, a_stack)) →
              wpY_select (fun r' v' => r' = r0 ∧ i_Rel (k + 4) ux v') ((nI rg), (nI nt), (nI w), (nI tl), (nI rc), (nI nc), (nI sc), lv, sp, a_ruleLhs, a_ruleCost, b_tokens, b_tokenAt, b_lowAt, b_highAt, b_nodeOp, b_nodeValue, a_statementCost, a_statementLength, a_statementNodes, a_memory, a_arguments, b_work, b_place, b_covered, b_bestCost, b_bestLength) (nI t) := by
            intro r0 ux y1 y2
            unfold wpY_select
            refine bu_inn ht (by omega) (yr_roots d5 eO d6 (br_t z1 (br_t (nI_lt (b := 8) y (by decide)) (yn_before s8 hsn ?_))))
            rw [← epn, nI_add]
            refine br_t (nI_le (b := 40) x (by decide)) ?_
            refine yd_derive D eT eL eH eS eO eV (fun P' C' bc' bl' hC' => ?_)
            have tw := bu_two hC hC' (e := 6 * n + t) (by omega) (by omega) (bu_L_lo D (e := 6 * n + t) (n := lb') (m := nc) (by omega) h2).symm
            dsimp only
            rw [en1, bu_x6, nI_add]
            refine nm_e ⟨hv, ?_⟩
            rw [nI_clamp (n := 6 * n + t) (by omega), ← tw.1]
            by_cases zz : 0 ≤ bc (6 * n + t)
            · refine br_t zz ⟨nc + 1, ?_⟩
              obtain ⟨y3, y4⟩ := y2 zz
              have key := ys_91 (post := fun r' v' => r' = r0 ∧ i_Rel (k + 4) ux v') (nc := nc) (pn := pn) (sc := sc) (e := 6 * n + t) (nO := b_nodeOp) (nV := b_nodeValue) (no := a_nodeOperator) (nv := a_nodeValue) (g_registers := nI rg) (g_nonterminals := nI nt) (g_words := nI w) (g_treeNodes := nI tl) (g_rules := nI rc) (g_lastValue := lv) (g_spent := sp) (b_lhsOf := a_ruleLhs) (b_costOf := a_ruleCost) (b_tokens := b_tokens) (b_tokenAt := b_tokenAt) (b_lowAt := b_lowAt) (b_highAt := b_highAt) (b_statementCost := a_statementCost) (b_statementLength := a_statementLength) (b_statementNodes := a_statementNodes) (b_memory := a_memory) (b_arguments := a_arguments) (b_work := b_work) (b_place := P') (b_covered := C') (b_bestCost := bc') (b_bestLength := bl') d5 x y (by omega) eO eV (by
                refine ⟨y3.symm, ?_⟩
                rw [y4, ← tw.1, ← tw.2 zz]
                refine zz_in ⟨F1, F2, F3, F4, ⟨h2, hC⟩, bu_Prg_add F6 y x E, ⟨eS, e24, eT, eL, eH, eo, fun j hj => by rw [bu_cp_lo (by omega)]; exact eO j hj, fun j hj => by rw [bu_cp_lo (by omega)]; exact eV j hj, fun j hj => ⟨bu_cp_sh (eP j hj).1, bu_cp_sh (eP j hj).2⟩⟩⟩) (nc + 1) 0 (by omega) (by omega)
              rw [bu_cp_0, bu_cp_0] at key
              exact key
            · obtain ⟨y3, y4⟩ := y1 zz
              refine br_f zz ⟨y3.symm, ?_⟩
              rw [y4]
              exact zz_in ⟨F1, F2, F3, F4, ⟨h2, hC⟩, F6, F7⟩
          by_cases zz : 0 ≤ bc (6 * n + t)
          · refine br_t zz ⟨hv8, nm_e ⟨hv8, nm_e ⟨hv, hv8, nm_e ⟨hv, hv8, nm_e ⟨nc + 1, ?_⟩⟩⟩⟩⟩
            have key := xs_142 (post := fun r u' => wpY_select (fun r' v' => r' = r ∧ i_Rel (k + 4) u' v') ((nI rg), (nI nt), (nI w), (nI tl), (nI rc), (nI nc), (nI sc), lv, sp, a_ruleLhs, a_ruleCost, b_tokens, b_tokenAt, b_lowAt, b_highAt, b_nodeOp, b_nodeValue, a_statementCost, a_statementLength, a_statementNodes, a_memory, a_arguments, b_work, b_place, b_covered, b_bestCost, b_bestLength) (nI t)) (nc := nc) (pn := pn) (sc := sc) (pO := a_programOperator) (pV := a_programValue) (f_registers := nI rg) (f_nonterminals := nI nt) (f_words := nI w) (f_treeLimit := nI tl) (f_openSize := nI os) (f_openHeight := nI (bu_h (fun i => bu_ar (a_openToken i)) os)) (f_ruleCount := nI rc) (f_rootCount := nI (bu_h (fun i => bu_ar (a_nodeOperator i)) nc)) (f_labelled := nI lb') (f_statementCount := nI sc) (f_depth := dp) (f_lastValue := lv) (f_spent := sp) (a_openToken := a_openToken) (a_openLow := a_openLow) (a_openHigh := a_openHigh) (a_ruleLhs := a_ruleLhs) (a_ruleCost := a_ruleCost) (a_ruleSize := a_ruleSize) (a_ruleToken := a_ruleToken) (a_ruleLow := a_ruleLow) (a_ruleHigh := a_ruleHigh) (a_nodeOperator := a_nodeOperator) (a_nodeValue := a_nodeValue) (a_subtreeFirst := a_subtreeFirst) (a_bestCost := bc) (a_bestLength := bl) (a_place := P) (a_covered := C) (a_statementStart := upd a_statementStart sc (nI pn)) (a_statementNodes := upd a_statementNodes sc (nI nc)) (a_statementCost := upd a_statementCost sc (bc (6 * n + t))) (a_statementLength := upd a_statementLength sc (bl (6 * n + t))) (a_memory := a_memory) (a_arguments := a_arguments) (a_stack := a_stack) d5 x (Y _ _ (fun q => absurd zz q) (fun _ => ⟨rfl, rfl⟩)) (nc + 1) 0 (by omega) (by omega)
            rw [bu_cp_0, bu_cp_0] at key
            exact key
          · exact br_f zz (Y _ _ (fun _ => ⟨rfl, rfl⟩) (fun q => absurd q zz))
      · have n8 : ¬ nI sc < 8 := nI_nlt (b := 8) y (by omega)
        refine br_f n8 ?_
        unfold wpY_select
        exact bu_inn ht (by omega) (yr_roots d5 eO d6 (br_t z1 (br_f n8 ⟨rfl, zz_in F0⟩)))
    · have nz : ¬ nI (bu_h (fun i => bu_ar (a_nodeOperator i)) nc) = 1 := fun q => z ((nI_eq (a := bu_h (fun i => bu_ar (a_nodeOperator i)) nc) (b := 1) (by omega) (by decide)).mp q)
      refine br_f nz ?_
      unfold wpY_select
      exact bu_inn ht (by omega) (yr_roots d5 eO d6 (br_f nz ⟨rfl, zz_in F0⟩))
/-! run -/
def bu_rr (sn : Nat → Nat) (pO pV : Nat → Int32) (wd : Int32) (arg cost : Nat → Int32) (first : Nat) (S0 m0 : Nat → Int32) (lv0 sp0 : Int32) : Nat → (Nat → Int32) × (Nat → Int32) × Int32 × Int32
  | 0 => (S0, m0, lv0, sp0)
  | j + 1 => ((bu_rn (fun i => pO (bu_su sn (first + j) + i)) (fun i => pV (bu_su sn (first + j) + i)) wd arg (bu_rr sn pO pV wd arg cost first S0 m0 lv0 sp0 j).1 (bu_rr sn pO pV wd arg cost first S0 m0 lv0 sp0 j).2.1 (sn (first + j))).1,
      (bu_rn (fun i => pO (bu_su sn (first + j) + i)) (fun i => pV (bu_su sn (first + j) + i)) wd arg (bu_rr sn pO pV wd arg cost first S0 m0 lv0 sp0 j).1 (bu_rr sn pO pV wd arg cost first S0 m0 lv0 sp0 j).2.1 (sn (first + j))).2,
      (bu_rn (fun i => pO (bu_su sn (first + j) + i)) (fun i => pV (bu_su sn (first + j) + i)) wd arg (bu_rr sn pO pV wd arg cost first S0 m0 lv0 sp0 j).1 (bu_rr sn pO pV wd arg cost first S0 m0 lv0 sp0 j).2.1 (sn (first + j))).1 0,
      (bu_rr sn pO pV wd arg cost first S0 m0 lv0 sp0 j).2.2.2 + cost (first + j))
section
variable {f_registers f_nonterminals f_words f_treeLimit f_openSize f_openHeight f_ruleCount f_nodeCount f_rootCount f_labelled f_statementCount f_programNodes f_depth f_lastValue f_spent : Int32} {a_openToken a_openLow a_openHigh a_ruleLhs a_ruleCost a_ruleSize a_ruleToken a_ruleLow a_ruleHigh a_nodeOperator a_nodeValue a_subtreeFirst a_bestCost a_bestLength a_place a_covered a_statementStart a_statementNodes a_statementCost a_statementLength a_programOperator a_programValue a_memory a_arguments a_stack : Nat → Int32}
theorem xr_36 {post : Int32 → SX → Prop} {sc pn first cnt : Nat} {S0 m0 : Nat → Int32} {lv0 sp0 : Int32} (hP : bu_Prg sc pn a_statementStart a_statementNodes a_programOperator a_programValue) (hm : bu_Msk f_words) (hc : first + cnt ≤ sc)
    (h : ∀ dp, post 0 (f_registers, f_nonterminals, f_words, f_treeLimit, f_openSize, f_openHeight, f_ruleCount, f_nodeCount, f_rootCount, f_labelled, f_statementCount, f_programNodes, dp, ((bu_rr (bu_cl a_statementNodes) a_programOperator a_programValue f_words a_arguments a_statementCost first S0 m0 lv0 sp0 cnt).2.2.1), ((bu_rr (bu_cl a_statementNodes) a_programOperator a_programValue f_words a_arguments a_statementCost first S0 m0 lv0 sp0 cnt).2.2.2), a_openToken, a_openLow, a_openHigh, a_ruleLhs, a_ruleCost, a_ruleSize, a_ruleToken, a_ruleLow, a_ruleHigh, a_nodeOperator, a_nodeValue, a_subtreeFirst, a_bestCost, a_bestLength, a_place, a_covered, a_statementStart, a_statementNodes, a_statementCost, a_statementLength, a_programOperator, a_programValue, ((bu_rr (bu_cl a_statementNodes) a_programOperator a_programValue f_words a_arguments a_statementCost first S0 m0 lv0 sp0 cnt).2.1), a_arguments, ((bu_rr (bu_cl a_statementNodes) a_programOperator a_programValue f_words a_arguments a_statementCost first S0 m0 lv0 sp0 cnt).1))) :
    ∀ (fuel j : Nat) (dp : Int32), cnt < j + fuel → j ≤ cnt → wX_run_36 post (nI (first + cnt)) fuel (nI (first + j)) f_registers f_nonterminals f_words f_treeLimit f_openSize f_openHeight f_ruleCount f_nodeCount f_rootCount f_labelled f_statementCount f_programNodes dp ((bu_rr (bu_cl a_statementNodes) a_programOperator a_programValue f_words a_arguments a_statementCost first S0 m0 lv0 sp0 j).2.2.1) ((bu_rr (bu_cl a_statementNodes) a_programOperator a_programValue f_words a_arguments a_statementCost first S0 m0 lv0 sp0 j).2.2.2) a_openToken a_openLow a_openHigh a_ruleLhs a_ruleCost a_ruleSize a_ruleToken a_ruleLow a_ruleHigh a_nodeOperator a_nodeValue a_subtreeFirst a_bestCost a_bestLength a_place a_covered a_statementStart a_statementNodes a_statementCost a_statementLength a_programOperator a_programValue ((bu_rr (bu_cl a_statementNodes) a_programOperator a_programValue f_words a_arguments a_statementCost first S0 m0 lv0 sp0 j).2.1) a_arguments ((bu_rr (bu_cl a_statementNodes) a_programOperator a_programValue f_words a_arguments a_statementCost first S0 m0 lv0 sp0 j).1) := by
  obtain ⟨h1, h2, h3, h4⟩ := hP
  intro fuel
  induction fuel with
  | zero => intro j dp hf hj; omega
  | succ fuel ih =>
    intro j dp hf hj
    rw [wX_run_36]
    dsimp only
    rcases Nat.lt_or_ge j cnt with z | z
    · refine br_f (nI_ge (by omega) (by omega)) ?_
      obtain ⟨a1, a2, a3⟩ := h4 (first + j) (by omega)
      have mo := bu_su_mo (f := bu_cl a_statementNodes) (j := first + j + 1) (k := sc) (by omega)
      rw [bu_su_s] at mo
      refine xe_stm (by omega) (by omega) a1 a2 a3 hm (nm_r (nI_1 (first + j)) ?_)
      exact ih (j + 1) (nI 1) (by omega) (by omega)
    · have ej : j = cnt := by omega
      subst ej
      exact br_t (nI_le (by omega) (by omega)) (h dp)
end
section
variable {g_registers g_nonterminals g_words g_treeNodes g_rules g_nodes g_statements g_lastValue g_spent : Int32} {b_lhsOf b_costOf b_tokens b_tokenAt b_lowAt b_highAt b_nodeOp b_nodeValue b_statementCost b_statementLength b_statementNodes b_memory b_arguments b_work b_place b_covered b_bestCost b_bestLength : Nat → Int32}
variable {a_statementStart a_programOperator a_programValue : Nat → Int32}
theorem yr_35 {post : Int32 → SY → Prop} {sc pn first cnt : Nat} {S0 m0 : Nat → Int32} {lv0 sp0 : Int32} (hP : bu_Prg sc pn a_statementStart b_statementNodes a_programOperator a_programValue) (hm : bu_Msk g_words) (hc : first + cnt ≤ sc)
    (eP : ∀ j, j < 40 → b_nodeOp (20 + j) = a_programOperator j ∧ b_nodeValue (20 + j) = a_programValue j)
    (h : ∀ W, post 0 (g_registers, g_nonterminals, g_words, g_treeNodes, g_rules, g_nodes, g_statements, ((bu_rr (bu_cl b_statementNodes) a_programOperator a_programValue g_words b_arguments b_statementCost first S0 m0 lv0 sp0 cnt).2.2.1), ((bu_rr (bu_cl b_statementNodes) a_programOperator a_programValue g_words b_arguments b_statementCost first S0 m0 lv0 sp0 cnt).2.2.2), b_lhsOf, b_costOf, b_tokens, b_tokenAt, b_lowAt, b_highAt, b_nodeOp, b_nodeValue, b_statementCost, b_statementLength, b_statementNodes, ((bu_rr (bu_cl b_statementNodes) a_programOperator a_programValue g_words b_arguments b_statementCost first S0 m0 lv0 sp0 cnt).2.1), b_arguments, W, b_place, b_covered, b_bestCost, b_bestLength)) :
    ∀ (fuel j : Nat) (W : Nat → Int32), cnt < j + fuel → j ≤ cnt → wY_run_35 post (nI first) (nI cnt) fuel (nI (first + j)) g_registers g_nonterminals g_words g_treeNodes g_rules g_nodes g_statements ((bu_rr (bu_cl b_statementNodes) a_programOperator a_programValue g_words b_arguments b_statementCost first S0 m0 lv0 sp0 j).2.2.1) ((bu_rr (bu_cl b_statementNodes) a_programOperator a_programValue g_words b_arguments b_statementCost first S0 m0 lv0 sp0 j).2.2.2) b_lhsOf b_costOf b_tokens b_tokenAt b_lowAt b_highAt b_nodeOp b_nodeValue b_statementCost b_statementLength b_statementNodes ((bu_rr (bu_cl b_statementNodes) a_programOperator a_programValue g_words b_arguments b_statementCost first S0 m0 lv0 sp0 j).2.1) b_arguments W b_place b_covered b_bestCost b_bestLength := by
  obtain ⟨h1, h2, h3, h4⟩ := hP
  intro fuel
  induction fuel with
  | zero => intro j W hf hj; omega
  | succ fuel ih =>
    intro j W hf hj
    rw [wY_run_35]
    dsimp only
    rw [nI_add]
    rcases Nat.lt_or_ge j cnt with z | z
    · refine br_f (nI_ge (by omega) (by omega)) ?_
      obtain ⟨a1, a2, a3⟩ := h4 (first + j) (by omega)
      have mo := bu_su_mo (f := bu_cl b_statementNodes) (j := first + j + 1) (k := sc) (by omega)
      rw [bu_su_s] at mo
      have hv : vp_in (nI (first + j)) 8 := vp_in_nI (by omega) (by decide)
      have e20 : (20 : Int32) + nI (bu_su (bu_cl b_statementNodes) (first + j)) = nI (20 + bu_su (bu_cl b_statementNodes) (first + j)) := nI_add 20 _
      refine yn_before (by omega) (fun i hi => (h4 i (by omega)).2.1) ⟨hv, ?_⟩
      rw [nI_clamp (n := first + j) (by omega), a2, e20]
      refine yf_perf (S0 := (bu_rr (bu_cl b_statementNodes) a_programOperator a_programValue g_words b_arguments b_statementCost first S0 m0 lv0 sp0 j).1) (by omega) a3 hm (fun i hi => ?_) (fun i hi => ?_) (fun W' => ?_)
      · rw [show 20 + bu_su (bu_cl b_statementNodes) (first + j) + i = 20 + (bu_su (bu_cl b_statementNodes) (first + j) + i) by omega]
        exact (eP _ (by omega)).1
      · rw [show 20 + bu_su (bu_cl b_statementNodes) (first + j) + i = 20 + (bu_su (bu_cl b_statementNodes) (first + j) + i) by omega]
        exact (eP _ (by omega)).2
      · exact ⟨hv, nm_e (nm_r (nI_1 (first + j)) (ih (j + 1) W' (by omega) (by omega)))⟩
    · have ej : j = cnt := by omega
      subst ej
      exact br_t (nI_le (by omega) (by omega)) (h W)
end
theorem bu_em1 (x : Int32) : ¬ 1 ≤ x ∨ ∃ c : Nat, 1 ≤ c ∧ c < 2 ^ 31 ∧ x = nI c := by
  by_cases z : 1 ≤ x
  · refine Or.inr ?_
    have h0 : ¬ x < 0 := by
      intro q
      rw [Int32.lt_iff_toInt_lt] at q
      rw [Int32.le_iff_toInt_le] at z
      have : (0 : Int32).toInt = 0 := by decide
      have : (1 : Int32).toInt = 1 := by decide
      omega
    obtain ⟨j, j1, rfl⟩ := nI_of h0
    exact ⟨j, (nI_leI (a := 1) (b := j) (by decide) j1).mp z, j1, rfl⟩
  · exact Or.inl z
theorem i_vc_run {k : Nat} {u : SX} {v : SY} (I : i_Rel k u v) (hk : k + 4 ≤ 2052) (v1 : Int32) (v2 : Int32) : wpX_run (fun r u' => wpY_run (fun r' v' => r' = r ∧ i_Rel (k + 4) u' v') v v1 v2) u v1 v2 := by
  refine zz_el (P := fun u v => wpX_run (fun r u' => wpY_run (fun r' v' => r' = r ∧ i_Rel (k + 4) u' v') v v1 v2) u v1 v2) ?_ I
  intro rg nt w tl os rc nc lb sc pn dp lv sp a_openToken a_openLow a_openHigh a_ruleLhs a_ruleCost a_ruleSize a_ruleToken a_ruleLow a_ruleHigh a_nodeOperator a_nodeValue a_subtreeFirst a_bestCost a_bestLength a_place a_covered a_statementStart a_statementNodes a_statementCost a_statementLength a_programOperator a_programValue a_memory a_arguments a_stack b_tokens b_tokenAt b_lowAt b_highAt b_nodeOp b_nodeValue b_work b_place b_covered b_bestCost b_bestLength F
  have F0 := F
  obtain ⟨F1, F2, F3, F4, F5, F6, F7⟩ := F
  have hm := F1.2.2.2.2.2.1
  have s8 := F6.1
  have F7' := F7
  obtain ⟨eS, e24, eT, eL, eH, eo, eO, eV, eP⟩ := F7'
  unfold wpX_run
  rcases bu_em v1 (n := sc) (by omega) with h | ⟨q, hq, rfl⟩
  · refine xi_stm0 h (br_t rfl ?_)
    unfold wpY_run
    exact bu_out h ⟨rfl, zz_in F0⟩
  · refine xi_stm1 hq (by omega) (br_f (by decide) ?_)
    rw [pk_sub (by omega)]
    rcases bu_em1 v2 with h | ⟨c, c1, c2, rfl⟩
    · refine br_f h ?_
      unfold wpY_run
      exact bu_inn hq (by omega) (br_f h ⟨rfl, zz_in F0⟩)
    · have a1 : (1 : Int32) ≤ nI c := nI_le (a := 1) c1 c2
      refine br_t a1 ?_
      rcases Nat.lt_or_ge (sc - q) c with y | y
      · refine br_f (nI_ge y c2) ?_
        unfold wpY_run
        dsimp only
        rw [pk_sub (by omega)]
        exact bu_inn hq (by omega) (br_t a1 (br_f (nI_ge y c2) ⟨rfl, zz_in F0⟩))
      · refine br_t (nI_le y (by omega)) (nm_r (nI_add _ _) ⟨c + 1, ?_⟩)
        refine xr_36 (S0 := a_stack) (m0 := a_memory) (lv0 := lv) (sp0 := sp) F6 hm (by omega) (fun dp' => ?_) (c + 1) 0 dp (by omega) (by omega)
        unfold wpY_run
        dsimp only
        rw [pk_sub (by omega)]
        refine bu_inn hq (by omega) (br_t a1 (br_t (nI_le y (by omega)) ⟨c + 1, ?_⟩))
        exact yr_35 (S0 := a_stack) (m0 := a_memory) (lv0 := lv) (sp0 := sp) F6 hm (by omega) eP (fun W => ⟨rfl, zz_in ⟨F1, F2, F3, F4, F5, F6, F7⟩⟩) (c + 1) 0 b_work (by omega) (by omega)
end
section
/-! push: labels of older nodes stay -/
theorem bu_rx_cg {M M' : Nat → Nat → Bool} {O O' : Nat → Nat → (Nat → Nat) → Nat} {lh : Nat → Nat} {r n : Nat} (V : Nat → Nat) (hM : M r n = M' r n) (hO : ∀ V, O r n V = O' r n V) : bu_rx M O lh r n V = bu_rx M' O' lh r n V := by
  funext e
  unfold bu_rx
  rw [hM, hO]
theorem bu_ps_cg {M M' : Nat → Nat → Bool} {O O' : Nat → Nat → (Nat → Nat) → Nat} {lh : Nat → Nat} {sel : Nat → Bool} {n : Nat} (V : Nat → Nat) : ∀ {k : Nat}, (∀ r, r < k → M r n = M' r n) → (∀ r V, r < k → O r n V = O' r n V) → bu_ps M O lh sel n k V = bu_ps M' O' lh sel n k V
  | 0, _, _ => rfl
  | k + 1, hM, hO => by
    have i := bu_ps_cg (lh := lh) (sel := sel) V (k := k) (fun r hr => hM r (by omega)) (fun r V hr => hO r V (by omega))
    rw [bu_ps_s, bu_ps_s, i, bu_rx_cg _ (hM k (by omega)) (fun V => hO k V (by omega))]
theorem bu_J_cg {O O' : Nat → Nat → (Nat → Nat) → Nat} {lh : Nat → Nat} {ch : Nat → Bool} {n : Nat} (V : Nat → Nat) : ∀ {k : Nat}, (∀ r V, r < k → O r n V = O' r n V) → bu_J O lh ch n k V = bu_J O' lh ch n k V
  | 0, _ => rfl
  | k + 1, hO => by
    have i := bu_J_cg (lh := lh) (ch := ch) V (k := k) (fun r V hr => hO r V (by omega))
    funext e
    rw [bu_J_s, bu_J_s, i, hO k V (by omega)]
theorem bu_lab_cg {M M' : Nat → Nat → Bool} {O O' : Nat → Nat → (Nat → Nat) → Nat} {lh : Nat → Nat} {ch : Nat → Bool} {rc nt : Nat} : ∀ {n : Nat}, (∀ r m, r < rc → m < n → M r m = M' r m) → (∀ r m V, r < rc → m < n → O r m V = O' r m V) → bu_lab M O lh ch rc nt n = bu_lab M' O' lh ch rc nt n
  | 0, _, _ => rfl
  | n + 1, hM, hO => by
    have i := bu_lab_cg (lh := lh) (ch := ch) (nt := nt) (n := n) (fun r m hr hm => hM r m hr (by omega)) (fun r m V hr hm => hO r m V hr (by omega))
    have j : bu_J O lh ch n rc = bu_J O' lh ch n rc := by
      funext V
      exact bu_J_cg V (fun r V hr => hO r n V hr (by omega))
    rw [bu_lab_s, bu_lab_s, i, j, bu_ps_cg _ (fun r hr => hM r n hr (by omega)) (fun r V hr => hO r n V hr (by omega))]
theorem bu_L_cg {rg nt rc nc lb : Nat} {tk lo hi size lhs cost no nv no' nv' : Nat → Int32} (hN : bu_Nod no nc) (hl : lb ≤ nc) (h : ∀ j, j < nc → no j = no' j) (h' : ∀ j, j < nc → nv j = nv' j) : bu_L rg nt rc tk lo hi size lhs cost no nv lb = bu_L rg nt rc tk lo hi size lhs cost no' nv' lb := by
  refine bu_lab_cg (fun r m hr hm => ?_) (fun r m V hr hm => ?_)
  · unfold bu_M
    refine congrArg bu_b (propext ?_)
    rw [bu_ok_cg hN (show m < nc by omega) h h', bu_sf_cg hN (show m < nc by omega) h]
  · unfold bu_O
    refine congrArg (fun z => bu_w rg lhs cost r + z) (bu_su_cg (fun i hi' => ?_))
    unfold bu_lf bu_en
    rw [(bu_cu_cg (tk := tk) (b := 7 * r) (s := bu_cl size r) hN (show m < nc by omega) h (bu_cl size r - 1 - i)).1]
theorem bu_upd_h {no : Nat → Int32} {nc : Nat} {op : Int32} : bu_h (fun i => bu_ar (upd no nc op i)) nc = bu_h (fun i => bu_ar (no i)) nc :=
  bu_h_cg (fun j hj => by rw [pk_un (by omega)])
theorem bu_Nod_add {no : Nat → Int32} {nc : Nat} {op : Int32} (hN : bu_Nod no nc) (h : bu_ar op ≤ bu_h (fun i => bu_ar (no i)) nc) : bu_Nod (upd no nc op) (nc + 1) := by
  refine bu_wf_s (bu_Nod_cg (fun j hj => (pk_un (by omega)).symm) hN) ?_
  show bu_ar (upd no nc op nc) ≤ bu_h (fun i => bu_ar (upd no nc op i)) nc
  rw [bu_upd_h, pk_us]; exact h
section
variable {f_registers f_nonterminals f_words f_treeLimit f_openSize f_openHeight f_ruleCount f_nodeCount f_rootCount f_labelled f_statementCount f_programNodes f_depth f_lastValue f_spent : Int32} {a_openToken a_openLow a_openHigh a_ruleLhs a_ruleCost a_ruleSize a_ruleToken a_ruleLow a_ruleHigh a_nodeOperator a_nodeValue a_subtreeFirst a_bestCost a_bestLength a_place a_covered a_statementStart a_statementNodes a_statementCost a_statementLength a_programOperator a_programValue a_memory a_arguments a_stack : Nat → Int32}
theorem xp_102 {post : Int32 → SX → Prop} {nc a f h0 : Nat} {F : Nat → Nat} (hn : nc < 20) (ha : a ≤ h0) (hsf : ∀ j, j < nc → a_subtreeFirst j = nI (F j))
    (h : post (nI nc) (f_registers, f_nonterminals, f_words, f_treeLimit, f_openSize, f_openHeight, f_ruleCount, (nI (nc + 1)), (nI (h0 + 1 - a)), f_labelled, f_statementCount, f_programNodes, f_depth, f_lastValue, f_spent, a_openToken, a_openLow, a_openHigh, a_ruleLhs, a_ruleCost, a_ruleSize, a_ruleToken, a_ruleLow, a_ruleHigh, a_nodeOperator, a_nodeValue, (upd a_subtreeFirst nc (nI f)), a_bestCost, a_bestLength, a_place, a_covered, a_statementStart, a_statementNodes, a_statementCost, a_statementLength, a_programOperator, a_programValue, a_memory, a_arguments, a_stack)) :
    ∀ (fuel c y : Nat), a < c + fuel → c ≤ a → y ≤ nc → bu_T F (a - c) f y → a ≤ 2 → wX_push_102 post (nI a) (nI nc) f_registers f_nonterminals f_words f_treeLimit f_openSize f_openHeight f_ruleCount f_nodeCount (nI h0) f_labelled f_statementCount f_programNodes f_depth f_lastValue f_spent a_openToken a_openLow a_openHigh a_ruleLhs a_ruleCost a_ruleSize a_ruleToken a_ruleLow a_ruleHigh a_nodeOperator a_nodeValue a_subtreeFirst a_bestCost a_bestLength a_place a_covered a_statementStart a_statementNodes a_statementCost a_statementLength a_programOperator a_programValue a_memory a_arguments a_stack fuel (nI y) (nI c) := by
  intro fuel
  induction fuel with
  | zero => intro c y hf hc; omega
  | succ fuel ih =>
    intro c y hf hc hy hT a2
    rw [wX_push_102]
    rcases Nat.lt_or_ge c a with z | z
    · refine br_f (nI_ge z (by omega)) ?_
      rw [show a - c = (a - (c + 1)) + 1 by omega] at hT
      obtain ⟨t1, t2, t3⟩ := hT
      obtain ⟨y', rfl⟩ : ∃ y', y = y' + 1 := ⟨y - 1, by omega⟩
      rw [Nat.add_sub_cancel] at t2 t3
      refine br_f (nI_nle (by omega) (by omega)) ?_
      rw [nI_pred, nI_clamp (n := y') (by omega), hsf y' (by omega)]
      exact ⟨vp_in_nI (by omega) (by decide), nm_e (nm_r (nI_1 c) (ih (c + 1) _ (by omega) (by omega) (by omega) t3 a2))⟩
    · have ec : c = a := by omega
      subst ec
      rw [Nat.sub_self] at hT
      have ey := bu_T_0 hT
      subst ey
      refine br_t (nI_le (by omega) (by omega)) ⟨vp_in_nI (by omega) (by decide), ?_⟩
      rw [nI_clamp (n := nc) (by omega)]
      exact nm_e (nm_r (nI_1 nc) (nm_r (bu_hs' ha) h))
theorem xp_26 {post : Int32 → SX → Prop} {nc tl h0 f : Nat} {op v : Int32} {F : Nat → Nat} (hop : bu_op op) (hnt : nc ≤ tl) (ht : tl ≤ 20) (hh : h0 ≤ 20) (hsf : ∀ j, j < nc → a_subtreeFirst j = nI (F j)) (hT : bu_ar op ≤ h0 → bu_T F (bu_ar op) f nc)
    (h2 : ¬ nc < tl → post (-2) (f_registers, f_nonterminals, f_words, (nI tl), f_openSize, f_openHeight, f_ruleCount, (nI nc), (nI h0), f_labelled, f_statementCount, f_programNodes, f_depth, f_lastValue, f_spent, a_openToken, a_openLow, a_openHigh, a_ruleLhs, a_ruleCost, a_ruleSize, a_ruleToken, a_ruleLow, a_ruleHigh, a_nodeOperator, a_nodeValue, a_subtreeFirst, a_bestCost, a_bestLength, a_place, a_covered, a_statementStart, a_statementNodes, a_statementCost, a_statementLength, a_programOperator, a_programValue, a_memory, a_arguments, a_stack))
    (h3 : nc < tl → ¬ bu_ar op ≤ h0 → post (-3) (f_registers, f_nonterminals, f_words, (nI tl), f_openSize, f_openHeight, f_ruleCount, (nI nc), (nI h0), f_labelled, f_statementCount, f_programNodes, f_depth, f_lastValue, f_spent, a_openToken, a_openLow, a_openHigh, a_ruleLhs, a_ruleCost, a_ruleSize, a_ruleToken, a_ruleLow, a_ruleHigh, a_nodeOperator, a_nodeValue, a_subtreeFirst, a_bestCost, a_bestLength, a_place, a_covered, a_statementStart, a_statementNodes, a_statementCost, a_statementLength, a_programOperator, a_programValue, a_memory, a_arguments, a_stack))
    (h : nc < tl → bu_ar op ≤ h0 → post (nI nc) (f_registers, f_nonterminals, f_words, (nI tl), f_openSize, f_openHeight, f_ruleCount, (nI (nc + 1)), (nI (h0 + 1 - bu_ar op)), f_labelled, f_statementCount, f_programNodes, f_depth, f_lastValue, f_spent, a_openToken, a_openLow, a_openHigh, a_ruleLhs, a_ruleCost, a_ruleSize, a_ruleToken, a_ruleLow, a_ruleHigh, (upd a_nodeOperator nc op), (upd a_nodeValue nc (bu_rgd op v)), (upd a_subtreeFirst nc (nI f)), a_bestCost, a_bestLength, a_place, a_covered, a_statementStart, a_statementNodes, a_statementCost, a_statementLength, a_programOperator, a_programValue, a_memory, a_arguments, a_stack)) :
    wX_push_26 post op v f_registers f_nonterminals f_words (nI tl) f_openSize f_openHeight f_ruleCount (nI nc) (nI h0) f_labelled f_statementCount f_programNodes f_depth f_lastValue f_spent a_openToken a_openLow a_openHigh a_ruleLhs a_ruleCost a_ruleSize a_ruleToken a_ruleLow a_ruleHigh a_nodeOperator a_nodeValue a_subtreeFirst a_bestCost a_bestLength a_place a_covered a_statementStart a_statementNodes a_statementCost a_statementLength a_programOperator a_programValue a_memory a_arguments a_stack := by
  have a2 := bu_ar_2 op
  unfold wX_push_26
  rcases Nat.lt_or_ge nc tl with z | z
  · refine br_t (nI_lt z (by omega)) (xa_ar ?_)
    rcases Nat.lt_or_ge h0 (bu_ar op) with y | y
    · exact br_f (nI_ge y (by omega)) (h3 z (by omega))
    · refine br_t (nI_le y (by omega)) ?_
      have h := h z y
      have hT := hT y
      have hv : vp_in (nI nc) 20 := vp_in_nI (by omega) (by decide)
      rw [nI_clamp (n := nc) (by omega)]
      unfold wpX_hasOwnValue
      by_cases o0 : op = 0
      · rw [show bu_rgd op v = v from if_pos o0] at h
        refine br_t o0 ⟨hv, nm_e (br_f (by decide) ⟨hv, nm_e ⟨4, ?_⟩⟩)⟩
        exact xp_102 (by omega) y hsf h 4 0 nc (by omega) (by omega) (Nat.le_refl _) hT a2
      · refine br_f o0 ?_
        by_cases o1 : op = 1
        · rw [show bu_rgd op v = v from (if_neg o0).trans (if_pos o1)] at h
          refine br_t o1 ⟨hv, nm_e (br_f (by decide) ⟨hv, nm_e ⟨4, ?_⟩⟩)⟩
          exact xp_102 (by omega) y hsf h 4 0 nc (by omega) (by omega) (Nat.le_refl _) hT a2
        · rw [show bu_rgd op v = 0 from (if_neg o0).trans (if_neg o1)] at h
          refine br_f o1 ⟨hv, nm_e (br_t rfl ⟨hv, nm_e ⟨4, ?_⟩⟩)⟩
          exact xp_102 (by omega) y hsf h 4 0 nc (by omega) (by omega) (Nat.le_refl _) hT a2
  · exact br_f (nI_nlt z (by omega)) (h2 (by omega))
end
section
variable {g_registers g_nonterminals g_words g_treeNodes g_rules g_nodes g_statements g_lastValue g_spent : Int32} {b_lhsOf b_costOf b_tokens b_tokenAt b_lowAt b_highAt b_nodeOp b_nodeValue b_statementCost b_statementLength b_statementNodes b_memory b_arguments b_work b_place b_covered b_bestCost b_bestLength : Nat → Int32}
theorem yp_28 {post : Int32 → SY → Prop} {nc tl h0 : Nat} {op v : Int32} {no : Nat → Int32} (hnt : nc ≤ tl) (ht : tl ≤ 20) (hh : h0 ≤ 20) (eO : ∀ j, j < 20 → b_nodeOp j = no j) (hN : bu_Nod no nc) (eh : bu_h (fun i => bu_ar (no i)) nc = h0)
    (h2 : ¬ nc < tl → post (-2) (g_registers, g_nonterminals, g_words, (nI tl), g_rules, (nI nc), g_statements, g_lastValue, g_spent, b_lhsOf, b_costOf, b_tokens, b_tokenAt, b_lowAt, b_highAt, b_nodeOp, b_nodeValue, b_statementCost, b_statementLength, b_statementNodes, b_memory, b_arguments, b_work, b_place, b_covered, b_bestCost, b_bestLength))
    (h3 : nc < tl → ¬ bu_ar op ≤ h0 → post (-3) (g_registers, g_nonterminals, g_words, (nI tl), g_rules, (nI nc), g_statements, g_lastValue, g_spent, b_lhsOf, b_costOf, b_tokens, b_tokenAt, b_lowAt, b_highAt, b_nodeOp, b_nodeValue, b_statementCost, b_statementLength, b_statementNodes, b_memory, b_arguments, b_work, b_place, b_covered, b_bestCost, b_bestLength))
    (h : nc < tl → bu_ar op ≤ h0 → post (nI nc) (g_registers, g_nonterminals, g_words, (nI tl), g_rules, (nI (nc + 1)), g_statements, g_lastValue, g_spent, b_lhsOf, b_costOf, b_tokens, b_tokenAt, b_lowAt, b_highAt, (upd b_nodeOp nc op), (upd b_nodeValue nc (bu_rgd op v)), b_statementCost, b_statementLength, b_statementNodes, b_memory, b_arguments, b_work, b_place, b_covered, b_bestCost, b_bestLength)) :
    wY_push_28 post op v g_registers g_nonterminals g_words (nI tl) g_rules (nI nc) g_statements g_lastValue g_spent b_lhsOf b_costOf b_tokens b_tokenAt b_lowAt b_highAt b_nodeOp b_nodeValue b_statementCost b_statementLength b_statementNodes b_memory b_arguments b_work b_place b_covered b_bestCost b_bestLength := by
  have a2 := bu_ar_2 op
  unfold wY_push_28
  rcases Nat.lt_or_ge nc tl with z | z
  · refine br_t (nI_lt z (by omega)) (yr_roots (by omega) eO hN (ya_ar ?_))
    rw [eh]
    rcases Nat.lt_or_ge h0 (bu_ar op) with y | y
    · exact br_f (nI_ge y (by omega)) (h3 z (by omega))
    · refine br_t (nI_le y (by omega)) ?_
      have h := h z y
      have hv : vp_in (nI nc) 60 := vp_in_nI (by omega) (by decide)
      rw [nI_clamp (n := nc) (by omega)]
      have e89 : ∀ x : Int32, x = bu_rgd op v → wY_push_89 post x (nI nc) g_registers g_nonterminals g_words (nI tl) g_rules (nI nc) g_statements g_lastValue g_spent b_lhsOf b_costOf b_tokens b_tokenAt b_lowAt b_highAt (upd b_nodeOp nc op) b_nodeValue b_statementCost b_statementLength b_statementNodes b_memory b_arguments b_work b_place b_covered b_bestCost b_bestLength := by
        intro x ex
        unfold wY_push_89
        rw [nI_clamp (n := nc) (by omega)]
        refine ⟨hv, nm_e (nm_r (nI_1 nc) ?_)⟩
        rw [nI_pred, ex]
        exact h
      refine ⟨hv, nm_e ?_⟩
      by_cases o0 : op = 0
      · exact br_t o0 (e89 _ (if_pos o0).symm)
      · refine br_f o0 ?_
        by_cases o1 : op = 1
        · exact br_t o1 (e89 _ ((if_neg o0).trans (if_pos o1)).symm)
        · exact br_f o1 (e89 _ ((if_neg o0).trans (if_neg o1)).symm)
  · exact br_f (nI_nlt z (by omega)) (h2 (by omega))
end
theorem i_vc_push {k : Nat} {u : SX} {v : SY} (I : i_Rel k u v) (hk : k + 4 ≤ 2052) (v1 : Int32) (v2 : Int32) : wpX_push (fun r u' => wpY_push (fun r' v' => r' = r ∧ i_Rel (k + 4) u' v') v v1 v2) u v1 v2 := by
  refine zz_el (P := fun u v => wpX_push (fun r u' => wpY_push (fun r' v' => r' = r ∧ i_Rel (k + 4) u' v') v v1 v2) u v1 v2) ?_ I
  intro rg nt w tl os rc nc lb sc pn dp lv sp a_openToken a_openLow a_openHigh a_ruleLhs a_ruleCost a_ruleSize a_ruleToken a_ruleLow a_ruleHigh a_nodeOperator a_nodeValue a_subtreeFirst a_bestCost a_bestLength a_place a_covered a_statementStart a_statementNodes a_statementCost a_statementLength a_programOperator a_programValue a_memory a_arguments a_stack b_tokens b_tokenAt b_lowAt b_highAt b_nodeOp b_nodeValue b_work b_place b_covered b_bestCost b_bestLength F
  have F0 := F
  obtain ⟨F1, F2, F3, F4, F5, F6, F7⟩ := F
  have t20 := F1.2.2.2.2.2.2
  have F7' := F7
  obtain ⟨eS, e24, eT, eL, eH, eo, eO, eV, eP⟩ := F7'
  have F4' := F4
  obtain ⟨g1, g2, g3⟩ := F4'
  have hl := bu_h_le (a := fun i => bu_ar (a_nodeOperator i)) nc
  unfold wpX_push
  rcases bu_em9 v1 with h | hop
  · unfold wpX_isOperator
    refine bu_outG h (br_t rfl ?_)
    unfold wpY_push
    exact bu_outL h ⟨rfl, zz_in F0⟩
  · have p1 : ¬ v1 < 0 := by rcases hop with o | o | o | o | o | o | o | o | o <;> subst o <;> decide
    have p2 : ¬ 8 < v1 := by rcases hop with o | o | o | o | o | o | o | o | o <;> subst o <;> decide
    have p3 : v1 ≤ 8 := by rcases hop with o | o | o | o | o | o | o | o | o <;> subst o <;> decide
    unfold wpX_isOperator
    refine br_f p1 (br_f p2 (br_f (by decide) ?_))
    -- both cores
    have core : (v1 = 1 → ∃ j : Nat, j < 4 ∧ v2 = nI j) → ∀ Q : Prop,
        (∀ (r0 : Int32) (ux : SX), wY_push_28 (fun r' v' => r' = r0 ∧ i_Rel (k + 4) ux v') v1 v2 (nI rg) (nI nt) (nI w) (nI tl) (nI rc) (nI nc) (nI sc) lv sp a_ruleLhs a_ruleCost b_tokens b_tokenAt b_lowAt b_highAt b_nodeOp b_nodeValue a_statementCost a_statementLength a_statementNodes a_memory a_arguments b_work b_place b_covered b_bestCost b_bestLength → wpY_push (fun r' v' => r' = r0 ∧ i_Rel (k + 4) ux v') ((nI rg), (nI nt), (nI w), (nI tl), (nI rc), (nI nc), (nI sc), lv, sp, a_ruleLhs, a_ruleCost, b_tokens, b_tokenAt, b_lowAt, b_highAt, b_nodeOp, b_nodeValue, a_statementCost, a_statementLength, a_statementNodes, a_memory, a_arguments, b_work, b_place, b_covered, b_bestCost, b_bestLength) v1 v2) →
        wX_push_26 (fun r u' => wpY_push (fun r' v' => r' = r ∧ i_Rel (k + 4) u' v') ((nI rg), (nI nt), (nI w), (nI tl), (nI rc), (nI nc), (nI sc), lv, sp, a_ruleLhs, a_ruleCost, b_tokens, b_tokenAt, b_lowAt, b_highAt, b_nodeOp, b_nodeValue, a_statementCost, a_statementLength, a_statementNodes, a_memory, a_arguments, b_work, b_place, b_covered, b_bestCost, b_bestLength) v1 v2) v1 v2 (nI rg) (nI nt) (nI w) (nI tl) (nI os) (nI (bu_h (fun i => bu_ar (a_openToken i)) os)) (nI rc) (nI nc) (nI (bu_h (fun i => bu_ar (a_nodeOperator i)) nc)) (nI lb) (nI sc) (nI pn) dp lv sp a_openToken a_openLow a_openHigh a_ruleLhs a_ruleCost a_ruleSize a_ruleToken a_ruleLow a_ruleHigh a_nodeOperator a_nodeValue a_subtreeFirst a_bestCost a_bestLength a_place a_covered a_statementStart a_statementNodes a_statementCost a_statementLength a_programOperator a_programValue a_memory a_arguments a_stack := by
      intro harg Q toY
      refine xp_26 (F := bu_F (upd a_nodeOperator nc v1)) (f := bu_F (upd a_nodeOperator nc v1) nc) hop g1 t20 (by omega) (fun j hj => ?_) (fun q => ?_) (fun q => ?_) (fun q1 q2 => ?_) (fun q1 q2 => ?_)
      · rw [(g3 j hj).2.2]
        exact congrArg nI (bu_F_cg (fun i hi => (pk_un (by omega)).symm))
      · have := (bu_chi (bu_Nod_add g2 q) (p := nc) (by omega)).1
        rw [pk_us] at this
        exact this
      · exact toY _ _ (yp_28 g1 t20 (by omega) eO g2 rfl (fun _ => ⟨rfl, zz_in F0⟩) (fun z => absurd z q) (fun z => absurd z q))
      · exact toY _ _ (yp_28 g1 t20 (by omega) eO g2 rfl (fun z => absurd q1 z) (fun _ _ => ⟨rfl, zz_in F0⟩) (fun _ z => absurd z q2))
      · refine toY _ _ (yp_28 g1 t20 (by omega) eO g2 rfl (fun z => absurd q1 z) (fun _ z => absurd q2 z) (fun _ _ => ⟨rfl, ?_⟩))
        have hN' := bu_Nod_add g2 q2
        have er : bu_h (fun i => bu_ar (a_nodeOperator i)) nc + 1 - bu_ar v1 = bu_h (fun i => bu_ar (upd a_nodeOperator nc v1 i)) (nc + 1) := by
          rw [bu_h_s, bu_upd_h, pk_us]
        rw [er]
        refine zz_in (nc := nc + 1) ⟨F1, F2, F3, ⟨by omega, hN', fun j hj => ?_⟩, ⟨by have := F5.1; omega, ?_⟩, F6, ⟨eS, e24, eT, eL, eH, eo, fun j hj => ?_, fun j hj => ?_, fun j hj => ?_⟩⟩
        · by_cases e : j = nc
          · subst e
            rw [pk_us, pk_us, pk_us]
            refine ⟨hop, fun o1 => ?_, rfl⟩
            obtain ⟨i, i4, ei⟩ := harg o1
            refine ⟨i, i4, ?_⟩
            rw [show bu_rgd v1 v2 = v2 from (if_neg (by rw [o1]; decide)).trans (if_pos o1)]
            exact ei
          · rw [pk_un e, pk_un e, pk_un e]
            obtain ⟨x1, x2, x3⟩ := g3 j (by omega)
            refine ⟨x1, x2, x3.trans (congrArg nI (bu_F_cg (fun i hi => (pk_un (by omega)).symm)))⟩
        · rw [← bu_L_cg (no := a_nodeOperator) (nv := a_nodeValue) g2 F5.1 (fun j hj => (pk_un (by omega)).symm) (fun j hj => (pk_un (by omega)).symm)]
          exact F5.2
        · by_cases e : j = nc
          · subst e; rw [pk_us, pk_us]
          · rw [pk_un e, pk_un e]; exact eO j hj
        · by_cases e : j = nc
          · subst e; rw [pk_us, pk_us]
          · rw [pk_un e, pk_un e]; exact eV j hj
        · rw [pk_un (by omega), pk_un (by omega)]; exact eP j hj
    by_cases o1 : v1 = 1
    · refine br_t o1 ?_
      rcases bu_em v2 (n := 4) (by decide) with h | ⟨j, j4, ej⟩
      · refine bu_out (n := 4) h ?_
        have h' : v2 < 0 ∨ 3 < v2 := by
          rcases h with q | q
          · exact Or.inl q
          · refine Or.inr ?_
            rw [Int32.le_iff_toInt_le] at q
            rw [Int32.lt_iff_toInt_lt]
            have e1 : (nI 4).toInt = 4 := by decide
            have e2 : (3 : Int32).toInt = 3 := by decide
            omega
        unfold wpY_push
        exact br_f p1 (br_t p3 (br_t o1 (bu_outL h' ⟨rfl, zz_in F0⟩)))
      · have n0 : ¬ v2 < 0 := by rw [ej]; exact nI_pos (by omega)
        have n4 : v2 < 4 := by rw [ej]; exact nI_lt (b := 4) j4 (by decide)
        have n3 : v2 ≤ 3 := by rw [ej]; exact nI_le (b := 3) (by omega) (by decide)
        refine br_f n0 (br_t n4 (core (fun _ => ⟨j, j4, ej⟩) True (fun r0 ux hh => ?_)))
        unfold wpY_push
        exact br_f p1 (br_t p3 (br_t o1 (br_f n0 (br_t n3 hh))))
    · refine br_f o1 (core (fun q => absurd q o1) True (fun r0 ux hh => ?_))
      unfold wpY_push
      exact br_f p1 (br_t p3 (br_f o1 hh))
end
section
/-! pattern -/
section
variable {f_registers f_nonterminals f_words f_treeLimit f_openSize f_openHeight f_ruleCount f_nodeCount f_rootCount f_labelled f_statementCount f_programNodes f_depth f_lastValue f_spent : Int32} {a_openToken a_openLow a_openHigh a_ruleLhs a_ruleCost a_ruleSize a_ruleToken a_ruleLow a_ruleHigh a_nodeOperator a_nodeValue a_subtreeFirst a_bestCost a_bestLength a_place a_covered a_statementStart a_statementNodes a_statementCost a_statementLength a_programOperator a_programValue a_memory a_arguments a_stack : Nat → Int32}
theorem xq_107 {post : Int32 → SX → Prop} {os h0 a : Nat} {z : Int32} (ho : os < 7) (ha : a ≤ h0)
    (h : post (nI os) (f_registers, f_nonterminals, f_words, f_treeLimit, (nI (os + 1)), (nI (h0 + 1 - a)), f_ruleCount, f_nodeCount, f_rootCount, f_labelled, f_statementCount, f_programNodes, f_depth, f_lastValue, f_spent, a_openToken, a_openLow, (upd a_openHigh os z), a_ruleLhs, a_ruleCost, a_ruleSize, a_ruleToken, a_ruleLow, a_ruleHigh, a_nodeOperator, a_nodeValue, a_subtreeFirst, a_bestCost, a_bestLength, a_place, a_covered, a_statementStart, a_statementNodes, a_statementCost, a_statementLength, a_programOperator, a_programValue, a_memory, a_arguments, a_stack)) :
    wX_pattern_107 post (nI a) (nI os) z (nI os) f_registers f_nonterminals f_words f_treeLimit f_openSize (nI h0) f_ruleCount f_nodeCount f_rootCount f_labelled f_statementCount f_programNodes f_depth f_lastValue f_spent a_openToken a_openLow a_openHigh a_ruleLhs a_ruleCost a_ruleSize a_ruleToken a_ruleLow a_ruleHigh a_nodeOperator a_nodeValue a_subtreeFirst a_bestCost a_bestLength a_place a_covered a_statementStart a_statementNodes a_statementCost a_statementLength a_programOperator a_programValue a_memory a_arguments a_stack := by
  unfold wX_pattern_107
  rw [nI_clamp (n := os) (by omega)]
  exact ⟨vp_in_nI ho (by decide), nm_e (nm_r (nI_1 os) (nm_r (bu_hs' ha) h))⟩
theorem xq_29 {post : Int32 → SX → Prop} {os h0 : Nat} {tok lo hi x4 : Int32} (ho : os ≤ 7) (hh : h0 ≤ 7) (hx : x4 = 0 ↔ ¬ (tok = 0 ∨ tok = 1))
    (h2 : ¬ os < 7 → post (-2) (f_registers, f_nonterminals, f_words, f_treeLimit, (nI os), (nI h0), f_ruleCount, f_nodeCount, f_rootCount, f_labelled, f_statementCount, f_programNodes, f_depth, f_lastValue, f_spent, a_openToken, a_openLow, a_openHigh, a_ruleLhs, a_ruleCost, a_ruleSize, a_ruleToken, a_ruleLow, a_ruleHigh, a_nodeOperator, a_nodeValue, a_subtreeFirst, a_bestCost, a_bestLength, a_place, a_covered, a_statementStart, a_statementNodes, a_statementCost, a_statementLength, a_programOperator, a_programValue, a_memory, a_arguments, a_stack))
    (h3 : os < 7 → ¬ bu_ar tok ≤ h0 → post (-3) (f_registers, f_nonterminals, f_words, f_treeLimit, (nI os), (nI h0), f_ruleCount, f_nodeCount, f_rootCount, f_labelled, f_statementCount, f_programNodes, f_depth, f_lastValue, f_spent, a_openToken, a_openLow, a_openHigh, a_ruleLhs, a_ruleCost, a_ruleSize, a_ruleToken, a_ruleLow, a_ruleHigh, a_nodeOperator, a_nodeValue, a_subtreeFirst, a_bestCost, a_bestLength, a_place, a_covered, a_statementStart, a_statementNodes, a_statementCost, a_statementLength, a_programOperator, a_programValue, a_memory, a_arguments, a_stack))
    (h : os < 7 → bu_ar tok ≤ h0 → post (nI os) (f_registers, f_nonterminals, f_words, f_treeLimit, (nI (os + 1)), (nI (h0 + 1 - bu_ar tok)), f_ruleCount, f_nodeCount, f_rootCount, f_labelled, f_statementCount, f_programNodes, f_depth, f_lastValue, f_spent, (upd a_openToken os tok), (upd a_openLow os (bu_rgd tok lo)), (upd a_openHigh os (bu_rgd tok hi)), a_ruleLhs, a_ruleCost, a_ruleSize, a_ruleToken, a_ruleLow, a_ruleHigh, a_nodeOperator, a_nodeValue, a_subtreeFirst, a_bestCost, a_bestLength, a_place, a_covered, a_statementStart, a_statementNodes, a_statementCost, a_statementLength, a_programOperator, a_programValue, a_memory, a_arguments, a_stack)) :
    wX_pattern_29 post tok lo hi x4 f_registers f_nonterminals f_words f_treeLimit (nI os) (nI h0) f_ruleCount f_nodeCount f_rootCount f_labelled f_statementCount f_programNodes f_depth f_lastValue f_spent a_openToken a_openLow a_openHigh a_ruleLhs a_ruleCost a_ruleSize a_ruleToken a_ruleLow a_ruleHigh a_nodeOperator a_nodeValue a_subtreeFirst a_bestCost a_bestLength a_place a_covered a_statementStart a_statementNodes a_statementCost a_statementLength a_programOperator a_programValue a_memory a_arguments a_stack := by
  have a2 := bu_ar_2 tok
  unfold wX_pattern_29
  rcases Nat.lt_or_ge os 7 with z | z
  · refine br_t (nI_lt (b := 7) z (by decide)) (xa_ar ?_)
    rcases Nat.lt_or_ge h0 (bu_ar tok) with y | y
    · exact br_f (nI_ge y (by omega)) (h3 z (by omega))
    · refine br_t (nI_le y (by omega)) ?_
      have h := h z y
      have hv : vp_in (nI os) 7 := vp_in_nI z (by decide)
      rw [nI_clamp (n := os) (by omega)]
      refine ⟨hv, nm_e ?_⟩
      by_cases q : x4 = 0
      · have nr := hx.mp q
        have e : ∀ x, bu_rgd tok x = 0 := fun x => (if_neg (fun o => nr (Or.inl o))).trans (if_neg (fun o => nr (Or.inr o)))
        rw [e, e] at h
        refine br_t q ?_
        unfold wX_pattern_90
        rw [nI_clamp (n := os) (by omega)]
        exact ⟨hv, nm_e (br_t q (xq_107 z y h))⟩
      · have nr : tok = 0 ∨ tok = 1 := Classical.byContradiction (fun k => q (hx.mpr k))
        have e : ∀ x, bu_rgd tok x = x := by
          intro x
          rcases nr with o | o
          · exact if_pos o
          · exact (if_neg (by rw [o]; decide)).trans (if_pos o)
        rw [e, e] at h
        refine br_f q ?_
        unfold wX_pattern_90
        rw [nI_clamp (n := os) (by omega)]
        exact ⟨hv, nm_e (br_f q (xq_107 z y h))⟩
  · exact br_f (nI_nlt (b := 7) z (by omega)) (h2 (by omega))
end
section
variable {g_registers g_nonterminals g_words g_treeNodes g_rules g_nodes g_statements g_lastValue g_spent : Int32} {b_lhsOf b_costOf b_tokens b_tokenAt b_lowAt b_highAt b_nodeOp b_nodeValue b_statementCost b_statementLength b_statementNodes b_memory b_arguments b_work b_place b_covered b_bestCost b_bestLength : Nat → Int32}
theorem yq_69 {post : Int32 → SY → Prop} {os h0 : Nat} {tok lo hi : Int32} {oT : Nat → Int32} (ho : os ≤ 7) (hh : h0 ≤ 7) (e24 : b_tokens 24 = nI os) (eo : ∀ j, j < 7 → b_tokenAt (168 + j) = oT j) (hw : bu_wf (fun i => bu_ar (oT i)) os) (eh : bu_h (fun i => bu_ar (oT i)) os = h0)
    (h2 : ¬ os < 7 → post (-2) (g_registers, g_nonterminals, g_words, g_treeNodes, g_rules, g_nodes, g_statements, g_lastValue, g_spent, b_lhsOf, b_costOf, b_tokens, b_tokenAt, b_lowAt, b_highAt, b_nodeOp, b_nodeValue, b_statementCost, b_statementLength, b_statementNodes, b_memory, b_arguments, b_work, b_place, b_covered, b_bestCost, b_bestLength))
    (h3 : os < 7 → ¬ bu_ar tok ≤ h0 → post (-3) (g_registers, g_nonterminals, g_words, g_treeNodes, g_rules, g_nodes, g_statements, g_lastValue, g_spent, b_lhsOf, b_costOf, b_tokens, b_tokenAt, b_lowAt, b_highAt, b_nodeOp, b_nodeValue, b_statementCost, b_statementLength, b_statementNodes, b_memory, b_arguments, b_work, b_place, b_covered, b_bestCost, b_bestLength))
    (h : os < 7 → bu_ar tok ≤ h0 → post (nI os) (g_registers, g_nonterminals, g_words, g_treeNodes, g_rules, g_nodes, g_statements, g_lastValue, g_spent, b_lhsOf, b_costOf, (upd b_tokens 24 (nI (os + 1))), (upd b_tokenAt (168 + os) tok), (upd b_lowAt (168 + os) (bu_rgd tok lo)), (upd b_highAt (168 + os) (bu_rgd tok hi)), b_nodeOp, b_nodeValue, b_statementCost, b_statementLength, b_statementNodes, b_memory, b_arguments, b_work, b_place, b_covered, b_bestCost, b_bestLength)) :
    wY_pattern_69 post tok lo hi g_registers g_nonterminals g_words g_treeNodes g_rules g_nodes g_statements g_lastValue g_spent b_lhsOf b_costOf b_tokens b_tokenAt b_lowAt b_highAt b_nodeOp b_nodeValue b_statementCost b_statementLength b_statementNodes b_memory b_arguments b_work b_place b_covered b_bestCost b_bestLength := by
  have a2 := bu_ar_2 tok
  have eh' : bu_h (fun j => bu_ar (b_tokenAt (7 * 24 + j))) os = h0 := by
    rw [← eh]; exact bu_h_cg (fun j hj => by rw [eo j (by omega)])
  have ew : bu_wf (fun j => bu_ar (b_tokenAt (7 * 24 + j))) os := bu_wf_cg (fun j hj => by rw [eo j (by omega)]) hw
  unfold wY_pattern_69
  rw [e24]
  rcases Nat.lt_or_ge os 7 with z | z
  · refine br_t (nI_lt (b := 7) z (by decide)) (yh_height (r := 24) (by omega) e24 ho ew (ya_ar ?_))
    rw [eh']
    rcases Nat.lt_or_ge h0 (bu_ar tok) with y | y
    · exact br_f (nI_ge y (by omega)) (h3 z (by omega))
    · refine br_t (nI_le y (by omega)) ?_
      refine ya_app (r := 24) (s := os) (by omega) e24 z ?_
      dsimp only
      rw [pk_us, nI_pred]
      exact h z y
  · exact br_f (nI_nlt (b := 7) z (by omega)) (h2 (by omega))
end
theorem bu_Opn_add {nt os : Nat} {oT oL oH : Nat → Int32} {tok lo hi : Int32} (h : bu_Opn nt os oT oL oH) (ho : os < 7) (hk : bu_tok nt tok) (ha : bu_ar tok ≤ bu_h (fun i => bu_ar (oT i)) os) : bu_Opn nt (os + 1) (upd oT os tok) (upd oL os (bu_rgd tok lo)) (upd oH os (bu_rgd tok hi)) := by
  obtain ⟨h1, h2, h3⟩ := h
  refine ⟨by omega, bu_Nod_add (no := oT) h2 ha, fun i hi' => ?_⟩
  by_cases e : i = os
  · subst e
    rw [pk_us, pk_us, pk_us]
    refine ⟨hk, fun nr => ?_⟩
    have e : ∀ x, bu_rgd tok x = 0 := fun x => (if_neg (fun o => nr (Or.inl o))).trans (if_neg (fun o => nr (Or.inr o)))
    exact ⟨e _, e _⟩
  · rw [pk_un e, pk_un e, pk_un e]
    exact h3 i (by omega)
theorem bu_emT (x : Int32) {nt : Nat} (ht : nt ≤ 6) : (¬ bu_tok nt x ∧ x < 16 ∧ (x < 0 ∨ 8 < x)) ∨ (¬ bu_tok nt x ∧ ¬ x < 16 ∧ nI (16 + nt) ≤ x) ∨ (bu_tok nt x ∧ x < 16 ∧ ¬ x < 0 ∧ ¬ 8 < x) ∨ (bu_tok nt x ∧ ¬ x < 16 ∧ ¬ nI (16 + nt) ≤ x) := by
  have L : ∀ j : Nat, j < 16 → nI j < 16 := fun j hj => nI_lt (b := 16) hj (by decide)
  have L' : ∀ j : Nat, 16 ≤ j → j < 2 ^ 31 → ¬ nI j < 16 := fun j hj hj' => nI_nlt (b := 16) hj hj'
  rcases bu_em x (n := 22) (by decide) with (h | h) | ⟨j, j1, rfl⟩
  · refine Or.inl ⟨?_, Int32.lt_trans h (by decide), Or.inl h⟩
    rintro ⟨j, rfl, _, j2⟩
    exact absurd h (nI_pos (by omega))
  · refine Or.inr (Or.inl ⟨?_, ?_, ?_⟩)
    · rintro ⟨j, rfl, _, j2⟩
      exact absurd h (nI_ge j2 (by omega))
    · intro q
      rw [Int32.le_iff_toInt_le] at h
      rw [Int32.lt_iff_toInt_lt] at q
      have e1 : (nI 22).toInt = 22 := by decide
      have e2 : (16 : Int32).toInt = 16 := by decide
      omega
    · exact Int32.le_trans (nI_le (by omega) (by omega)) h
  · by_cases a : j ≤ 8
    · exact Or.inr (Or.inr (Or.inl ⟨⟨j, rfl, Or.inl a, by omega⟩, L j (by omega), nI_pos (by omega), nI_nlt (a := 8) (b := j) a (by decide)⟩))
    · by_cases b : j < 16
      · refine Or.inl ⟨?_, L j b, Or.inr (nI_lt (a := 8) (by omega) (by omega))⟩
        rintro ⟨i, e, i1, i2⟩
        have := (nI_eq (by omega) (by omega)).mp e
        omega
      · by_cases c : j < 16 + nt
        · exact Or.inr (Or.inr (Or.inr ⟨⟨j, rfl, Or.inr ⟨by omega, c⟩, by omega⟩, L' j (by omega) (by omega), nI_ge c (by omega)⟩))
        · refine Or.inr (Or.inl ⟨?_, L' j (by omega) (by omega), nI_le (by omega) (by omega)⟩)
          rintro ⟨i, e, i1, i2⟩
          have := (nI_eq (by omega) (by omega)).mp e
          omega
theorem i_vc_pattern {k : Nat} {u : SX} {v : SY} (I : i_Rel k u v) (hk : k + 4 ≤ 2052) (v1 : Int32) (v2 : Int32) (v3 : Int32) : wpX_pattern (fun r u' => wpY_pattern (fun r' v' => r' = r ∧ i_Rel (k + 4) u' v') v v1 v2 v3) u v1 v2 v3 := by
  refine zz_el (P := fun u v => wpX_pattern (fun r u' => wpY_pattern (fun r' v' => r' = r ∧ i_Rel (k + 4) u' v') v v1 v2 v3) u v1 v2 v3) ?_ I
  intro rg nt w tl os rc nc lb sc pn dp lv sp a_openToken a_openLow a_openHigh a_ruleLhs a_ruleCost a_ruleSize a_ruleToken a_ruleLow a_ruleHigh a_nodeOperator a_nodeValue a_subtreeFirst a_bestCost a_bestLength a_place a_covered a_statementStart a_statementNodes a_statementCost a_statementLength a_programOperator a_programValue a_memory a_arguments a_stack b_tokens b_tokenAt b_lowAt b_highAt b_nodeOp b_nodeValue b_work b_place b_covered b_bestCost b_bestLength F
  have F0 := F
  obtain ⟨F1, F2, F3, F4, F5, F6, F7⟩ := F
  have t6 := F1.2.2.2.1
  have os7 := F2.1
  have F7' := F7
  obtain ⟨eS, e24, eT, eL, eH, eo, eO, eV, eP⟩ := F7'
  have hl := bu_h_le (a := fun i => bu_ar (a_openToken i)) os
  have e16 : (16 : Int32) + nI nt = nI (16 + nt) := nI_add 16 nt
  -- the reference behind its test of the token
  have core : bu_tok nt v1 → (∀ (r0 : Int32) (ux : SX), wY_pattern_53 (fun r' v' => r' = r0 ∧ i_Rel (k + 4) ux v') v1 v2 v3 (nI rg) (nI nt) (nI w) (nI tl) (nI rc) (nI nc) (nI sc) lv sp a_ruleLhs a_ruleCost b_tokens b_tokenAt b_lowAt b_highAt b_nodeOp b_nodeValue a_statementCost a_statementLength a_statementNodes a_memory a_arguments b_work b_place b_covered b_bestCost b_bestLength → wpY_pattern (fun r' v' => r' = r0 ∧ i_Rel (k + 4) ux v') ((nI rg), (nI nt), (nI w), (nI tl), (nI rc), (nI nc), (nI sc), lv, sp, a_ruleLhs, a_ruleCost, b_tokens, b_tokenAt, b_lowAt, b_highAt, b_nodeOp, b_nodeValue, a_statementCost, a_statementLength, a_statementNodes, a_memory, a_arguments, b_work, b_place, b_covered, b_bestCost, b_bestLength) v1 v2 v3) →
      wpX_hasOwnValue (fun r_43 => (((r_43 = 0 → (wX_pattern_29 (fun r u' => wpY_pattern (fun r' v' => r' = r ∧ i_Rel (k + 4) u' v') ((nI rg), (nI nt), (nI w), (nI tl), (nI rc), (nI nc), (nI sc), lv, sp, a_ruleLhs, a_ruleCost, b_tokens, b_tokenAt, b_lowAt, b_highAt, b_nodeOp, b_nodeValue, a_statementCost, a_statementLength, a_statementNodes, a_memory, a_arguments, b_work, b_place, b_covered, b_bestCost, b_bestLength) v1 v2 v3) v1 v2 v3 r_43 (nI rg) (nI nt) (nI w) (nI tl) (nI os) (nI (bu_h (fun i => bu_ar (a_openToken i)) os)) (nI rc) (nI nc) (nI (bu_h (fun i => bu_ar (a_nodeOperator i)) nc)) (nI lb) (nI sc) (nI pn) dp lv sp a_openToken a_openLow a_openHigh a_ruleLhs a_ruleCost a_ruleSize a_ruleToken a_ruleLow a_ruleHigh a_nodeOperator a_nodeValue a_subtreeFirst a_bestCost a_bestLength a_place a_covered a_statementStart a_statementNodes a_statementCost a_statementLength a_programOperator a_programValue a_memory a_arguments a_stack)) ∧ (¬ r_43 = 0 → (((v2 ≤ v3 → (wX_pattern_29 (fun r u' => wpY_pattern (fun r' v' => r' = r ∧ i_Rel (k + 4) u' v') ((nI rg), (nI nt), (nI w), (nI tl), (nI rc), (nI nc), (nI sc), lv, sp, a_ruleLhs, a_ruleCost, b_tokens, b_tokenAt, b_lowAt, b_highAt, b_nodeOp, b_nodeValue, a_statementCost, a_statementLength, a_statementNodes, a_memory, a_arguments, b_work, b_place, b_covered, b_bestCost, b_bestLength) v1 v2 v3) v1 v2 v3 r_43 (nI rg) (nI nt) (nI w) (nI tl) (nI os) (nI (bu_h (fun i => bu_ar (a_openToken i)) os)) (nI rc) (nI nc) (nI (bu_h (fun i => bu_ar (a_nodeOperator i)) nc)) (nI lb) (nI sc) (nI pn) dp lv sp a_openToken a_openLow a_openHigh a_ruleLhs a_ruleCost a_ruleSize a_ruleToken a_ruleLow a_ruleHigh a_nodeOperator a_nodeValue a_subtreeFirst a_bestCost a_bestLength a_place a_covered a_statementStart a_statementNodes a_statementCost a_statementLength a_programOperator a_programValue a_memory a_arguments a_stack)) ∧ (¬ v2 ≤ v3 → (wpY_pattern (fun r' v' => r' = -1 ∧ i_Rel (k + 4) ((nI rg), (nI nt), (nI w), (nI tl), (nI os), (nI (bu_h (fun i => bu_ar (a_openToken i)) os)), (nI rc), (nI nc), (nI (bu_h (fun i => bu_ar (a_nodeOperator i)) nc)), (nI lb), (nI sc), (nI pn), dp, lv, sp, a_openToken, a_openLow, a_openHigh, a_ruleLhs, a_ruleCost, a_ruleSize, a_ruleToken, a_ruleLow, a_ruleHigh, a_nodeOperator, a_nodeValue, a_subtreeFirst, a_bestCost, a_bestLength, a_place, a_covered, a_statementStart, a_statementNodes, a_statementCost, a_statementLength, a_programOperator, a_programValue, a_memory, a_arguments, a_stack) v') ((nI rg), (nI nt), (nI w), (nI tl), (nI rc), (nI nc), (nI sc), lv, sp, a_ruleLhs, a_ruleCost, b_tokens, b_tokenAt, b_lowAt, b_highAt, b_nodeOp, b_nodeValue, a_statementCost, a_statementLength, a_statementNodes, a_memory, a_arguments, b_work, b_place, b_covered, b_bestCost, b_bestLength) v1 v2 v3))))))) ) ((nI rg), (nI nt), (nI w), (nI tl), (nI os), (nI (bu_h (fun i => bu_ar (a_openToken i)) os)), (nI rc), (nI nc), (nI (bu_h (fun i => bu_ar (a_nodeOperator i)) nc)), (nI lb), (nI sc), (nI pn), dp, lv, sp, a_openToken, a_openLow, a_openHigh, a_ruleLhs, a_ruleCost, a_ruleSize, a_ruleToken, a_ruleLow, a_ruleHigh, a_nodeOperator, a_nodeValue, a_subtreeFirst, a_bestCost, a_bestLength, a_place, a_covered, a_statementStart, a_statementNodes, a_statementCost, a_statementLength, a_programOperator, a_programValue, a_memory, a_arguments, a_stack) v1 := by
    intro htok toY
    have go : ∀ x4 : Int32, (x4 = 0 ↔ ¬ (v1 = 0 ∨ v1 = 1)) →
        (∀ (r0 : Int32) (ux : SX), wY_pattern_69 (fun r' v' => r' = r0 ∧ i_Rel (k + 4) ux v') v1 v2 v3 (nI rg) (nI nt) (nI w) (nI tl) (nI rc) (nI nc) (nI sc) lv sp a_ruleLhs a_ruleCost b_tokens b_tokenAt b_lowAt b_highAt b_nodeOp b_nodeValue a_statementCost a_statementLength a_statementNodes a_memory a_arguments b_work b_place b_covered b_bestCost b_bestLength → wpY_pattern (fun r' v' => r' = r0 ∧ i_Rel (k + 4) ux v') ((nI rg), (nI nt), (nI w), (nI tl), (nI rc), (nI nc), (nI sc), lv, sp, a_ruleLhs, a_ruleCost, b_tokens, b_tokenAt, b_lowAt, b_highAt, b_nodeOp, b_nodeValue, a_statementCost, a_statementLength, a_statementNodes, a_memory, a_arguments, b_work, b_place, b_covered, b_bestCost, b_bestLength) v1 v2 v3) →
        wX_pattern_29 (fun r u' => wpY_pattern (fun r' v' => r' = r ∧ i_Rel (k + 4) u' v') ((nI rg), (nI nt), (nI w), (nI tl), (nI rc), (nI nc), (nI sc), lv, sp, a_ruleLhs, a_ruleCost, b_tokens, b_tokenAt, b_lowAt, b_highAt, b_nodeOp, b_nodeValue, a_statementCost, a_statementLength, a_statementNodes, a_memory, a_arguments, b_work, b_place, b_covered, b_bestCost, b_bestLength) v1 v2 v3) v1 v2 v3 x4 (nI rg) (nI nt) (nI w) (nI tl) (nI os) (nI (bu_h (fun i => bu_ar (a_openToken i)) os)) (nI rc) (nI nc) (nI (bu_h (fun i => bu_ar (a_nodeOperator i)) nc)) (nI lb) (nI sc) (nI pn) dp lv sp a_openToken a_openLow a_openHigh a_ruleLhs a_ruleCost a_ruleSize a_ruleToken a_ruleLow a_ruleHigh a_nodeOperator a_nodeValue a_subtreeFirst a_bestCost a_bestLength a_place a_covered a_statementStart a_statementNodes a_statementCost a_statementLength a_programOperator a_programValue a_memory a_arguments a_stack := by
      intro x4 hx to69
      refine xq_29 os7 (by omega) hx (fun q => ?_) (fun q1 q2 => ?_) (fun q1 q2 => ?_)
      · exact to69 _ _ (yq_69 os7 (by omega) e24 (fun j hj => (eo j hj).1) F2.2.1 rfl (fun _ => ⟨rfl, zz_in F0⟩) (fun z => absurd z q) (fun z => absurd z q))
      · exact to69 _ _ (yq_69 os7 (by omega) e24 (fun j hj => (eo j hj).1) F2.2.1 rfl (fun z => absurd q1 z) (fun _ _ => ⟨rfl, zz_in F0⟩) (fun _ z => absurd z q2))
      · refine to69 _ _ (yq_69 os7 (by omega) e24 (fun j hj => (eo j hj).1) F2.2.1 rfl (fun z => absurd q1 z) (fun _ z => absurd q2 z) (fun _ _ => ⟨rfl, ?_⟩))
        have er : bu_h (fun i => bu_ar (a_openToken i)) os + 1 - bu_ar v1 = bu_h (fun i => bu_ar (upd a_openToken os v1 i)) (os + 1) := by
          rw [bu_h_s, bu_upd_h, pk_us]
        rw [er]
        refine zz_in (os := os + 1) ⟨F1, bu_Opn_add F2 q1 htok q2, F3, F4, F5, F6, ⟨fun j hj => by rw [pk_un (by omega)]; exact eS j hj, pk_us, fun j hj => by rw [pk_un (by omega)]; exact eT j hj, fun j hj => by rw [pk_un (by omega)]; exact eL j hj, fun j hj => by rw [pk_un (by omega)]; exact eH j hj, fun j hj => ?_, eO, eV, eP⟩⟩
        by_cases e : j = os
        · subst e
          rw [pk_us, pk_us, pk_us, pk_us, pk_us, pk_us]; exact ⟨rfl, rfl, rfl⟩
        · rw [pk_un (by omega), pk_un (by omega), pk_un (by omega), pk_un (by omega), pk_un (by omega), pk_un (by omega)]; exact eo j hj
    unfold wpX_hasOwnValue
    have ranged : (v1 = 0 ∨ v1 = 1) → ((v2 ≤ v3 → (wX_pattern_29 (fun r u' => wpY_pattern (fun r' v' => r' = r ∧ i_Rel (k + 4) u' v') ((nI rg), (nI nt), (nI w), (nI tl), (nI rc), (nI nc), (nI sc), lv, sp, a_ruleLhs, a_ruleCost, b_tokens, b_tokenAt, b_lowAt, b_highAt, b_nodeOp, b_nodeValue, a_statementCost, a_statementLength, a_statementNodes, a_memory, a_arguments, b_work, b_place, b_covered, b_bestCost, b_bestLength) v1 v2 v3) v1 v2 v3 1 (nI rg) (nI nt) (nI w) (nI tl) (nI os) (nI (bu_h (fun i => bu_ar (a_openToken i)) os)) (nI rc) (nI nc) (nI (bu_h (fun i => bu_ar (a_nodeOperator i)) nc)) (nI lb) (nI sc) (nI pn) dp lv sp a_openToken a_openLow a_openHigh a_ruleLhs a_ruleCost a_ruleSize a_ruleToken a_ruleLow a_ruleHigh a_nodeOperator a_nodeValue a_subtreeFirst a_bestCost a_bestLength a_place a_covered a_statementStart a_statementNodes a_statementCost a_statementLength a_programOperator a_programValue a_memory a_arguments a_stack)) ∧ (¬ v2 ≤ v3 → (wpY_pattern (fun r' v' => r' = -1 ∧ i_Rel (k + 4) ((nI rg), (nI nt), (nI w), (nI tl), (nI os), (nI (bu_h (fun i => bu_ar (a_openToken i)) os)), (nI rc), (nI nc), (nI (bu_h (fun i => bu_ar (a_nodeOperator i)) nc)), (nI lb), (nI sc), (nI pn), dp, lv, sp, a_openToken, a_openLow, a_openHigh, a_ruleLhs, a_ruleCost, a_ruleSize, a_ruleToken, a_ruleLow, a_ruleHigh, a_nodeOperator, a_nodeValue, a_subtreeFirst, a_bestCost, a_bestLength, a_place, a_covered, a_statementStart, a_statementNodes, a_statementCost, a_statementLength, a_programOperator, a_programValue, a_memory, a_arguments, a_stack) v') ((nI rg), (nI nt), (nI w), (nI tl), (nI rc), (nI nc), (nI sc), lv, sp, a_ruleLhs, a_ruleCost, b_tokens, b_tokenAt, b_lowAt, b_highAt, b_nodeOp, b_nodeValue, a_statementCost, a_statementLength, a_statementNodes, a_memory, a_arguments, b_work, b_place, b_covered, b_bestCost, b_bestLength) v1 v2 v3))) := by
      intro ho
      have to62 : ∀ (r0 : Int32) (ux : SX), wY_pattern_62 (fun r' v' => r' = r0 ∧ i_Rel (k + 4) ux v') v1 v2 v3 (nI rg) (nI nt) (nI w) (nI tl) (nI rc) (nI nc) (nI sc) lv sp a_ruleLhs a_ruleCost b_tokens b_tokenAt b_lowAt b_highAt b_nodeOp b_nodeValue a_statementCost a_statementLength a_statementNodes a_memory a_arguments b_work b_place b_covered b_bestCost b_bestLength → wpY_pattern (fun r' v' => r' = r0 ∧ i_Rel (k + 4) ux v') ((nI rg), (nI nt), (nI w), (nI tl), (nI rc), (nI nc), (nI sc), lv, sp, a_ruleLhs, a_ruleCost, b_tokens, b_tokenAt, b_lowAt, b_highAt, b_nodeOp, b_nodeValue, a_statementCost, a_statementLength, a_statementNodes, a_memory, a_arguments, b_work, b_place, b_covered, b_bestCost, b_bestLength) v1 v2 v3 := by
        intro r0 ux h62
        refine toY r0 ux ?_
        unfold wY_pattern_53
        rcases ho with o | o
        · exact br_t o h62
        · exact br_f (by rw [o]; decide) (br_t o h62)
      by_cases z : v2 ≤ v3
      · refine br_t z (go 1 ⟨fun q => absurd q (by decide), fun q => absurd ho q⟩ (fun r0 ux h69 => to62 r0 ux ?_))
        unfold wY_pattern_62
        exact br_t z h69
      · refine br_f z (to62 _ _ ?_)
        unfold wY_pattern_62
        exact br_f z ⟨rfl, zz_in F0⟩
    by_cases o0 : v1 = 0
    · exact br_t o0 (br_f (by decide) (ranged (Or.inl o0)))
    · refine br_f o0 ?_
      by_cases o1 : v1 = 1
      · exact br_t o1 (br_f (by decide) (ranged (Or.inr o1)))
      · refine br_f o1 (br_t rfl (go 0 ⟨fun _ q => q.elim o0 o1, fun _ => rfl⟩ (fun r0 ux h69 => toY r0 ux ?_)))
        unfold wY_pattern_53
        exact br_f o0 (br_f o1 h69)
  unfold wpX_pattern
  rcases bu_emT v1 t6 with ⟨n, l16, h⟩ | ⟨n, l16, h⟩ | ⟨tk, l16, h1, h2⟩ | ⟨tk, l16, h⟩
  · unfold wpX_isToken wpX_isOperator
    refine br_t l16 (bu_outG h ⟨rfl, br_t rfl ?_⟩)
    unfold wpY_pattern
    have e15 : wY_pattern_15 (fun r' v' => r' = -1 ∧ i_Rel (k + 4) ((nI rg), (nI nt), (nI w), (nI tl), (nI os), (nI (bu_h (fun i => bu_ar (a_openToken i)) os)), (nI rc), (nI nc), (nI (bu_h (fun i => bu_ar (a_nodeOperator i)) nc)), (nI lb), (nI sc), (nI pn), dp, lv, sp, a_openToken, a_openLow, a_openHigh, a_ruleLhs, a_ruleCost, a_ruleSize, a_ruleToken, a_ruleLow, a_ruleHigh, a_nodeOperator, a_nodeValue, a_subtreeFirst, a_bestCost, a_bestLength, a_place, a_covered, a_statementStart, a_statementNodes, a_statementCost, a_statementLength, a_programOperator, a_programValue, a_memory, a_arguments, a_stack) v') v1 v2 v3 0 (nI rg) (nI nt) (nI w) (nI tl) (nI rc) (nI nc) (nI sc) lv sp a_ruleLhs a_ruleCost b_tokens b_tokenAt b_lowAt b_highAt b_nodeOp b_nodeValue a_statementCost a_statementLength a_statementNodes a_memory a_arguments b_work b_place b_covered b_bestCost b_bestLength := by
      unfold wY_pattern_15 wY_pattern_38 wY_pattern_39
      exact br_t l16 (br_t rfl (br_t rfl ⟨rfl, zz_in F0⟩))
    by_cases z : v1 < 0
    · exact br_t z e15
    · exact br_f z (br_t (h.resolve_left z) e15)
  · have n0 : ¬ v1 < 0 := fun q => l16 (Int32.lt_trans q (by decide))
    have n8 : 8 < v1 := by
      have := bu_i16 l16
      rw [Int32.lt_iff_toInt_lt]
      have e2 : (8 : Int32).toInt = 8 := by decide
      omega
    unfold wpX_isToken
    dsimp only
    rw [e16]
    refine br_f l16 (br_t h (br_t rfl ?_))
    unfold wpY_pattern
    refine br_f n0 (br_t n8 ?_)
    unfold wY_pattern_14 wY_pattern_15 wY_pattern_38 wY_pattern_39
    rw [e16]
    exact br_f l16 (br_t h (br_t rfl (br_t rfl ⟨rfl, zz_in F0⟩)))
  · unfold wpX_isToken wpX_isOperator
    refine br_t l16 (br_f h1 (br_f h2 ⟨rfl, br_f (by decide) ?_⟩))
    refine core tk (fun r0 ux h53 => ?_)
    unfold wpY_pattern
    refine br_f h1 (br_f h2 ?_)
    unfold wY_pattern_15 wY_pattern_38 wY_pattern_39
    exact br_t l16 (br_f (by decide) h53)
  · have n0 : ¬ v1 < 0 := fun q => l16 (Int32.lt_trans q (by decide))
    have n8 : 8 < v1 := by
      have := bu_i16 l16
      rw [Int32.lt_iff_toInt_lt]
      have e2 : (8 : Int32).toInt = 8 := by decide
      omega
    unfold wpX_isToken
    dsimp only
    rw [e16]
    refine br_f l16 (br_f h (br_f (by decide) ?_))
    refine core tk (fun r0 ux h53 => ?_)
    unfold wpY_pattern
    refine br_f n0 (br_t n8 ?_)
    unfold wY_pattern_14 wY_pattern_15 wY_pattern_39
    rw [e16]
    exact br_f l16 (br_f h (br_t rfl (br_f (by decide) h53)))
end
section
/-! addRule -/
theorem bu_Row_cg {tk tk' : Nat → Int32} {b b' s : Nat} (h : bu_Row tk b s) (e : ∀ i, i < s → tk (b + i) = tk' (b' + i)) : bu_Row tk' b' s := by
  obtain ⟨h1, h2, h3, h4⟩ := h
  have eh := bu_h_cg (a := fun i => bu_ar (tk (b + i))) (a' := fun i => bu_ar (tk' (b' + i))) (y := s) (fun j hj => by rw [e j hj])
  exact ⟨h1, h2, bu_wf_cg (fun j hj => by rw [e j hj]) h3, by rw [← eh]; exact h4⟩
theorem bu_Rs_add {tk lhs cost size g : Nat → Int32} {nt rc s t c : Nat} (h : bu_Rs tk lhs cost size nt rc) (hR : bu_Row g 0 s) (hk : ∀ i, i < s → bu_tok nt (g i)) (ht : t < nt) (hc : c ≤ 99) :
    bu_Rs (bu_cp tk g (7 * rc) s) (upd lhs rc (nI t)) (upd cost rc (nI c)) (upd size rc (nI s)) nt (rc + 1) := by
  intro q hq
  by_cases e : q = rc
  · subst e
    refine ⟨s, t, c, pk_us, pk_us, pk_us, ht, hc, bu_Row_cg hR (fun i hi => ?_), fun i hi => ?_⟩
    · rw [bu_cp_in hi, Nat.zero_add]
    · rw [bu_cp_in hi]; exact hk i hi
  · obtain ⟨s', t', c', h1, h2, h3, h4, h5, h6, h7⟩ := h q (by omega)
    have s7 := h6.2.1
    refine ⟨s', t', c', by rw [pk_un e]; exact h1, by rw [pk_un e]; exact h2, by rw [pk_un e]; exact h3, h4, h5, bu_Row_cg h6 (fun i hi => ?_), fun i hi => ?_⟩
    · rw [bu_cp_lo (by omega)]
    · rw [bu_cp_lo (by omega)]; exact h7 i hi
def bu_MT (os : Nat) (oT : Nat → Int32) : Prop := ∃ i, i < os ∧ (oT i = 3 ∨ oT i = 7)
section
variable {f_registers f_nonterminals f_words f_treeLimit f_openSize f_openHeight f_ruleCount f_nodeCount f_rootCount f_labelled f_statementCount f_programNodes f_depth f_lastValue f_spent : Int32} {a_openToken a_openLow a_openHigh a_ruleLhs a_ruleCost a_ruleSize a_ruleToken a_ruleLow a_ruleHigh a_nodeOperator a_nodeValue a_subtreeFirst a_bestCost a_bestLength a_place a_covered a_statementStart a_statementNodes a_statementCost a_statementLength a_programOperator a_programValue a_memory a_arguments a_stack : Nat → Int32}
theorem xo_2 {post : Int32 → Prop} {os : Nat} (ho : os ≤ 7) (h1 : bu_MT os a_openToken → post 1) (h0 : ¬ bu_MT os a_openToken → post 0) :
    ∀ (fuel j : Nat), os < j + fuel → j ≤ os → (∀ i, i < j → ¬ (a_openToken i = 3 ∨ a_openToken i = 7)) → wX_openHasMemoryToken_2 post f_registers f_nonterminals f_words f_treeLimit (nI os) f_openHeight f_ruleCount f_nodeCount f_rootCount f_labelled f_statementCount f_programNodes f_depth f_lastValue f_spent a_openToken a_openLow a_openHigh a_ruleLhs a_ruleCost a_ruleSize a_ruleToken a_ruleLow a_ruleHigh a_nodeOperator a_nodeValue a_subtreeFirst a_bestCost a_bestLength a_place a_covered a_statementStart a_statementNodes a_statementCost a_statementLength a_programOperator a_programValue a_memory a_arguments a_stack fuel (nI j) := by
  intro fuel
  induction fuel with
  | zero => intro j hf hj; omega
  | succ fuel ih =>
    intro j hf hj hn
    rw [wX_openHasMemoryToken_2]
    rcases Nat.lt_or_ge j os with z | z
    · have hv : vp_in (nI j) 7 := vp_in_nI (by omega) (by decide)
      rw [nI_clamp (n := j) (by omega)]
      refine br_f (nI_ge z (by omega)) ⟨hv, ?_⟩
      by_cases e3 : a_openToken j = 3
      · exact br_t e3 (h1 ⟨j, z, Or.inl e3⟩)
      · refine br_f e3 ⟨hv, ?_⟩
        by_cases e7 : a_openToken j = 7
        · exact br_t e7 (h1 ⟨j, z, Or.inr e7⟩)
        · refine br_f e7 (nm_r (nI_1 j) (ih (j + 1) (by omega) (by omega) (fun i hi => ?_)))
          rcases Nat.lt_or_ge i j with y | y
          · exact hn i y
          · have : i = j := by omega
            subst this
            exact fun q => q.elim e3 e7
    · have ej : j = os := by omega
      subst ej
      exact br_t (nI_le (by omega) (by omega)) (h0 (fun ⟨i, i1, i2⟩ => hn i i1 i2))
theorem xo_mem {post : Int32 → Prop} {os : Nat} (ho : os ≤ 7) (h1 : bu_MT os a_openToken → post 1) (h0 : ¬ bu_MT os a_openToken → post 0) : wpX_openHasMemoryToken post (f_registers, f_nonterminals, f_words, f_treeLimit, (nI os), f_openHeight, f_ruleCount, f_nodeCount, f_rootCount, f_labelled, f_statementCount, f_programNodes, f_depth, f_lastValue, f_spent, a_openToken, a_openLow, a_openHigh, a_ruleLhs, a_ruleCost, a_ruleSize, a_ruleToken, a_ruleLow, a_ruleHigh, a_nodeOperator, a_nodeValue, a_subtreeFirst, a_bestCost, a_bestLength, a_place, a_covered, a_statementStart, a_statementNodes, a_statementCost, a_statementLength, a_programOperator, a_programValue, a_memory, a_arguments, a_stack) :=
  ⟨os + 1, xo_2 ho h1 h0 (os + 1) 0 (by omega) (by omega) (fun i hi => by omega)⟩
theorem xo_71 {post : Int32 → SX → Prop} {os rc : Nat} {rs rT rL rH : Nat → Int32} (ho : os ≤ 7) (hc : rc < 24)
    (h : post (nI rc) (f_registers, f_nonterminals, f_words, f_treeLimit, 0, 0, (nI (rc + 1)), f_nodeCount, f_rootCount, f_labelled, f_statementCount, f_programNodes, f_depth, f_lastValue, f_spent, a_openToken, a_openLow, a_openHigh, a_ruleLhs, a_ruleCost, (upd rs rc (nI os)), (bu_cp rT a_openToken (7 * rc) os), (bu_cp rL a_openLow (7 * rc) os), (bu_cp rH a_openHigh (7 * rc) os), a_nodeOperator, a_nodeValue, a_subtreeFirst, a_bestCost, a_bestLength, a_place, a_covered, a_statementStart, a_statementNodes, a_statementCost, a_statementLength, a_programOperator, a_programValue, a_memory, a_arguments, a_stack)) :
    ∀ (fuel j : Nat), os < j + fuel → j ≤ os → wX_addRule_71 post (nI rc) fuel (nI j) f_registers f_nonterminals f_words f_treeLimit (nI os) f_openHeight (nI (rc + 1)) f_nodeCount f_rootCount f_labelled f_statementCount f_programNodes f_depth f_lastValue f_spent a_openToken a_openLow a_openHigh a_ruleLhs a_ruleCost (upd rs rc (nI j)) (bu_cp rT a_openToken (7 * rc) j) (bu_cp rL a_openLow (7 * rc) j) (bu_cp rH a_openHigh (7 * rc) j) a_nodeOperator a_nodeValue a_subtreeFirst a_bestCost a_bestLength a_place a_covered a_statementStart a_statementNodes a_statementCost a_statementLength a_programOperator a_programValue a_memory a_arguments a_stack := by
  intro fuel
  induction fuel with
  | zero => intro j hf hj; omega
  | succ fuel ih =>
    intro j hf hj
    rw [wX_addRule_71]
    dsimp only
    rcases Nat.lt_or_ge j os with z | z
    · have hv : vp_in (nI j) 7 := vp_in_nI (by omega) (by decide)
      rw [nI_clamp (n := j) (by omega)]
      refine br_f (nI_ge z (by omega)) ⟨hv, hv, hv, ?_⟩
      refine xr_app (s := j) (by omega) (by omega) pk_us (by omega) ?_
      rw [bu_uu, bu_cp_s, bu_cp_s, bu_cp_s]
      exact nm_r (nI_1 j) (ih (j + 1) (by omega) (by omega))
    · have ej : j = os := by omega
      subst ej
      exact br_t (nI_le (by omega) (by omega)) h
end
section
variable {g_registers g_nonterminals g_words g_treeNodes g_rules g_nodes g_statements g_lastValue g_spent : Int32} {b_lhsOf b_costOf b_tokens b_tokenAt b_lowAt b_highAt b_nodeOp b_nodeValue b_statementCost b_statementLength b_statementNodes b_memory b_arguments b_work b_place b_covered b_bestCost b_bestLength : Nat → Int32}
theorem yo_144 {post : Int32 → SY → Prop} {os rc : Nat} {ts tA lA hA oT oL oH : Nat → Int32} (ho : os ≤ 7) (hc : rc < 24) (e24 : ts 24 = nI os)
    (eo : ∀ j, j < 7 → tA (168 + j) = oT j ∧ lA (168 + j) = oL j ∧ hA (168 + j) = oH j) (er : ∀ i, i < os → bu_rgd (oT i) (oL i) = oL i ∧ bu_rgd (oT i) (oH i) = oH i)
    (h : post (nI rc) (g_registers, g_nonterminals, g_words, g_treeNodes, (nI (rc + 1)), g_nodes, g_statements, g_lastValue, g_spent, b_lhsOf, b_costOf, (upd (upd ts rc (nI os)) 24 0), (bu_cp tA oT (7 * rc) os), (bu_cp lA oL (7 * rc) os), (bu_cp hA oH (7 * rc) os), b_nodeOp, b_nodeValue, b_statementCost, b_statementLength, b_statementNodes, b_memory, b_arguments, b_work, b_place, b_covered, b_bestCost, b_bestLength)) :
    ∀ (fuel j : Nat), os < j + fuel → j ≤ os → wY_addRule_144 post 168 fuel (nI j) g_registers g_nonterminals g_words g_treeNodes (nI rc) g_nodes g_statements g_lastValue g_spent b_lhsOf b_costOf (upd ts rc (nI j)) (bu_cp tA oT (7 * rc) j) (bu_cp lA oL (7 * rc) j) (bu_cp hA oH (7 * rc) j) b_nodeOp b_nodeValue b_statementCost b_statementLength b_statementNodes b_memory b_arguments b_work b_place b_covered b_bestCost b_bestLength := by
  intro fuel
  induction fuel with
  | zero => intro j hf hj; omega
  | succ fuel ih =>
    intro j hf hj
    rw [wY_addRule_144]
    dsimp only
    have et : upd ts rc (nI j) 24 = nI os := by rw [pk_un (by omega)]; exact e24
    rw [et]
    rcases Nat.lt_or_ge j os with z | z
    · have e168 : (168 : Int32) + nI j = nI (168 + j) := nI_add 168 j
      have hv : vp_in (nI (168 + j)) 175 := vp_in_nI (by omega) (by decide)
      rw [e168, nI_clamp (n := 168 + j) (by omega), bu_cp_hi (by omega), bu_cp_hi (by omega), bu_cp_hi (by omega), (eo j (by omega)).1, (eo j (by omega)).2.1, (eo j (by omega)).2.2]
      refine br_f (nI_ge z (by omega)) ⟨hv, hv, hv, ?_⟩
      refine ya_app (r := rc) (s := j) (by omega) pk_us (by omega) ?_
      rw [(er j z).1, (er j z).2, bu_uu, bu_cp_s, bu_cp_s, bu_cp_s]
      exact nm_r (nI_1 j) (ih (j + 1) (by omega) (by omega))
    · have ej : j = os := by omega
      subst ej
      refine br_t (nI_le (by omega) (by omega)) (nm_e (nm_r (nI_1 rc) ?_))
      rw [nI_pred]
      exact h
theorem yo_46 {post : Int32 → SY → Prop} {os rc rg t : Nat} {cost : Int32} {oT oL oH : Nat → Int32} (ho : os ≤ 7) (hrc : rc ≤ 24) (ht : t < 100) (hg : rg < 100) (e24 : b_tokens 24 = nI os)
    (eo : ∀ j, j < 7 → b_tokenAt (168 + j) = oT j ∧ b_lowAt (168 + j) = oL j ∧ b_highAt (168 + j) = oH j) (er : ∀ i, i < os → bu_rgd (oT i) (oL i) = oL i ∧ bu_rgd (oT i) (oH i) = oH i)
    (h5 : ¬ t < rg → bu_MT os oT → post (-5) ((nI rg), g_nonterminals, g_words, g_treeNodes, (nI rc), g_nodes, g_statements, g_lastValue, g_spent, b_lhsOf, b_costOf, b_tokens, b_tokenAt, b_lowAt, b_highAt, b_nodeOp, b_nodeValue, b_statementCost, b_statementLength, b_statementNodes, b_memory, b_arguments, b_work, b_place, b_covered, b_bestCost, b_bestLength))
    (h2 : (t < rg ∨ ¬ bu_MT os oT) → ¬ rc < 24 → post (-2) ((nI rg), g_nonterminals, g_words, g_treeNodes, (nI rc), g_nodes, g_statements, g_lastValue, g_spent, b_lhsOf, b_costOf, b_tokens, b_tokenAt, b_lowAt, b_highAt, b_nodeOp, b_nodeValue, b_statementCost, b_statementLength, b_statementNodes, b_memory, b_arguments, b_work, b_place, b_covered, b_bestCost, b_bestLength))
    (h : (t < rg ∨ ¬ bu_MT os oT) → rc < 24 → post (nI rc) ((nI rg), g_nonterminals, g_words, g_treeNodes, (nI (rc + 1)), g_nodes, g_statements, g_lastValue, g_spent, (upd b_lhsOf rc (nI t)), (upd b_costOf rc cost), (upd (upd b_tokens rc (nI os)) 24 0), (bu_cp b_tokenAt oT (7 * rc) os), (bu_cp b_lowAt oL (7 * rc) os), (bu_cp b_highAt oH (7 * rc) os), b_nodeOp, b_nodeValue, b_statementCost, b_statementLength, b_statementNodes, b_memory, b_arguments, b_work, b_place, b_covered, b_bestCost, b_bestLength)) :
    ∀ (fuel j : Nat), os < j + fuel → j ≤ os → (¬ t < rg → ∀ i, i < j → ¬ (oT i = 3 ∨ oT i = 7)) → wY_addRule_46 post (nI t) cost 168 (nI rg) g_nonterminals g_words g_treeNodes (nI rc) g_nodes g_statements g_lastValue g_spent b_lhsOf b_costOf b_tokens b_tokenAt b_lowAt b_highAt b_nodeOp b_nodeValue b_statementCost b_statementLength b_statementNodes b_memory b_arguments b_work b_place b_covered b_bestCost b_bestLength fuel (nI j) := by
  intro fuel
  induction fuel with
  | zero => intro j hf hj; omega
  | succ fuel ih =>
    intro j hf hj hn
    rw [wY_addRule_46]
    dsimp only
    rw [e24]
    rcases Nat.lt_or_ge j os with z | z
    · have e168 : (168 : Int32) + nI j = nI (168 + j) := nI_add 168 j
      have hv : vp_in (nI (168 + j)) 175 := vp_in_nI (by omega) (by decide)
      rw [e168, nI_clamp (n := 168 + j) (by omega), (eo j (by omega)).1]
      refine br_f (nI_ge z (by omega)) ⟨hv, nm_e ?_⟩
      rcases Nat.lt_or_ge t rg with y | y
      · exact br_t (nI_lt y (by omega)) (nm_r (nI_1 j) (ih (j + 1) (by omega) (by omega) (fun q => absurd y q)))
      · refine br_f (nI_nlt y (by omega)) ?_
        by_cases e3 : oT j = 3
        · exact br_t e3 (h5 (by omega) ⟨j, z, Or.inl e3⟩)
        · refine br_f e3 ?_
          by_cases e7 : oT j = 7
          · exact br_t e7 (h5 (by omega) ⟨j, z, Or.inr e7⟩)
          · refine br_f e7 (nm_r (nI_1 j) (ih (j + 1) (by omega) (by omega) (fun q i hi => ?_)))
            rcases Nat.lt_or_ge i j with x | x
            · exact hn q i x
            · have : i = j := by omega
              subst this
              exact fun q => q.elim e3 e7
    · have ej : j = os := by omega
      subst ej
      refine br_t (nI_le (by omega) (by omega)) ?_
      have ok : t < rg ∨ ¬ bu_MT j oT := by
        rcases Nat.lt_or_ge t rg with y | y
        · exact Or.inl y
        · exact Or.inr (fun ⟨i, i1, i2⟩ => hn (by omega) i i1 i2)
      rcases Nat.lt_or_ge rc 24 with y | y
      · have h := h ok y
        have v4 : vp_in (nI rc) 24 := vp_in_nI y (by decide)
        have v5 : vp_in (nI rc) 25 := vp_in_nI (by omega) (by decide)
        rw [nI_clamp (n := rc) (by omega)]
        refine br_t (nI_lt (b := 24) y (by decide)) ⟨v4, nm_e ⟨v4, nm_e ⟨v5, nm_e ⟨j + 1, ?_⟩⟩⟩⟩
        have key := yo_144 (post := post) (ts := b_tokens) (tA := b_tokenAt) (lA := b_lowAt) (hA := b_highAt) (g_registers := nI rg) (b_lhsOf := upd b_lhsOf rc (nI t)) (b_costOf := upd b_costOf rc cost) ho y e24 eo er h (j + 1) 0 (by omega) (by omega)
        rw [bu_cp_0, bu_cp_0, bu_cp_0] at key
        exact key
      · exact br_f (nI_nlt (b := 24) y (by omega)) (h2 ok (by omega))
end
theorem i_vc_addRule {k : Nat} {u : SX} {v : SY} (I : i_Rel k u v) (hk : k + 4 ≤ 2052) (v1 : Int32) (v2 : Int32) : wpX_addRule (fun r u' => wpY_addRule (fun r' v' => r' = r ∧ i_Rel (k + 4) u' v') v v1 v2) u v1 v2 := by
  refine zz_el (P := fun u v => wpX_addRule (fun r u' => wpY_addRule (fun r' v' => r' = r ∧ i_Rel (k + 4) u' v') v v1 v2) u v1 v2) ?_ I
  intro rg nt w tl os rc nc lb sc pn dp lv sp a_openToken a_openLow a_openHigh a_ruleLhs a_ruleCost a_ruleSize a_ruleToken a_ruleLow a_ruleHigh a_nodeOperator a_nodeValue a_subtreeFirst a_bestCost a_bestLength a_place a_covered a_statementStart a_statementNodes a_statementCost a_statementLength a_programOperator a_programValue a_memory a_arguments a_stack b_tokens b_tokenAt b_lowAt b_highAt b_nodeOp b_nodeValue b_work b_place b_covered b_bestCost b_bestLength F
  have F0 := F
  obtain ⟨F1, F2, F3, F4, F5, F6, F7⟩ := F
  have t6 := F1.2.2.2.1
  have r3 := F1.2.1
  have r24 := F3.1
  obtain ⟨os7, ow, ok⟩ := F2
  have F7' := F7
  obtain ⟨eS, e24, eT, eL, eH, eo, eO, eV, eP⟩ := F7'
  have hl := bu_h_le (a := fun i => bu_ar (a_openToken i)) os
  have ehY : bu_h (fun j => bu_ar (b_tokenAt (7 * 24 + j))) os = bu_h (fun j => bu_ar (a_openToken j)) os := bu_h_cg (fun j hj => by rw [(eo j (by omega)).1])
  have ewY : bu_wf (fun j => bu_ar (b_tokenAt (7 * 24 + j))) os := bu_wf_cg (fun j hj => by rw [(eo j (by omega)).1]) ow
  have er : ∀ i, i < os → bu_rgd (a_openToken i) (a_openLow i) = a_openLow i ∧ bu_rgd (a_openToken i) (a_openHigh i) = a_openHigh i := by
    intro i hi
    unfold bu_rgd
    by_cases o0 : a_openToken i = 0
    · rw [if_pos o0, if_pos o0]; exact ⟨rfl, rfl⟩
    · rw [if_neg o0, if_neg o0]
      by_cases o1 : a_openToken i = 1
      · rw [if_pos o1, if_pos o1]; exact ⟨rfl, rfl⟩
      · rw [if_neg o1, if_neg o1]
        have q := (ok i hi).2 (fun q => q.elim o0 o1)
        rw [q.1, q.2]; exact ⟨rfl, rfl⟩
  unfold wpX_addRule
  rcases bu_em v1 (n := nt) (by omega) with h | ⟨t, ht, rfl⟩
  · refine xi_nt0 h (br_t rfl ?_)
    unfold wpY_addRule
    exact bu_out h ⟨rfl, zz_in F0⟩
  · refine xi_nt1 ht (by omega) (br_f (by decide) ?_)
    rcases bu_em99 v2 with h | ⟨c, hc, rfl⟩
    · refine xi_cost0 h (br_t rfl ?_)
      unfold wpY_addRule
      exact bu_inn ht (by omega) (bu_outL h ⟨rfl, zz_in F0⟩)
    · refine xi_cost1 hc (br_f (by decide) ?_)
      -- the reference, down to its test of the height
      have toY : ∀ (r0 : Int32) (ux : SX), ((nI (bu_h (fun j => bu_ar (a_openToken j)) os) = 1 → ∃ n46 : Nat, wY_addRule_46 (fun r' v' => r' = r0 ∧ i_Rel (k + 4) ux v') (nI t) (nI c) 168 (nI rg) (nI nt) (nI w) (nI tl) (nI rc) (nI nc) (nI sc) lv sp a_ruleLhs a_ruleCost b_tokens b_tokenAt b_lowAt b_highAt b_nodeOp b_nodeValue a_statementCost a_statementLength a_statementNodes a_memory a_arguments b_work b_place b_covered b_bestCost b_bestLength n46 0) ∧ (¬ nI (bu_h (fun j => bu_ar (a_openToken j)) os) = 1 → (-4 : Int32) = r0 ∧ i_Rel (k + 4) ux ((nI rg), (nI nt), (nI w), (nI tl), (nI rc), (nI nc), (nI sc), lv, sp, a_ruleLhs, a_ruleCost, b_tokens, b_tokenAt, b_lowAt, b_highAt, b_nodeOp, b_nodeValue, a_statementCost, a_statementLength, a_statementNodes, a_memory, a_arguments, b_work, b_place, b_covered, b_bestCost, b_bestLength))) → wpY_addRule (fun r' v' => r' = r0 ∧ i_Rel (k + 4) ux v') ((nI rg), (nI nt), (nI w), (nI tl), (nI rc), (nI nc), (nI sc), lv, sp, a_ruleLhs, a_ruleCost, b_tokens, b_tokenAt, b_lowAt, b_highAt, b_nodeOp, b_nodeValue, a_statementCost, a_statementLength, a_statementNodes, a_memory, a_arguments, b_work, b_place, b_covered, b_bestCost, b_bestLength) (nI t) (nI c) := by
        intro r0 ux hh
        unfold wpY_addRule
        refine bu_inn ht (by omega) (br_f (nI_pos (by omega)) (br_t (nI_le (b := 99) hc (by decide)) ?_))
        refine yh_height (r := 24) (by omega) e24 os7 ewY ?_
        rw [ehY]
        exact hh
      by_cases z : bu_h (fun i => bu_ar (a_openToken i)) os = 1
      · have z1 : nI (bu_h (fun i => bu_ar (a_openToken i)) os) = 1 := by rw [z]; rfl
        refine br_t z1 ?_
        have X49 : (t < rg ∨ ¬ bu_MT os a_openToken) → wX_addRule_49 (fun r u' => wpY_addRule (fun r' v' => r' = r ∧ i_Rel (k + 4) u' v') ((nI rg), (nI nt), (nI w), (nI tl), (nI rc), (nI nc), (nI sc), lv, sp, a_ruleLhs, a_ruleCost, b_tokens, b_tokenAt, b_lowAt, b_highAt, b_nodeOp, b_nodeValue, a_statementCost, a_statementLength, a_statementNodes, a_memory, a_arguments, b_work, b_place, b_covered, b_bestCost, b_bestLength) (nI t) (nI c)) (nI t) (nI c) (nI rg) (nI nt) (nI w) (nI tl) (nI os) (nI (bu_h (fun i => bu_ar (a_openToken i)) os)) (nI rc) (nI nc) (nI (bu_h (fun i => bu_ar (a_nodeOperator i)) nc)) (nI lb) (nI sc) (nI pn) dp lv sp a_openToken a_openLow a_openHigh a_ruleLhs a_ruleCost a_ruleSize a_ruleToken a_ruleLow a_ruleHigh a_nodeOperator a_nodeValue a_subtreeFirst a_bestCost a_bestLength a_place a_covered a_statementStart a_statementNodes a_statementCost a_statementLength a_programOperator a_programValue a_memory a_arguments a_stack := by
          intro okk
          unfold wX_addRule_49
          rcases Nat.lt_or_ge rc 24 with y | y
          · refine br_t (nI_lt (b := 24) y (by decide)) (xr_start y ⟨os + 1, ?_⟩)
            have key := xo_71 (post := fun r u' => wpY_addRule (fun r' v' => r' = r ∧ i_Rel (k + 4) u' v') ((nI rg), (nI nt), (nI w), (nI tl), (nI rc), (nI nc), (nI sc), lv, sp, a_ruleLhs, a_ruleCost, b_tokens, b_tokenAt, b_lowAt, b_highAt, b_nodeOp, b_nodeValue, a_statementCost, a_statementLength, a_statementNodes, a_memory, a_arguments, b_work, b_place, b_covered, b_bestCost, b_bestLength) (nI t) (nI c)) (os := os) (rc := rc) (rs := a_ruleSize) (rT := a_ruleToken) (rL := a_ruleLow) (rH := a_ruleHigh) (f_registers := nI rg) (f_nonterminals := nI nt) (f_words := nI w) (f_treeLimit := nI tl) (f_openHeight := nI (bu_h (fun i => bu_ar (a_openToken i)) os)) (f_nodeCount := nI nc) (f_rootCount := nI (bu_h (fun i => bu_ar (a_nodeOperator i)) nc)) (f_labelled := 0) (f_statementCount := nI sc) (f_programNodes := nI pn) (f_depth := dp) (f_lastValue := lv) (f_spent := sp) (a_openToken := a_openToken) (a_openLow := a_openLow) (a_openHigh := a_openHigh) (a_ruleLhs := upd a_ruleLhs rc (nI t)) (a_ruleCost := upd a_ruleCost rc (nI c)) (a_nodeOperator := a_nodeOperator) (a_nodeValue := a_nodeValue) (a_subtreeFirst := a_subtreeFirst) (a_bestCost := a_bestCost) (a_bestLength := a_bestLength) (a_place := a_place) (a_covered := a_covered) (a_statementStart := a_statementStart) (a_statementNodes := a_statementNodes) (a_statementCost := a_statementCost) (a_statementLength := a_statementLength) (a_programOperator := a_programOperator) (a_programValue := a_programValue) (a_memory := a_memory) (a_arguments := a_arguments) (a_stack := a_stack) os7 y (toY _ _ (br_t z1 ⟨os + 1, yo_46 (oT := a_openToken) (oL := a_openLow) (oH := a_openHigh) os7 r24 (by omega) (by omega) e24 eo er (fun q1 q2 => absurd okk (fun q => q.elim q1 (fun q3 => q3 q2))) (fun _ q => absurd y q) (fun _ _ => ⟨rfl, zz_in (os := 0) (lb := 0) ⟨F1, ⟨by omega, fun j hj => by omega, fun j hj => by omega⟩, ⟨by omega, bu_Rs_add F3.2 (bu_Row_cg (tk := a_openToken) (b := 0) ⟨by omega, os7, bu_wf_cg (fun j hj => by rw [Nat.zero_add]) ow, by
                rw [← z]; exact bu_h_cg (fun j hj => by rw [Nat.zero_add])⟩ (fun i hi => rfl)) (fun i hi => (ok i hi).1) ht hc⟩, F4, ⟨by omega, bu_Cor_0⟩, F6, ⟨fun j hj => by
                rw [pk_un (by omega)]
                by_cases e : j = rc
                · subst e; rw [pk_us, pk_us]
                · rw [pk_un e, pk_un e]; exact eS j hj, pk_us, fun j hj => by
                unfold bu_cp; rw [eT j hj], fun j hj => by
                unfold bu_cp; rw [eL j hj], fun j hj => by
                unfold bu_cp; rw [eH j hj], fun j hj => by
                rw [bu_cp_hi (by omega), bu_cp_hi (by omega), bu_cp_hi (by omega)]; exact eo j hj, eO, eV, eP⟩⟩⟩) (os + 1) 0 (by omega) (by omega) (fun _ i hi => by omega)⟩)) (os + 1) 0 (by omega) (by omega)
            rw [bu_cp_0, bu_cp_0, bu_cp_0] at key
            exact key
          · refine br_f (nI_nlt (b := 24) y (by omega)) (toY _ _ (br_t z1 ⟨os + 1, yo_46 (oT := a_openToken) (oL := a_openLow) (oH := a_openHigh) os7 r24 (by omega) (by omega) e24 eo er (fun q1 q2 => absurd okk (fun q => q.elim q1 (fun q3 => q3 q2))) (fun _ _ => ⟨rfl, zz_in F0⟩) (fun _ q => absurd q (by omega)) (os + 1) 0 (by omega) (by omega) (fun _ i hi => by omega)⟩))
        rcases Nat.lt_or_ge t rg with y | y
        · exact br_t (nI_lt y (by omega)) (X49 (Or.inl y))
        · refine br_f (nI_nlt y (by omega)) (xo_mem os7 (fun q => br_f (by decide) ?_) (fun q => br_t rfl (X49 (Or.inr q))))
          exact toY _ _ (br_t z1 ⟨os + 1, yo_46 (oT := a_openToken) (oL := a_openLow) (oH := a_openHigh) os7 r24 (by omega) (by omega) e24 eo er (fun _ _ => ⟨rfl, zz_in F0⟩) (fun q1 => absurd q1 (fun q2 => q2.elim (by omega) (fun q3 => q3 q))) (fun q1 => absurd q1 (fun q2 => q2.elim (by omega) (fun q3 => q3 q))) (os + 1) 0 (by omega) (by omega) (fun _ i hi => by omega)⟩)
      · have nz : ¬ nI (bu_h (fun i => bu_ar (a_openToken i)) os) = 1 := fun q => z ((nI_eq (a := bu_h (fun i => bu_ar (a_openToken i)) os) (b := 1) (by omega) (by decide)).mp q)
        exact br_f nz (toY _ _ (br_f nz ⟨rfl, zz_in F0⟩))
end
section
/-! addPlainRules -/
def bu_g (o j : Nat) : Int32 := if j < bu_ar (nI o) then 16 else nI o
def bu_gl (o _ : Nat) : Int32 := if bu_ar (nI o) = 0 then -2147483648 else 0
def bu_gh (o _ : Nat) : Int32 := if bu_ar (nI o) = 0 then 2147483647 else 0
def bu_pt (gf : Nat → Nat → Int32) (rc : Nat) (f : Nat → Int32) : Nat → Nat → Int32
  | 0 => f
  | o + 1 => bu_cp (bu_pt gf rc f o) (gf o) (7 * (rc + o)) (bu_ar (nI o) + 1)
def bu_pu (vf : Nat → Int32) (rc : Nat) (f : Nat → Int32) : Nat → Nat → Int32
  | 0 => f
  | o + 1 => upd (bu_pu vf rc f o) (rc + o) (vf o)
theorem bu_pt_s (gf : Nat → Nat → Int32) (rc : Nat) (f : Nat → Int32) (o : Nat) : bu_pt gf rc f (o + 1) = bu_cp (bu_pt gf rc f o) (gf o) (7 * (rc + o)) (bu_ar (nI o) + 1) := rfl
theorem bu_pu_s (vf : Nat → Int32) (rc : Nat) (f : Nat → Int32) (o : Nat) : bu_pu vf rc f (o + 1) = upd (bu_pu vf rc f o) (rc + o) (vf o) := rfl
theorem bu_grow : ∀ o, o < 9 → bu_Row (bu_g o) 0 (bu_ar (nI o) + 1) := by
  unfold bu_Row bu_wf
  decide
theorem bu_gtok {nt o j : Nat} (h1 : 1 ≤ nt) (ho : o < 9) : bu_tok nt (bu_g o j) := by
  unfold bu_g
  split
  · exact ⟨16, rfl, Or.inr ⟨by omega, by omega⟩, by omega⟩
  · exact ⟨o, rfl, Or.inl (by omega), by omega⟩
theorem bu_grl : ∀ o, o < 9 → bu_rgd (nI o) (-2147483648) = bu_gl o 0 ∧ bu_rgd (nI o) 2147483647 = bu_gh o 0 := by decide
theorem bu_Rs_plain {tk lhs cost size : Nat → Int32} {nt rc c : Nat} (h : bu_Rs tk lhs cost size nt rc) (h1 : 1 ≤ nt) (hc : c ≤ 99) : ∀ o, o ≤ 9 → bu_Rs (bu_pt bu_g rc tk o) (bu_pu (fun _ => 0) rc lhs o) (bu_pu (fun _ => nI c) rc cost o) (bu_pu (fun o => nI (bu_ar (nI o) + 1)) rc size o) nt (rc + o)
  | 0, _ => h
  | o + 1, ho => bu_Rs_add (t := 0) (bu_Rs_plain h h1 hc o (by omega)) (bu_grow o (by omega)) (fun i _ => bu_gtok h1 (by omega)) (by omega) hc
theorem bu_pt_eq {gf : Nat → Nat → Int32} {rc : Nat} {f f' : Nat → Int32} {N : Nat} (h : ∀ j, j < N → f j = f' j) : ∀ o j, j < N → bu_pt gf rc f o j = bu_pt gf rc f' o j
  | 0, j, hj => h j hj
  | o + 1, j, hj => by
    rw [bu_pt_s, bu_pt_s]
    unfold bu_cp
    rw [bu_pt_eq h o j hj]
theorem bu_pt_hi {gf : Nat → Nat → Int32} {rc : Nat} {f : Nat → Int32} {j : Nat} (hj : 168 ≤ j) : ∀ o, rc + o ≤ 24 → bu_pt gf rc f o j = f j
  | 0, _ => rfl
  | o + 1, ho => by
    have a2 := bu_ar_2 (nI o)
    rw [bu_pt_s, bu_cp_hi (by omega)]
    exact bu_pt_hi hj o (by omega)
theorem bu_pu_eq {vf : Nat → Int32} {rc : Nat} {f f' : Nat → Int32} {N : Nat} (h : ∀ j, j < N → f j = f' j) : ∀ o j, j < N → bu_pu vf rc f o j = bu_pu vf rc f' o j
  | 0, j, hj => h j hj
  | o + 1, j, hj => by
    rw [bu_pu_s, bu_pu_s]
    unfold upd
    rw [bu_pu_eq h o j hj]
theorem bu_pu_hi {vf : Nat → Int32} {rc : Nat} {f : Nat → Int32} {j : Nat} (hj : 24 ≤ j) : ∀ o, rc + o ≤ 24 → bu_pu vf rc f o j = f j
  | 0, _ => rfl
  | o + 1, ho => by
    rw [bu_pu_s, pk_un (by omega)]
    exact bu_pu_hi hj o (by omega)
section
variable {f_registers f_nonterminals f_words f_treeLimit f_openSize f_openHeight f_ruleCount f_nodeCount f_rootCount f_labelled f_statementCount f_programNodes f_depth f_lastValue f_spent : Int32} {a_openToken a_openLow a_openHigh a_ruleLhs a_ruleCost a_ruleSize a_ruleToken a_ruleLow a_ruleHigh a_nodeOperator a_nodeValue a_subtreeFirst a_bestCost a_bestLength a_place a_covered a_statementStart a_statementNodes a_statementCost a_statementLength a_programOperator a_programValue a_memory a_arguments a_stack : Nat → Int32}
theorem xb_56 {post : Int32 → SX → Prop} {J : Int32 → Int32 → Int32 → Int32 → Int32 → Int32 → Int32 → Int32 → Int32 → Int32 → Int32 → Int32 → Int32 → Int32 → Int32 → Int32 → (Nat → Int32) → (Nat → Int32) → (Nat → Int32) → (Nat → Int32) → (Nat → Int32) → (Nat → Int32) → (Nat → Int32) → (Nat → Int32) → (Nat → Int32) → (Nat → Int32) → (Nat → Int32) → (Nat → Int32) → (Nat → Int32) → (Nat → Int32) → (Nat → Int32) → (Nat → Int32) → (Nat → Int32) → (Nat → Int32) → (Nat → Int32) → (Nat → Int32) → (Nat → Int32) → (Nat → Int32) → (Nat → Int32) → (Nat → Int32) → (Nat → Int32) → Prop} {x1 x2 : Int32} {o r : Nat} {rs rT rL rH : Nat → Int32} (hr : r < 24)
    (h : J (nI (o + 1)) f_registers f_nonterminals f_words f_treeLimit f_openSize f_openHeight (nI (r + 1)) f_nodeCount f_rootCount f_labelled f_statementCount f_programNodes f_depth f_lastValue f_spent a_openToken a_openLow a_openHigh a_ruleLhs a_ruleCost (upd rs r (nI (bu_ar (nI o) + 1))) (bu_cp rT (bu_g o) (7 * r) (bu_ar (nI o) + 1)) (bu_cp rL (bu_gl o) (7 * r) (bu_ar (nI o) + 1)) (bu_cp rH (bu_gh o) (7 * r) (bu_ar (nI o) + 1)) a_nodeOperator a_nodeValue a_subtreeFirst a_bestCost a_bestLength a_place a_covered a_statementStart a_statementNodes a_statementCost a_statementLength a_programOperator a_programValue a_memory a_arguments a_stack) :
    ∀ (fuel j : Nat), bu_ar (nI o) < j + fuel → j ≤ bu_ar (nI o) → wX_addPlainRules_56 post J x1 x2 (nI o) (nI r) (nI (bu_ar (nI o))) fuel (nI j) f_registers f_nonterminals f_words f_treeLimit f_openSize f_openHeight (nI (r + 1)) f_nodeCount f_rootCount f_labelled f_statementCount f_programNodes f_depth f_lastValue f_spent a_openToken a_openLow a_openHigh a_ruleLhs a_ruleCost (upd rs r (nI j)) (bu_cp rT (bu_g o) (7 * r) j) (bu_cp rL (bu_gl o) (7 * r) j) (bu_cp rH (bu_gh o) (7 * r) j) a_nodeOperator a_nodeValue a_subtreeFirst a_bestCost a_bestLength a_place a_covered a_statementStart a_statementNodes a_statementCost a_statementLength a_programOperator a_programValue a_memory a_arguments a_stack := by
  have a2 := bu_ar_2 (nI o)
  intro fuel
  induction fuel with
  | zero => intro j hf hj; omega
  | succ fuel ih =>
    intro j hf hj
    rw [wX_addPlainRules_56]
    dsimp only
    rcases Nat.lt_or_ge j (bu_ar (nI o)) with z | z
    · refine br_f (nI_ge z (by omega)) (xr_app (s := j) (by omega) (by omega) pk_us (by omega) ?_)
      have e1 : upd (bu_cp rT (bu_g o) (7 * r) j) (7 * r + j) 16 = bu_cp rT (bu_g o) (7 * r) (j + 1) := by
        rw [← bu_cp_s, show bu_g o j = 16 from if_pos z]
      have e2 : upd (bu_cp rL (bu_gl o) (7 * r) j) (7 * r + j) 0 = bu_cp rL (bu_gl o) (7 * r) (j + 1) := by
        rw [← bu_cp_s, show bu_gl o j = 0 from if_neg (by omega)]
      have e3 : upd (bu_cp rH (bu_gh o) (7 * r) j) (7 * r + j) 0 = bu_cp rH (bu_gh o) (7 * r) (j + 1) := by
        rw [← bu_cp_s, show bu_gh o j = 0 from if_neg (by omega)]
      rw [bu_uu, e1, e2, e3]
      exact nm_r (nI_1 j) (ih (j + 1) (by omega) (by omega))
    · have ej : j = bu_ar (nI o) := by omega
      refine br_t (nI_le (by omega) (by omega)) ?_
      have e1 : upd (bu_cp rT (bu_g o) (7 * r) j) (7 * r + j) (nI o) = bu_cp rT (bu_g o) (7 * r) (j + 1) := by
        rw [← bu_cp_s, show bu_g o j = nI o from if_neg (by omega)]
      by_cases a0 : bu_ar (nI o) = 0
      · refine br_t (by rw [a0]; rfl) (xr_app (s := j) (by omega) (by omega) pk_us (by omega) ?_)
        have e2 : upd (bu_cp rL (bu_gl o) (7 * r) j) (7 * r + j) (-2147483648) = bu_cp rL (bu_gl o) (7 * r) (j + 1) := by
          rw [← bu_cp_s, show bu_gl o j = -2147483648 from if_pos a0]
        have e3 : upd (bu_cp rH (bu_gh o) (7 * r) j) (7 * r + j) 2147483647 = bu_cp rH (bu_gh o) (7 * r) (j + 1) := by
          rw [← bu_cp_s, show bu_gh o j = 2147483647 from if_pos a0]
        rw [bu_uu, e1, e2, e3, ej]
        exact nm_r (nI_1 o) h
      · refine br_f (nI_ne0 (by omega) (by omega)) (xr_app (s := j) (by omega) (by omega) pk_us (by omega) ?_)
        have e2 : upd (bu_cp rL (bu_gl o) (7 * r) j) (7 * r + j) 0 = bu_cp rL (bu_gl o) (7 * r) (j + 1) := by
          rw [← bu_cp_s, show bu_gl o j = 0 from if_neg a0]
        have e3 : upd (bu_cp rH (bu_gh o) (7 * r) j) (7 * r + j) 0 = bu_cp rH (bu_gh o) (7 * r) (j + 1) := by
          rw [← bu_cp_s, show bu_gh o j = 0 from if_neg a0]
        rw [bu_uu, e1, e2, e3, ej]
        exact nm_r (nI_1 o) h
theorem xb_32 {post : Int32 → SX → Prop} {x2 : Int32} {rc c : Nat} {lh co rs rT rL rH : Nat → Int32} (hr : rc + 9 ≤ 24)
    (h : post x2 (f_registers, f_nonterminals, f_words, f_treeLimit, f_openSize, f_openHeight, (nI (rc + 9)), f_nodeCount, f_rootCount, 0, f_statementCount, f_programNodes, f_depth, f_lastValue, f_spent, a_openToken, a_openLow, a_openHigh, (bu_pu (fun _ => 0) rc lh 9), (bu_pu (fun _ => nI c) rc co 9), (bu_pu (fun o => nI (bu_ar (nI o) + 1)) rc rs 9), (bu_pt bu_g rc rT 9), (bu_pt bu_gl rc rL 9), (bu_pt bu_gh rc rH 9), a_nodeOperator, a_nodeValue, a_subtreeFirst, a_bestCost, a_bestLength, a_place, a_covered, a_statementStart, a_statementNodes, a_statementCost, a_statementLength, a_programOperator, a_programValue, a_memory, a_arguments, a_stack)) :
    ∀ (fuel o : Nat) (fl : Int32), 9 < o + fuel → o ≤ 9 → (0 < o → fl = 0) → wX_addPlainRules_32 post (nI c) x2 fuel (nI o) f_registers f_nonterminals f_words f_treeLimit f_openSize f_openHeight (nI (rc + o)) f_nodeCount f_rootCount fl f_statementCount f_programNodes f_depth f_lastValue f_spent a_openToken a_openLow a_openHigh (bu_pu (fun _ => 0) rc lh o) (bu_pu (fun _ => nI c) rc co o) (bu_pu (fun o => nI (bu_ar (nI o) + 1)) rc rs o) (bu_pt bu_g rc rT o) (bu_pt bu_gl rc rL o) (bu_pt bu_gh rc rH o) a_nodeOperator a_nodeValue a_subtreeFirst a_bestCost a_bestLength a_place a_covered a_statementStart a_statementNodes a_statementCost a_statementLength a_programOperator a_programValue a_memory a_arguments a_stack := by
  intro fuel
  induction fuel with
  | zero => intro o fl hf ho; omega
  | succ fuel ih =>
    intro o fl hf ho hfl
    rw [wX_addPlainRules_32]
    dsimp only
    rcases Nat.lt_or_ge o 9 with z | z
    · refine br_f (nI_nlt (a := 8) (b := o) (by omega) (by decide)) (xr_start (by omega) (xa_ar ⟨4, ?_⟩))
      have a2 := bu_ar_2 (nI o)
      have key := xb_56 (post := post) (J := wX_addPlainRules_32 post (nI c) x2 fuel) (x1 := nI c) (x2 := x2) (o := o) (r := rc + o) (rs := bu_pu (fun o => nI (bu_ar (nI o) + 1)) rc rs o) (rT := bu_pt bu_g rc rT o) (rL := bu_pt bu_gl rc rL o) (rH := bu_pt bu_gh rc rH o) (f_labelled := 0) (a_ruleLhs := upd (bu_pu (fun _ => 0) rc lh o) (rc + o) 0) (a_ruleCost := upd (bu_pu (fun _ => nI c) rc co o) (rc + o) (nI c)) (by omega) (ih (o + 1) 0 (by omega) (by omega) (fun _ => rfl)) 4 0 (by omega) (by omega)
      rw [bu_cp_0, bu_cp_0, bu_cp_0] at key
      exact key
    · have eo : o = 9 := by omega
      subst eo
      have := hfl (by omega)
      subst this
      exact br_t (nI_lt (a := 8) (b := 9) (by omega) (by decide)) h
end
section
variable {g_registers g_nonterminals g_words g_treeNodes g_rules g_nodes g_statements g_lastValue g_spent : Int32} {b_lhsOf b_costOf b_tokens b_tokenAt b_lowAt b_highAt b_nodeOp b_nodeValue b_statementCost b_statementLength b_statementNodes b_memory b_arguments b_work b_place b_covered b_bestCost b_bestLength : Nat → Int32}
theorem yb_74 {post : Int32 → SY → Prop} {J : Int32 → Int32 → Int32 → Int32 → Int32 → Int32 → Int32 → Int32 → Int32 → Int32 → (Nat → Int32) → (Nat → Int32) → (Nat → Int32) → (Nat → Int32) → (Nat → Int32) → (Nat → Int32) → (Nat → Int32) → (Nat → Int32) → (Nat → Int32) → (Nat → Int32) → (Nat → Int32) → (Nat → Int32) → (Nat → Int32) → (Nat → Int32) → (Nat → Int32) → (Nat → Int32) → (Nat → Int32) → (Nat → Int32) → Prop} {x1 : Int32} {o r : Nat} {rs rT rL rH : Nat → Int32} (hr : r < 24) (h9 : o < 9)
    (h : J (nI (o + 1)) g_registers g_nonterminals g_words g_treeNodes (nI (r + 1)) g_nodes g_statements g_lastValue g_spent b_lhsOf b_costOf (upd rs r (nI (bu_ar (nI o) + 1))) (bu_cp rT (bu_g o) (7 * r) (bu_ar (nI o) + 1)) (bu_cp rL (bu_gl o) (7 * r) (bu_ar (nI o) + 1)) (bu_cp rH (bu_gh o) (7 * r) (bu_ar (nI o) + 1)) b_nodeOp b_nodeValue b_statementCost b_statementLength b_statementNodes b_memory b_arguments b_work b_place b_covered b_bestCost b_bestLength) :
    ∀ (fuel j : Nat), bu_ar (nI o) < j + fuel → j ≤ bu_ar (nI o) → wY_addPlainRules_74 post J x1 (nI o) (nI (bu_ar (nI o))) fuel (nI j) g_registers g_nonterminals g_words g_treeNodes (nI r) g_nodes g_statements g_lastValue g_spent b_lhsOf b_costOf (upd rs r (nI j)) (bu_cp rT (bu_g o) (7 * r) j) (bu_cp rL (bu_gl o) (7 * r) j) (bu_cp rH (bu_gh o) (7 * r) j) b_nodeOp b_nodeValue b_statementCost b_statementLength b_statementNodes b_memory b_arguments b_work b_place b_covered b_bestCost b_bestLength := by
  have a2 := bu_ar_2 (nI o)
  intro fuel
  induction fuel with
  | zero => intro j hf hj; omega
  | succ fuel ih =>
    intro j hf hj
    rw [wY_addPlainRules_74]
    dsimp only
    rcases Nat.lt_or_ge j (bu_ar (nI o)) with z | z
    · refine br_f (nI_ge z (by omega)) (ya_app (s := j) (by omega) pk_us (by omega) ?_)
      have e1 : upd (bu_cp rT (bu_g o) (7 * r) j) (7 * r + j) 16 = bu_cp rT (bu_g o) (7 * r) (j + 1) := by
        rw [← bu_cp_s, show bu_g o j = 16 from if_pos z]
      have e0 : bu_rgd 16 0 = 0 := by decide
      have e2 : upd (bu_cp rL (bu_gl o) (7 * r) j) (7 * r + j) 0 = bu_cp rL (bu_gl o) (7 * r) (j + 1) := by
        rw [← bu_cp_s, show bu_gl o j = 0 from if_neg (by omega)]
      have e3 : upd (bu_cp rH (bu_gh o) (7 * r) j) (7 * r + j) 0 = bu_cp rH (bu_gh o) (7 * r) (j + 1) := by
        rw [← bu_cp_s, show bu_gh o j = 0 from if_neg (by omega)]
      rw [bu_uu, e0, e1, e2, e3]
      exact nm_r (nI_1 j) (ih (j + 1) (by omega) (by omega))
    · have ej : j = bu_ar (nI o) := by omega
      refine br_t (nI_le (by omega) (by omega)) (ya_app (s := j) (by omega) pk_us (by omega) ?_)
      have e1 : upd (bu_cp rT (bu_g o) (7 * r) j) (7 * r + j) (nI o) = bu_cp rT (bu_g o) (7 * r) (j + 1) := by
        rw [← bu_cp_s, show bu_g o j = nI o from if_neg (by omega)]
      have e2 : upd (bu_cp rL (bu_gl o) (7 * r) j) (7 * r + j) (bu_rgd (nI o) (-2147483648)) = bu_cp rL (bu_gl o) (7 * r) (j + 1) := by
        rw [← bu_cp_s, (bu_grl o h9).1]; rfl
      have e3 : upd (bu_cp rH (bu_gh o) (7 * r) j) (7 * r + j) (bu_rgd (nI o) 2147483647) = bu_cp rH (bu_gh o) (7 * r) (j + 1) := by
        rw [← bu_cp_s, (bu_grl o h9).2]; rfl
      rw [bu_uu, e1, e2, e3, ej]
      exact nm_r (nI_1 r) (nm_r (nI_1 o) h)
theorem yb_29 {post : Int32 → SY → Prop} {rc c : Nat} {lh co rs rT rL rH : Nat → Int32} (hr : rc + 9 ≤ 24)
    (h : post (nI rc) (g_registers, g_nonterminals, g_words, g_treeNodes, (nI (rc + 9)), g_nodes, g_statements, g_lastValue, g_spent, (bu_pu (fun _ => 0) rc lh 9), (bu_pu (fun _ => nI c) rc co 9), (bu_pu (fun o => nI (bu_ar (nI o) + 1)) rc rs 9), (bu_pt bu_g rc rT 9), (bu_pt bu_gl rc rL 9), (bu_pt bu_gh rc rH 9), b_nodeOp, b_nodeValue, b_statementCost, b_statementLength, b_statementNodes, b_memory, b_arguments, b_work, b_place, b_covered, b_bestCost, b_bestLength)) :
    ∀ (fuel o : Nat), 9 < o + fuel → o ≤ 9 → wY_addPlainRules_29 post (nI c) fuel (nI o) g_registers g_nonterminals g_words g_treeNodes (nI (rc + o)) g_nodes g_statements g_lastValue g_spent (bu_pu (fun _ => 0) rc lh o) (bu_pu (fun _ => nI c) rc co o) (bu_pu (fun o => nI (bu_ar (nI o) + 1)) rc rs o) (bu_pt bu_g rc rT o) (bu_pt bu_gl rc rL o) (bu_pt bu_gh rc rH o) b_nodeOp b_nodeValue b_statementCost b_statementLength b_statementNodes b_memory b_arguments b_work b_place b_covered b_bestCost b_bestLength := by
  intro fuel
  induction fuel with
  | zero => intro o hf ho; omega
  | succ fuel ih =>
    intro o hf ho
    rw [wY_addPlainRules_29]
    dsimp only
    rcases Nat.lt_or_ge o 9 with z | z
    · have v4 : vp_in (nI (rc + o)) 24 := vp_in_nI (by omega) (by decide)
      have v5 : vp_in (nI (rc + o)) 25 := vp_in_nI (by omega) (by decide)
      rw [nI_clamp (n := rc + o) (by omega)]
      refine br_f (nI_nlt (a := 8) (b := o) (by omega) (by decide)) ⟨v4, nm_e ⟨v4, nm_e ⟨v5, nm_e (ya_ar ⟨4, ?_⟩)⟩⟩⟩
      have a2 := bu_ar_2 (nI o)
      have key := yb_74 (post := post) (J := wY_addPlainRules_29 post (nI c) fuel) (x1 := nI c) (o := o) (r := rc + o) (rs := bu_pu (fun o => nI (bu_ar (nI o) + 1)) rc rs o) (rT := bu_pt bu_g rc rT o) (rL := bu_pt bu_gl rc rL o) (rH := bu_pt bu_gh rc rH o) (b_lhsOf := upd (bu_pu (fun _ => 0) rc lh o) (rc + o) 0) (b_costOf := upd (bu_pu (fun _ => nI c) rc co o) (rc + o) (nI c)) (by omega) z (ih (o + 1) (by omega) (by omega)) 4 0 (by omega) (by omega)
      rw [bu_cp_0, bu_cp_0, bu_cp_0] at key
      exact key
    · have eo : o = 9 := by omega
      subst eo
      refine br_t (nI_lt (a := 8) (b := 9) (by omega) (by decide)) ?_
      have e := pk_sub (a := rc + 9) (b := 9) (by omega)
      rw [Nat.add_sub_cancel] at e
      have e' : nI (rc + 9) - 9 = nI rc := e
      rw [e']
      exact h
end
theorem i_vc_addPlainRules {k : Nat} {u : SX} {v : SY} (I : i_Rel k u v) (hk : k + 4 ≤ 2052) (v1 : Int32) : wpX_addPlainRules (fun r u' => wpY_addPlainRules (fun r' v' => r' = r ∧ i_Rel (k + 4) u' v') v v1) u v1 := by
  refine zz_el (P := fun u v => wpX_addPlainRules (fun r u' => wpY_addPlainRules (fun r' v' => r' = r ∧ i_Rel (k + 4) u' v') v v1) u v1) ?_ I
  intro rg nt w tl os rc nc lb sc pn dp lv sp a_openToken a_openLow a_openHigh a_ruleLhs a_ruleCost a_ruleSize a_ruleToken a_ruleLow a_ruleHigh a_nodeOperator a_nodeValue a_subtreeFirst a_bestCost a_bestLength a_place a_covered a_statementStart a_statementNodes a_statementCost a_statementLength a_programOperator a_programValue a_memory a_arguments a_stack b_tokens b_tokenAt b_lowAt b_highAt b_nodeOp b_nodeValue b_work b_place b_covered b_bestCost b_bestLength F
  have F0 := F
  obtain ⟨F1, F2, F3, F4, F5, F6, F7⟩ := F
  have r24 := F3.1
  have nt1 : 1 ≤ nt := Nat.le_trans F1.1 F1.2.2.1
  have F7' := F7
  obtain ⟨eS, e24, eT, eL, eH, eo, eO, eV, eP⟩ := F7'
  have e9 : nI rc + 9 = nI (rc + 9) := nI_add rc 9
  unfold wpX_addPlainRules
  rcases bu_em99 v1 with h | ⟨c, hc, rfl⟩
  · refine xi_cost0 h (br_t rfl ?_)
    unfold wpY_addPlainRules
    exact bu_outL h ⟨rfl, zz_in F0⟩
  · refine xi_cost1 hc (br_f (by decide) ?_)
    rw [e9]
    rcases Nat.lt_or_ge 24 (rc + 9) with z | z
    · refine br_f (nI_ge (a := 24) z (by omega)) ?_
      unfold wpY_addPlainRules
      dsimp only
      rw [e9]
      exact br_f (nI_pos (by omega)) (br_t (nI_le (b := 99) hc (by decide)) (br_f (nI_ge (a := 24) z (by omega)) ⟨rfl, zz_in F0⟩))
    · refine br_t (nI_le (b := 24) z (by decide)) ⟨10, ?_⟩
      refine xb_32 (rc := rc) (c := c) (lh := a_ruleLhs) (co := a_ruleCost) (rs := a_ruleSize) (rT := a_ruleToken) (rL := a_ruleLow) (rH := a_ruleHigh) z ?_ 10 0 (nI lb) (by omega) (by omega) (fun q => by omega)
      unfold wpY_addPlainRules
      dsimp only
      rw [e9]
      refine br_f (nI_pos (by omega)) (br_t (nI_le (b := 99) hc (by decide)) (br_t (nI_le (b := 24) z (by decide)) ⟨10, ?_⟩))
      refine yb_29 (rc := rc) (c := c) (lh := a_ruleLhs) (co := a_ruleCost) (rs := b_tokens) (rT := b_tokenAt) (rL := b_lowAt) (rH := b_highAt) z ?_ 10 0 (by omega) (by omega)
      refine ⟨rfl, zz_in (rc := rc + 9) (lb := 0) ⟨F1, F2, ⟨z, bu_Rs_plain F3.2 nt1 hc 9 (by omega)⟩, F4, ⟨by omega, bu_Cor_0⟩, F6, ⟨bu_pu_eq eS 9, ?_, bu_pt_eq eT 9, bu_pt_eq eL 9, bu_pt_eq eH 9, fun j hj => ?_, eO, eV, eP⟩⟩⟩
      · rw [bu_pu_hi (by omega) 9 z]; exact e24
      · rw [bu_pt_hi (by omega) 9 z, bu_pt_hi (by omega) 9 z, bu_pt_hi (by omega) 9 z]; exact eo j hj
end
