section
/-! pure rows to paste: stores, nI and lN arithmetic, masks, shifts, narrowing, branches by naturals (pk_le, pk_lt, pk_eq), loops (lp1 .. lp16: the measure of the state; rp1 ..: recursion), negatives. Take what you need -/
theorem pk_us {f : Nat → Int32} {k : Nat} {x : Int32} : upd f k x k = x := if_pos rfl
theorem pk_un {f : Nat → Int32} {k j : Nat} {x : Int32} (h : j ≠ k) : upd f k x j = f j := if_neg h
theorem pk_uLs {f : Nat → Int64} {k : Nat} {x : Int64} : vp_updL f k x k = x := if_pos rfl
theorem pk_uLn {f : Nat → Int64} {k j : Nat} {x : Int64} (h : j ≠ k) : vp_updL f k x j = f j := if_neg h
theorem pk_sub {a b : Nat} (h : b ≤ a) : nI a - nI b = nI (a - b) := by
  obtain ⟨c, rfl⟩ : ∃ c, a = c + b := ⟨a - b, by omega⟩
  rw [← nI_add, Int32.add_sub_cancel, Nat.add_sub_cancel]
theorem pk_m1 (n : Nat) : nI (n + 1) + (-1) = nI n := by
  rw [← nI_1, Int32.add_assoc, show (1 : Int32) + (-1) = 0 from rfl, Int32.add_zero]
theorem pk_mul (a b : Nat) : nI a * nI b = nI (a * b) := (Int32.ofNat_mul a b).symm
theorem pk_div {a d : Nat} (ha : a < 2 ^ 31) (h0 : 0 < d) (hd : d < 2 ^ 31) : nI a / nI d = nI (a / d) := by
  apply Int32.toInt_inj.mp
  rw [lg_idiv_nonneg (by rw [nI_toInt ha]; omega) (by rw [nI_toInt hd]; omega), nI_toInt ha, nI_toInt hd, nI_toInt (Nat.lt_of_le_of_lt (Nat.div_le_self a d) ha)]
  first | rfl | exact (Int.natCast_ediv _ _).symm
theorem pk_rem {a d : Nat} (ha : a < 2 ^ 31) (h0 : 0 < d) (hd : d < 2 ^ 31) : nI a - nI a / nI d * nI d = nI (a % d) := by
  rw [pk_div ha h0 hd, pk_mul, pk_sub (Nat.div_mul_le_self a d)]
  exact congrArg nI (by have := Nat.div_add_mod' a d; omega)
theorem pk_sub_toInt {a b : Nat} (ha : a < 2 ^ 30) (hb : b < 2 ^ 30) : (nI a - nI b).toInt = (a : Int) - b := by
  rw [Int32.toInt_sub, nI_toInt (by omega), nI_toInt (by omega)]
  exact Int.bmod_eq_of_le (by omega) (by omega)
theorem pk_sneg {a b : Nat} (hb : b < 2 ^ 30) (h : a < b) : nI a - nI b < 0 := by
  rw [Int32.lt_iff_toInt_lt, pk_sub_toInt (by omega) hb, show (0 : Int32).toInt = 0 from by decide]
  omega
theorem pk_ix (x : Int32) {n : Nat} (hn : n < 2 ^ 31) : x < 0 ∨ nI n ≤ x ∨ ∃ j : Nat, j < n ∧ x = nI j := by
  by_cases h : x < 0
  · exact Or.inl h
  · obtain ⟨j, hj, rfl⟩ := nI_of h
    by_cases h2 : j < n
    · exact Or.inr (Or.inr ⟨j, h2, rfl⟩)
    · exact Or.inr (Or.inl (nI_le (by omega) hj))
theorem pk_le {x y : Int32} {A B : Prop} (a b : Nat) (f : a ≤ b → A) (g : b < a → B) (hx : x = nI a := by rfl) (hy : y = nI b := by rfl) (ha : a < 2 ^ 31 := by omega) (hb : b < 2 ^ 31 := by omega) : (x ≤ y → A) ∧ (¬ x ≤ y → B) := by
  subst hx hy
  rw [nI_leI ha hb]
  exact ⟨f, fun z => g (by omega)⟩
theorem pk_lt {x y : Int32} {A B : Prop} (a b : Nat) (f : a < b → A) (g : b ≤ a → B) (hx : x = nI a := by rfl) (hy : y = nI b := by rfl) (ha : a < 2 ^ 31 := by omega) (hb : b < 2 ^ 31 := by omega) : (x < y → A) ∧ (¬ x < y → B) := by
  subst hx hy
  rw [nI_ltI ha hb]
  exact ⟨f, fun z => g (by omega)⟩
theorem pk_eq {x y : Int32} {A B : Prop} (a b : Nat) (f : a = b → A) (g : a ≠ b → B) (hx : x = nI a := by rfl) (hy : y = nI b := by rfl) (ha : a < 2 ^ 31 := by omega) (hb : b < 2 ^ 31 := by omega) : (x = y → A) ∧ (¬ x = y → B) := by
  subst hx hy
  rw [nI_eq ha hb]
  exact ⟨f, g⟩
theorem pk_in {x : Int32} (n N : Nat) (h : n < N) (hx : x = nI n := by rfl) (hN : N < 2 ^ 31 := by omega) : vp_in x N := by
  subst hx
  exact vp_in_nI h hN
theorem pk_cl {x : Int32} (n : Nat) (hx : x = nI n := by rfl) (h : n < 2 ^ 31 := by omega) : x.toNatClampNeg = n := by
  subst hx
  exact nI_clamp h
theorem pk_tn {n : Nat} (h : n < 2 ^ 32) : (nI n).toBitVec.toNat = n := Nat.mod_eq_of_lt h
theorem pk_and (x : Int32) {m : Int32} (k : Nat) (hm : m.toBitVec.toNat = 2 ^ k - 1) : x &&& m = nI (x.toBitVec.toNat % 2 ^ k) := by
  apply Int32.toBitVec_inj.mp
  apply BitVec.eq_of_toNat_eq
  rw [Int32.toBitVec_and, BitVec.toNat_and, hm, Nat.and_two_pow_sub_one_eq_mod]
  show _ = (BitVec.ofNat 32 _).toNat
  rw [BitVec.toNat_ofNat]
  exact (Nat.mod_eq_of_lt (Nat.lt_of_le_of_lt (Nat.mod_le _ _) x.toBitVec.isLt)).symm
theorem pk_andN {n : Nat} (h : n < 2 ^ 32) {m : Int32} (k : Nat) (hm : m.toBitVec.toNat = 2 ^ k - 1) : nI n &&& m = nI (n % 2 ^ k) := by
  rw [pk_and _ k hm, pk_tn h]
theorem pk_andE (x : Int32) {m : Int32} (k : Nat) (hm : m.toBitVec.toNat = 2 ^ k - 1) : ∃ j : Nat, j < 2 ^ k ∧ x &&& m = nI j := ⟨_, Nat.mod_lt _ (Nat.two_pow_pos k), pk_and x k hm⟩
theorem pk_andIn (x : Int32) {m : Int32} (k : Nat) (hm : m.toBitVec.toNat = 2 ^ k - 1) (hk : k ≤ 30) : vp_in (x &&& m) (2 ^ k) := by
  obtain ⟨j, hj, e⟩ := pk_andE x k hm
  rw [e]
  exact vp_in_nI hj (Nat.lt_of_le_of_lt (Nat.pow_le_pow_right (by decide) hk) (by decide))
theorem pk_shl (a s : Int32) (k : Nat) (hs : (s.toBitVec.smod 32).toNat = k) : (a <<< s).toBitVec.toNat = a.toBitVec.toNat * 2 ^ k % 2 ^ 32 := by
  show (a.toBitVec <<< (s.toBitVec.smod 32).toNat).toNat = _
  rw [hs, BitVec.toNat_shiftLeft, Nat.shiftLeft_eq]
theorem pk_shlN {n : Nat} (s : Int32) (k : Nat) (hs : (s.toBitVec.smod 32).toNat = k) (h : n * 2 ^ k < 2 ^ 32) : nI n <<< s = nI (n * 2 ^ k) := by
  apply Int32.toBitVec_inj.mp
  apply BitVec.eq_of_toNat_eq
  have hn : n < 2 ^ 32 := Nat.lt_of_le_of_lt (Nat.le_mul_of_pos_right n (Nat.two_pow_pos k)) h
  rw [pk_shl _ _ k hs, pk_tn hn, pk_tn h, Nat.mod_eq_of_lt h]
theorem pk_shr (a s : Int32) (k : Nat) (hs : (s.toBitVec.smod 32).toNat = k) : (a >>> s).toInt = a.toInt >>> k := by
  show (a.toBitVec.sshiftRight (s.toBitVec.smod 32).toNat).toInt = _
  rw [hs, BitVec.toInt_sshiftRight]
  rfl
theorem pk_shrN {n : Nat} (h : n < 2 ^ 31) (s : Int32) (k : Nat) (hs : (s.toBitVec.smod 32).toNat = k) : nI n >>> s = nI (n / 2 ^ k) := by
  apply Int32.toInt_inj.mp
  have h2 : n / 2 ^ k ≤ n := Nat.div_le_self _ _
  rw [pk_shr _ _ k hs, nI_toInt h, nI_toInt (by omega), Int.shiftRight_eq_div_pow]
  rfl
theorem pk_ushr (x s : Int32) (k : Nat) (hs : ((s.toUInt32 &&& Int32.toUInt32 31).toBitVec % 32).toNat = k) : (x.toUInt32 >>> (s.toUInt32 &&& Int32.toUInt32 31)).toInt32.toBitVec.toNat = x.toBitVec.toNat / 2 ^ k := by
  have e : (x.toUInt32 >>> (s.toUInt32 &&& Int32.toUInt32 31)).toInt32.toBitVec = x.toBitVec >>> k := by
    rw [← hs]
    exact UInt32.toBitVec_shiftRight _ _
  rw [e, BitVec.toNat_ushiftRight, Nat.shiftRight_eq_div_pow]
theorem pk_ushrN {n : Nat} (hn : n < 2 ^ 32) (s : Int32) (k : Nat) (hs : ((s.toUInt32 &&& Int32.toUInt32 31).toBitVec % 32).toNat = k) : ((nI n).toUInt32 >>> (s.toUInt32 &&& Int32.toUInt32 31)).toInt32 = nI (n / 2 ^ k) := by
  apply Int32.toBitVec_inj.mp
  apply BitVec.eq_of_toNat_eq
  rw [pk_ushr _ s k hs, pk_tn hn, pk_tn (Nat.lt_of_le_of_lt (Nat.div_le_self _ _) hn)]
theorem pk_nb (z : Int32) : narrow .byte (.int z.toInt8.toInt32) = .int z.toInt8.toInt32 := congrArg Value.int (by simp)
theorem pk_ns (z : Int32) : narrow .short (.int z.toInt16.toInt32) = .int z.toInt16.toInt32 := congrArg Value.int (by simp)
theorem pk_fb (r : Int32) : fits .byte (.int r.toInt8.toInt32) = true := by
  have ⟨a, b⟩ := lg_i2b_range r
  have h1 : (-128 : Int32).toInt = -128 := by decide
  have h2 : (127 : Int32).toInt = 127 := by decide
  simp only [fits, Bool.and_eq_true, decide_eq_true_eq, Int32.le_iff_toInt_le, h1, h2]
  omega
theorem pk_fs (r : Int32) : fits .short (.int r.toInt16.toInt32) = true := by
  have ⟨a, b⟩ := lg_i2s_range r
  have h1 : (-32768 : Int32).toInt = -32768 := by decide
  have h2 : (32767 : Int32).toInt = 32767 := by decide
  simp only [fits, Bool.and_eq_true, decide_eq_true_eq, Int32.le_iff_toInt_le, h1, h2]
  omega
theorem pk_charN {q : Nat} (hq : q < 65536) : narrow .char (.int (nI q)) = .int (nI q) ∧ fits .char (.int (nI q)) = true := by
  constructor
  · have e : (nI q).toUInt32.toUInt16.toUInt32.toInt32 = nI q := by
      apply Int32.toBitVec_inj.mp
      apply BitVec.eq_of_toNat_eq
      show (nI q).toUInt32.toUInt16.toUInt32.toNat = q % 2 ^ 32
      rw [UInt16.toNat_toUInt32, UInt32.toNat_toUInt16, show (nI q).toUInt32.toNat = q % 2 ^ 32 from rfl]
      omega
    exact congrArg Value.int e
  · have a : (0 : Int32) ≤ nI q := nI_pos' (by omega)
    have b : nI q ≤ 65535 := nI_le (b := 65535) (by omega) (by decide)
    show (decide ((0 : Int32) ≤ nI q) && decide (nI q ≤ 65535)) = true
    rw [decide_eq_true a, decide_eq_true b]
    rfl
theorem pk_char (x : Int32) : (x.toUInt32 % 65536).toInt32 = nI (x.toBitVec.toNat % 65536) := by
  apply Int32.toBitVec_inj.mp
  apply BitVec.eq_of_toNat_eq
  rw [pk_tn (by omega)]
  show (x.toUInt32 % 65536).toNat = _
  rw [UInt32.toNat_mod]
  rfl
theorem pk_nc (x : Int32) : narrow .char (.int (x.toUInt32 % 65536).toInt32) = .int (x.toUInt32 % 65536).toInt32 := by
  rw [pk_char]
  exact (pk_charN (Nat.mod_lt _ (by decide))).1
theorem pk_fc (x : Int32) : fits .char (.int (x.toUInt32 % 65536).toInt32) = true := by
  rw [pk_char]
  exact (pk_charN (Nat.mod_lt _ (by decide))).2
theorem pk_vb (z : Int32) : vp_nar .byte z.toInt8.toInt32 = z.toInt8.toInt32 := by rw [vp_nar_byte]; simp
theorem pk_vs (z : Int32) : vp_nar .short z.toInt16.toInt32 = z.toInt16.toInt32 := by rw [vp_nar_short]; simp
theorem pk_vc (z : Int32) : vp_nar .char (z.toUInt32 % 65536).toInt32 = (z.toUInt32 % 65536).toInt32 := Value.int.inj (pk_nc z)
theorem pk_lT {n : Nat} (h : n < 2 ^ 63) : (lN n).toInt = (n : Int) := lg_ofNat_toInt h
theorem pk_lLT {a b : Nat} (ha : a < 2 ^ 63) (hb : b < 2 ^ 63) : lN a < lN b ↔ a < b := by
  rw [Int64.lt_iff_toInt_lt, pk_lT ha, pk_lT hb]; omega
theorem pk_lLE {a b : Nat} (ha : a < 2 ^ 63) (hb : b < 2 ^ 63) : lN a ≤ lN b ↔ a ≤ b := by
  rw [Int64.le_iff_toInt_le, pk_lT ha, pk_lT hb]; omega
theorem pk_lEQ {a b : Nat} (ha : a < 2 ^ 63) (hb : b < 2 ^ 63) : lN a = lN b ↔ a = b := by
  rw [← Int64.toInt_inj, pk_lT ha, pk_lT hb]; omega
theorem pk_lOf {x : Int64} (h : ¬ x < 0) : ∃ k : Nat, k < 2 ^ 63 ∧ x = lN k := by
  rw [Int64.lt_iff_toInt_lt] at h
  have h0 : (0 : Int64).toInt = 0 := by decide
  have hx := Int64.toInt_lt x
  refine ⟨x.toInt.toNat, by omega, Int64.toInt_inj.mp ?_⟩
  rw [pk_lT (by omega)]
  omega
theorem pk_lDiv {a b : Nat} (ha : a < 2 ^ 63) (h0 : 0 < b) (hb : b < 2 ^ 63) : lN a / lN b = lN (a / b) := by
  apply Int64.toInt_inj.mp
  rw [lg_ldiv_nonneg (by rw [pk_lT ha]; omega) (by rw [pk_lT hb]; omega), pk_lT ha, pk_lT hb, pk_lT (Nat.lt_of_le_of_lt (Nat.div_le_self a b) ha)]
  rfl
theorem pk_lRem {a b : Nat} (ha : a < 2 ^ 63) (h0 : 0 < b) (hb : b < 2 ^ 63) : lN a - lN a / lN b * lN b = lN (a % b) := by
  rw [pk_lDiv ha h0 hb, lN_mul, lN_sub (Nat.div_mul_le_self a b)]
  exact congrArg lN (by have := Nat.div_add_mod' a b; omega)
theorem pk_loop {σ : Type} (W : Nat → Nat → σ → Prop) (I : Nat → σ → Prop) (e i0 : Nat) (s : σ) (hi : i0 ≤ e) (h0 : I i0 s) (hx : ∀ n s, I e s → W (n + 1) e s)
    (hs : ∀ n i s, i < e → I i s → (∀ s', I (i + 1) s' → W n (i + 1) s') → W (n + 1) i s) : ∃ n, W n i0 s :=
  ⟨e + 1, loop_i W I e hx hs (e + 1) i0 s hi (by omega) h0⟩
theorem pk_loopD {σ : Type} (W : Nat → Nat → σ → Prop) (I : Nat → σ → Prop) (hx : ∀ n s, I 0 s → W (n + 1) 0 s)
    (hs : ∀ n i s, I (i + 1) s → (∀ s', I i s' → W n i s') → W (n + 1) (i + 1) s) : ∀ (e : Nat) (s : σ), I e s → W (e + 1) e s := by
  intro e
  induction e with
  | zero => exact fun s h => hx 0 s h
  | succ e ih => exact fun s h => hs (e + 1) e s h (fun s' h' => ih s' h')
theorem lp1 {A1 : Type} (W : Nat → A1 → Prop) (I : A1 → Prop) (μ : A1 → Nat) (hs : ∀ (n : Nat) (a1 : A1), I a1 → (∀ (b1 : A1), I b1 → μ b1 < μ a1 → W n b1) → W (n + 1) a1) (a1 : A1) (h : I a1) : ∃ n, W n a1 :=
  loop_m (σ := A1) (fun n s => W n s) (fun s => I s) (fun s => μ s) (fun n s hI hk => hs n s hI (fun b1 h9 hm => hk b1 h9 hm)) a1 h
theorem lp2 {A1 A2 : Type} (W : Nat → A1 → A2 → Prop) (I : A1 → A2 → Prop) (μ : A1 → A2 → Nat) (hs : ∀ (n : Nat) (a1 : A1) (a2 : A2), I a1 a2 → (∀ (b1 : A1) (b2 : A2), I b1 b2 → μ b1 b2 < μ a1 a2 → W n b1 b2) → W (n + 1) a1 a2) (a1 : A1) (a2 : A2) (h : I a1 a2) : ∃ n, W n a1 a2 :=
  loop_m (σ := A1 × A2) (fun n s => W n s.1 s.2) (fun s => I s.1 s.2) (fun s => μ s.1 s.2) (fun n s hI hk => hs n s.1 s.2 hI (fun b1 b2 h9 hm => hk (b1, b2) h9 hm)) (a1, a2) h
theorem lp3 {A1 A2 A3 : Type} (W : Nat → A1 → A2 → A3 → Prop) (I : A1 → A2 → A3 → Prop) (μ : A1 → A2 → A3 → Nat) (hs : ∀ (n : Nat) (a1 : A1) (a2 : A2) (a3 : A3), I a1 a2 a3 → (∀ (b1 : A1) (b2 : A2) (b3 : A3), I b1 b2 b3 → μ b1 b2 b3 < μ a1 a2 a3 → W n b1 b2 b3) → W (n + 1) a1 a2 a3) (a1 : A1) (a2 : A2) (a3 : A3) (h : I a1 a2 a3) : ∃ n, W n a1 a2 a3 :=
  loop_m (σ := A1 × A2 × A3) (fun n s => W n s.1 s.2.1 s.2.2) (fun s => I s.1 s.2.1 s.2.2) (fun s => μ s.1 s.2.1 s.2.2) (fun n s hI hk => hs n s.1 s.2.1 s.2.2 hI (fun b1 b2 b3 h9 hm => hk (b1, b2, b3) h9 hm)) (a1, a2, a3) h
theorem lp4 {A1 A2 A3 A4 : Type} (W : Nat → A1 → A2 → A3 → A4 → Prop) (I : A1 → A2 → A3 → A4 → Prop) (μ : A1 → A2 → A3 → A4 → Nat) (hs : ∀ (n : Nat) (a1 : A1) (a2 : A2) (a3 : A3) (a4 : A4), I a1 a2 a3 a4 → (∀ (b1 : A1) (b2 : A2) (b3 : A3) (b4 : A4), I b1 b2 b3 b4 → μ b1 b2 b3 b4 < μ a1 a2 a3 a4 → W n b1 b2 b3 b4) → W (n + 1) a1 a2 a3 a4) (a1 : A1) (a2 : A2) (a3 : A3) (a4 : A4) (h : I a1 a2 a3 a4) : ∃ n, W n a1 a2 a3 a4 :=
  loop_m (σ := A1 × A2 × A3 × A4) (fun n s => W n s.1 s.2.1 s.2.2.1 s.2.2.2) (fun s => I s.1 s.2.1 s.2.2.1 s.2.2.2) (fun s => μ s.1 s.2.1 s.2.2.1 s.2.2.2) (fun n s hI hk => hs n s.1 s.2.1 s.2.2.1 s.2.2.2 hI (fun b1 b2 b3 b4 h9 hm => hk (b1, b2, b3, b4) h9 hm)) (a1, a2, a3, a4) h
theorem lp5 {A1 A2 A3 A4 A5 : Type} (W : Nat → A1 → A2 → A3 → A4 → A5 → Prop) (I : A1 → A2 → A3 → A4 → A5 → Prop) (μ : A1 → A2 → A3 → A4 → A5 → Nat) (hs : ∀ (n : Nat) (a1 : A1) (a2 : A2) (a3 : A3) (a4 : A4) (a5 : A5), I a1 a2 a3 a4 a5 → (∀ (b1 : A1) (b2 : A2) (b3 : A3) (b4 : A4) (b5 : A5), I b1 b2 b3 b4 b5 → μ b1 b2 b3 b4 b5 < μ a1 a2 a3 a4 a5 → W n b1 b2 b3 b4 b5) → W (n + 1) a1 a2 a3 a4 a5) (a1 : A1) (a2 : A2) (a3 : A3) (a4 : A4) (a5 : A5) (h : I a1 a2 a3 a4 a5) : ∃ n, W n a1 a2 a3 a4 a5 :=
  loop_m (σ := A1 × A2 × A3 × A4 × A5) (fun n s => W n s.1 s.2.1 s.2.2.1 s.2.2.2.1 s.2.2.2.2) (fun s => I s.1 s.2.1 s.2.2.1 s.2.2.2.1 s.2.2.2.2) (fun s => μ s.1 s.2.1 s.2.2.1 s.2.2.2.1 s.2.2.2.2) (fun n s hI hk => hs n s.1 s.2.1 s.2.2.1 s.2.2.2.1 s.2.2.2.2 hI (fun b1 b2 b3 b4 b5 h9 hm => hk (b1, b2, b3, b4, b5) h9 hm)) (a1, a2, a3, a4, a5) h
theorem lp6 {A1 A2 A3 A4 A5 A6 : Type} (W : Nat → A1 → A2 → A3 → A4 → A5 → A6 → Prop) (I : A1 → A2 → A3 → A4 → A5 → A6 → Prop) (μ : A1 → A2 → A3 → A4 → A5 → A6 → Nat) (hs : ∀ (n : Nat) (a1 : A1) (a2 : A2) (a3 : A3) (a4 : A4) (a5 : A5) (a6 : A6), I a1 a2 a3 a4 a5 a6 → (∀ (b1 : A1) (b2 : A2) (b3 : A3) (b4 : A4) (b5 : A5) (b6 : A6), I b1 b2 b3 b4 b5 b6 → μ b1 b2 b3 b4 b5 b6 < μ a1 a2 a3 a4 a5 a6 → W n b1 b2 b3 b4 b5 b6) → W (n + 1) a1 a2 a3 a4 a5 a6) (a1 : A1) (a2 : A2) (a3 : A3) (a4 : A4) (a5 : A5) (a6 : A6) (h : I a1 a2 a3 a4 a5 a6) : ∃ n, W n a1 a2 a3 a4 a5 a6 :=
  loop_m (σ := A1 × A2 × A3 × A4 × A5 × A6) (fun n s => W n s.1 s.2.1 s.2.2.1 s.2.2.2.1 s.2.2.2.2.1 s.2.2.2.2.2) (fun s => I s.1 s.2.1 s.2.2.1 s.2.2.2.1 s.2.2.2.2.1 s.2.2.2.2.2) (fun s => μ s.1 s.2.1 s.2.2.1 s.2.2.2.1 s.2.2.2.2.1 s.2.2.2.2.2) (fun n s hI hk => hs n s.1 s.2.1 s.2.2.1 s.2.2.2.1 s.2.2.2.2.1 s.2.2.2.2.2 hI (fun b1 b2 b3 b4 b5 b6 h9 hm => hk (b1, b2, b3, b4, b5, b6) h9 hm)) (a1, a2, a3, a4, a5, a6) h
theorem lp7 {A1 A2 A3 A4 A5 A6 A7 : Type} (W : Nat → A1 → A2 → A3 → A4 → A5 → A6 → A7 → Prop) (I : A1 → A2 → A3 → A4 → A5 → A6 → A7 → Prop) (μ : A1 → A2 → A3 → A4 → A5 → A6 → A7 → Nat) (hs : ∀ (n : Nat) (a1 : A1) (a2 : A2) (a3 : A3) (a4 : A4) (a5 : A5) (a6 : A6) (a7 : A7), I a1 a2 a3 a4 a5 a6 a7 → (∀ (b1 : A1) (b2 : A2) (b3 : A3) (b4 : A4) (b5 : A5) (b6 : A6) (b7 : A7), I b1 b2 b3 b4 b5 b6 b7 → μ b1 b2 b3 b4 b5 b6 b7 < μ a1 a2 a3 a4 a5 a6 a7 → W n b1 b2 b3 b4 b5 b6 b7) → W (n + 1) a1 a2 a3 a4 a5 a6 a7) (a1 : A1) (a2 : A2) (a3 : A3) (a4 : A4) (a5 : A5) (a6 : A6) (a7 : A7) (h : I a1 a2 a3 a4 a5 a6 a7) : ∃ n, W n a1 a2 a3 a4 a5 a6 a7 :=
  loop_m (σ := A1 × A2 × A3 × A4 × A5 × A6 × A7) (fun n s => W n s.1 s.2.1 s.2.2.1 s.2.2.2.1 s.2.2.2.2.1 s.2.2.2.2.2.1 s.2.2.2.2.2.2) (fun s => I s.1 s.2.1 s.2.2.1 s.2.2.2.1 s.2.2.2.2.1 s.2.2.2.2.2.1 s.2.2.2.2.2.2) (fun s => μ s.1 s.2.1 s.2.2.1 s.2.2.2.1 s.2.2.2.2.1 s.2.2.2.2.2.1 s.2.2.2.2.2.2) (fun n s hI hk => hs n s.1 s.2.1 s.2.2.1 s.2.2.2.1 s.2.2.2.2.1 s.2.2.2.2.2.1 s.2.2.2.2.2.2 hI (fun b1 b2 b3 b4 b5 b6 b7 h9 hm => hk (b1, b2, b3, b4, b5, b6, b7) h9 hm)) (a1, a2, a3, a4, a5, a6, a7) h
theorem lp8 {A1 A2 A3 A4 A5 A6 A7 A8 : Type} (W : Nat → A1 → A2 → A3 → A4 → A5 → A6 → A7 → A8 → Prop) (I : A1 → A2 → A3 → A4 → A5 → A6 → A7 → A8 → Prop) (μ : A1 → A2 → A3 → A4 → A5 → A6 → A7 → A8 → Nat) (hs : ∀ (n : Nat) (a1 : A1) (a2 : A2) (a3 : A3) (a4 : A4) (a5 : A5) (a6 : A6) (a7 : A7) (a8 : A8), I a1 a2 a3 a4 a5 a6 a7 a8 → (∀ (b1 : A1) (b2 : A2) (b3 : A3) (b4 : A4) (b5 : A5) (b6 : A6) (b7 : A7) (b8 : A8), I b1 b2 b3 b4 b5 b6 b7 b8 → μ b1 b2 b3 b4 b5 b6 b7 b8 < μ a1 a2 a3 a4 a5 a6 a7 a8 → W n b1 b2 b3 b4 b5 b6 b7 b8) → W (n + 1) a1 a2 a3 a4 a5 a6 a7 a8) (a1 : A1) (a2 : A2) (a3 : A3) (a4 : A4) (a5 : A5) (a6 : A6) (a7 : A7) (a8 : A8) (h : I a1 a2 a3 a4 a5 a6 a7 a8) : ∃ n, W n a1 a2 a3 a4 a5 a6 a7 a8 :=
  loop_m (σ := A1 × A2 × A3 × A4 × A5 × A6 × A7 × A8) (fun n s => W n s.1 s.2.1 s.2.2.1 s.2.2.2.1 s.2.2.2.2.1 s.2.2.2.2.2.1 s.2.2.2.2.2.2.1 s.2.2.2.2.2.2.2) (fun s => I s.1 s.2.1 s.2.2.1 s.2.2.2.1 s.2.2.2.2.1 s.2.2.2.2.2.1 s.2.2.2.2.2.2.1 s.2.2.2.2.2.2.2) (fun s => μ s.1 s.2.1 s.2.2.1 s.2.2.2.1 s.2.2.2.2.1 s.2.2.2.2.2.1 s.2.2.2.2.2.2.1 s.2.2.2.2.2.2.2) (fun n s hI hk => hs n s.1 s.2.1 s.2.2.1 s.2.2.2.1 s.2.2.2.2.1 s.2.2.2.2.2.1 s.2.2.2.2.2.2.1 s.2.2.2.2.2.2.2 hI (fun b1 b2 b3 b4 b5 b6 b7 b8 h9 hm => hk (b1, b2, b3, b4, b5, b6, b7, b8) h9 hm)) (a1, a2, a3, a4, a5, a6, a7, a8) h
theorem lp9 {A1 A2 A3 A4 A5 A6 A7 A8 A9 : Type} (W : Nat → A1 → A2 → A3 → A4 → A5 → A6 → A7 → A8 → A9 → Prop) (I : A1 → A2 → A3 → A4 → A5 → A6 → A7 → A8 → A9 → Prop) (μ : A1 → A2 → A3 → A4 → A5 → A6 → A7 → A8 → A9 → Nat) (hs : ∀ (n : Nat) (a1 : A1) (a2 : A2) (a3 : A3) (a4 : A4) (a5 : A5) (a6 : A6) (a7 : A7) (a8 : A8) (a9 : A9), I a1 a2 a3 a4 a5 a6 a7 a8 a9 → (∀ (b1 : A1) (b2 : A2) (b3 : A3) (b4 : A4) (b5 : A5) (b6 : A6) (b7 : A7) (b8 : A8) (b9 : A9), I b1 b2 b3 b4 b5 b6 b7 b8 b9 → μ b1 b2 b3 b4 b5 b6 b7 b8 b9 < μ a1 a2 a3 a4 a5 a6 a7 a8 a9 → W n b1 b2 b3 b4 b5 b6 b7 b8 b9) → W (n + 1) a1 a2 a3 a4 a5 a6 a7 a8 a9) (a1 : A1) (a2 : A2) (a3 : A3) (a4 : A4) (a5 : A5) (a6 : A6) (a7 : A7) (a8 : A8) (a9 : A9) (h : I a1 a2 a3 a4 a5 a6 a7 a8 a9) : ∃ n, W n a1 a2 a3 a4 a5 a6 a7 a8 a9 :=
  loop_m (σ := A1 × A2 × A3 × A4 × A5 × A6 × A7 × A8 × A9) (fun n s => W n s.1 s.2.1 s.2.2.1 s.2.2.2.1 s.2.2.2.2.1 s.2.2.2.2.2.1 s.2.2.2.2.2.2.1 s.2.2.2.2.2.2.2.1 s.2.2.2.2.2.2.2.2) (fun s => I s.1 s.2.1 s.2.2.1 s.2.2.2.1 s.2.2.2.2.1 s.2.2.2.2.2.1 s.2.2.2.2.2.2.1 s.2.2.2.2.2.2.2.1 s.2.2.2.2.2.2.2.2) (fun s => μ s.1 s.2.1 s.2.2.1 s.2.2.2.1 s.2.2.2.2.1 s.2.2.2.2.2.1 s.2.2.2.2.2.2.1 s.2.2.2.2.2.2.2.1 s.2.2.2.2.2.2.2.2) (fun n s hI hk => hs n s.1 s.2.1 s.2.2.1 s.2.2.2.1 s.2.2.2.2.1 s.2.2.2.2.2.1 s.2.2.2.2.2.2.1 s.2.2.2.2.2.2.2.1 s.2.2.2.2.2.2.2.2 hI (fun b1 b2 b3 b4 b5 b6 b7 b8 b9 h9 hm => hk (b1, b2, b3, b4, b5, b6, b7, b8, b9) h9 hm)) (a1, a2, a3, a4, a5, a6, a7, a8, a9) h
theorem lp10 {A1 A2 A3 A4 A5 A6 A7 A8 A9 A10 : Type} (W : Nat → A1 → A2 → A3 → A4 → A5 → A6 → A7 → A8 → A9 → A10 → Prop) (I : A1 → A2 → A3 → A4 → A5 → A6 → A7 → A8 → A9 → A10 → Prop) (μ : A1 → A2 → A3 → A4 → A5 → A6 → A7 → A8 → A9 → A10 → Nat) (hs : ∀ (n : Nat) (a1 : A1) (a2 : A2) (a3 : A3) (a4 : A4) (a5 : A5) (a6 : A6) (a7 : A7) (a8 : A8) (a9 : A9) (a10 : A10), I a1 a2 a3 a4 a5 a6 a7 a8 a9 a10 → (∀ (b1 : A1) (b2 : A2) (b3 : A3) (b4 : A4) (b5 : A5) (b6 : A6) (b7 : A7) (b8 : A8) (b9 : A9) (b10 : A10), I b1 b2 b3 b4 b5 b6 b7 b8 b9 b10 → μ b1 b2 b3 b4 b5 b6 b7 b8 b9 b10 < μ a1 a2 a3 a4 a5 a6 a7 a8 a9 a10 → W n b1 b2 b3 b4 b5 b6 b7 b8 b9 b10) → W (n + 1) a1 a2 a3 a4 a5 a6 a7 a8 a9 a10) (a1 : A1) (a2 : A2) (a3 : A3) (a4 : A4) (a5 : A5) (a6 : A6) (a7 : A7) (a8 : A8) (a9 : A9) (a10 : A10) (h : I a1 a2 a3 a4 a5 a6 a7 a8 a9 a10) : ∃ n, W n a1 a2 a3 a4 a5 a6 a7 a8 a9 a10 :=
  loop_m (σ := A1 × A2 × A3 × A4 × A5 × A6 × A7 × A8 × A9 × A10) (fun n s => W n s.1 s.2.1 s.2.2.1 s.2.2.2.1 s.2.2.2.2.1 s.2.2.2.2.2.1 s.2.2.2.2.2.2.1 s.2.2.2.2.2.2.2.1 s.2.2.2.2.2.2.2.2.1 s.2.2.2.2.2.2.2.2.2) (fun s => I s.1 s.2.1 s.2.2.1 s.2.2.2.1 s.2.2.2.2.1 s.2.2.2.2.2.1 s.2.2.2.2.2.2.1 s.2.2.2.2.2.2.2.1 s.2.2.2.2.2.2.2.2.1 s.2.2.2.2.2.2.2.2.2) (fun s => μ s.1 s.2.1 s.2.2.1 s.2.2.2.1 s.2.2.2.2.1 s.2.2.2.2.2.1 s.2.2.2.2.2.2.1 s.2.2.2.2.2.2.2.1 s.2.2.2.2.2.2.2.2.1 s.2.2.2.2.2.2.2.2.2) (fun n s hI hk => hs n s.1 s.2.1 s.2.2.1 s.2.2.2.1 s.2.2.2.2.1 s.2.2.2.2.2.1 s.2.2.2.2.2.2.1 s.2.2.2.2.2.2.2.1 s.2.2.2.2.2.2.2.2.1 s.2.2.2.2.2.2.2.2.2 hI (fun b1 b2 b3 b4 b5 b6 b7 b8 b9 b10 h9 hm => hk (b1, b2, b3, b4, b5, b6, b7, b8, b9, b10) h9 hm)) (a1, a2, a3, a4, a5, a6, a7, a8, a9, a10) h
theorem lp11 {A1 A2 A3 A4 A5 A6 A7 A8 A9 A10 A11 : Type} (W : Nat → A1 → A2 → A3 → A4 → A5 → A6 → A7 → A8 → A9 → A10 → A11 → Prop) (I : A1 → A2 → A3 → A4 → A5 → A6 → A7 → A8 → A9 → A10 → A11 → Prop) (μ : A1 → A2 → A3 → A4 → A5 → A6 → A7 → A8 → A9 → A10 → A11 → Nat) (hs : ∀ (n : Nat) (a1 : A1) (a2 : A2) (a3 : A3) (a4 : A4) (a5 : A5) (a6 : A6) (a7 : A7) (a8 : A8) (a9 : A9) (a10 : A10) (a11 : A11), I a1 a2 a3 a4 a5 a6 a7 a8 a9 a10 a11 → (∀ (b1 : A1) (b2 : A2) (b3 : A3) (b4 : A4) (b5 : A5) (b6 : A6) (b7 : A7) (b8 : A8) (b9 : A9) (b10 : A10) (b11 : A11), I b1 b2 b3 b4 b5 b6 b7 b8 b9 b10 b11 → μ b1 b2 b3 b4 b5 b6 b7 b8 b9 b10 b11 < μ a1 a2 a3 a4 a5 a6 a7 a8 a9 a10 a11 → W n b1 b2 b3 b4 b5 b6 b7 b8 b9 b10 b11) → W (n + 1) a1 a2 a3 a4 a5 a6 a7 a8 a9 a10 a11) (a1 : A1) (a2 : A2) (a3 : A3) (a4 : A4) (a5 : A5) (a6 : A6) (a7 : A7) (a8 : A8) (a9 : A9) (a10 : A10) (a11 : A11) (h : I a1 a2 a3 a4 a5 a6 a7 a8 a9 a10 a11) : ∃ n, W n a1 a2 a3 a4 a5 a6 a7 a8 a9 a10 a11 :=
  loop_m (σ := A1 × A2 × A3 × A4 × A5 × A6 × A7 × A8 × A9 × A10 × A11) (fun n s => W n s.1 s.2.1 s.2.2.1 s.2.2.2.1 s.2.2.2.2.1 s.2.2.2.2.2.1 s.2.2.2.2.2.2.1 s.2.2.2.2.2.2.2.1 s.2.2.2.2.2.2.2.2.1 s.2.2.2.2.2.2.2.2.2.1 s.2.2.2.2.2.2.2.2.2.2) (fun s => I s.1 s.2.1 s.2.2.1 s.2.2.2.1 s.2.2.2.2.1 s.2.2.2.2.2.1 s.2.2.2.2.2.2.1 s.2.2.2.2.2.2.2.1 s.2.2.2.2.2.2.2.2.1 s.2.2.2.2.2.2.2.2.2.1 s.2.2.2.2.2.2.2.2.2.2) (fun s => μ s.1 s.2.1 s.2.2.1 s.2.2.2.1 s.2.2.2.2.1 s.2.2.2.2.2.1 s.2.2.2.2.2.2.1 s.2.2.2.2.2.2.2.1 s.2.2.2.2.2.2.2.2.1 s.2.2.2.2.2.2.2.2.2.1 s.2.2.2.2.2.2.2.2.2.2) (fun n s hI hk => hs n s.1 s.2.1 s.2.2.1 s.2.2.2.1 s.2.2.2.2.1 s.2.2.2.2.2.1 s.2.2.2.2.2.2.1 s.2.2.2.2.2.2.2.1 s.2.2.2.2.2.2.2.2.1 s.2.2.2.2.2.2.2.2.2.1 s.2.2.2.2.2.2.2.2.2.2 hI (fun b1 b2 b3 b4 b5 b6 b7 b8 b9 b10 b11 h9 hm => hk (b1, b2, b3, b4, b5, b6, b7, b8, b9, b10, b11) h9 hm)) (a1, a2, a3, a4, a5, a6, a7, a8, a9, a10, a11) h
theorem lp12 {A1 A2 A3 A4 A5 A6 A7 A8 A9 A10 A11 A12 : Type} (W : Nat → A1 → A2 → A3 → A4 → A5 → A6 → A7 → A8 → A9 → A10 → A11 → A12 → Prop) (I : A1 → A2 → A3 → A4 → A5 → A6 → A7 → A8 → A9 → A10 → A11 → A12 → Prop) (μ : A1 → A2 → A3 → A4 → A5 → A6 → A7 → A8 → A9 → A10 → A11 → A12 → Nat) (hs : ∀ (n : Nat) (a1 : A1) (a2 : A2) (a3 : A3) (a4 : A4) (a5 : A5) (a6 : A6) (a7 : A7) (a8 : A8) (a9 : A9) (a10 : A10) (a11 : A11) (a12 : A12), I a1 a2 a3 a4 a5 a6 a7 a8 a9 a10 a11 a12 → (∀ (b1 : A1) (b2 : A2) (b3 : A3) (b4 : A4) (b5 : A5) (b6 : A6) (b7 : A7) (b8 : A8) (b9 : A9) (b10 : A10) (b11 : A11) (b12 : A12), I b1 b2 b3 b4 b5 b6 b7 b8 b9 b10 b11 b12 → μ b1 b2 b3 b4 b5 b6 b7 b8 b9 b10 b11 b12 < μ a1 a2 a3 a4 a5 a6 a7 a8 a9 a10 a11 a12 → W n b1 b2 b3 b4 b5 b6 b7 b8 b9 b10 b11 b12) → W (n + 1) a1 a2 a3 a4 a5 a6 a7 a8 a9 a10 a11 a12) (a1 : A1) (a2 : A2) (a3 : A3) (a4 : A4) (a5 : A5) (a6 : A6) (a7 : A7) (a8 : A8) (a9 : A9) (a10 : A10) (a11 : A11) (a12 : A12) (h : I a1 a2 a3 a4 a5 a6 a7 a8 a9 a10 a11 a12) : ∃ n, W n a1 a2 a3 a4 a5 a6 a7 a8 a9 a10 a11 a12 :=
  loop_m (σ := A1 × A2 × A3 × A4 × A5 × A6 × A7 × A8 × A9 × A10 × A11 × A12) (fun n s => W n s.1 s.2.1 s.2.2.1 s.2.2.2.1 s.2.2.2.2.1 s.2.2.2.2.2.1 s.2.2.2.2.2.2.1 s.2.2.2.2.2.2.2.1 s.2.2.2.2.2.2.2.2.1 s.2.2.2.2.2.2.2.2.2.1 s.2.2.2.2.2.2.2.2.2.2.1 s.2.2.2.2.2.2.2.2.2.2.2) (fun s => I s.1 s.2.1 s.2.2.1 s.2.2.2.1 s.2.2.2.2.1 s.2.2.2.2.2.1 s.2.2.2.2.2.2.1 s.2.2.2.2.2.2.2.1 s.2.2.2.2.2.2.2.2.1 s.2.2.2.2.2.2.2.2.2.1 s.2.2.2.2.2.2.2.2.2.2.1 s.2.2.2.2.2.2.2.2.2.2.2) (fun s => μ s.1 s.2.1 s.2.2.1 s.2.2.2.1 s.2.2.2.2.1 s.2.2.2.2.2.1 s.2.2.2.2.2.2.1 s.2.2.2.2.2.2.2.1 s.2.2.2.2.2.2.2.2.1 s.2.2.2.2.2.2.2.2.2.1 s.2.2.2.2.2.2.2.2.2.2.1 s.2.2.2.2.2.2.2.2.2.2.2) (fun n s hI hk => hs n s.1 s.2.1 s.2.2.1 s.2.2.2.1 s.2.2.2.2.1 s.2.2.2.2.2.1 s.2.2.2.2.2.2.1 s.2.2.2.2.2.2.2.1 s.2.2.2.2.2.2.2.2.1 s.2.2.2.2.2.2.2.2.2.1 s.2.2.2.2.2.2.2.2.2.2.1 s.2.2.2.2.2.2.2.2.2.2.2 hI (fun b1 b2 b3 b4 b5 b6 b7 b8 b9 b10 b11 b12 h9 hm => hk (b1, b2, b3, b4, b5, b6, b7, b8, b9, b10, b11, b12) h9 hm)) (a1, a2, a3, a4, a5, a6, a7, a8, a9, a10, a11, a12) h
theorem lp13 {A1 A2 A3 A4 A5 A6 A7 A8 A9 A10 A11 A12 A13 : Type} (W : Nat → A1 → A2 → A3 → A4 → A5 → A6 → A7 → A8 → A9 → A10 → A11 → A12 → A13 → Prop) (I : A1 → A2 → A3 → A4 → A5 → A6 → A7 → A8 → A9 → A10 → A11 → A12 → A13 → Prop) (μ : A1 → A2 → A3 → A4 → A5 → A6 → A7 → A8 → A9 → A10 → A11 → A12 → A13 → Nat) (hs : ∀ (n : Nat) (a1 : A1) (a2 : A2) (a3 : A3) (a4 : A4) (a5 : A5) (a6 : A6) (a7 : A7) (a8 : A8) (a9 : A9) (a10 : A10) (a11 : A11) (a12 : A12) (a13 : A13), I a1 a2 a3 a4 a5 a6 a7 a8 a9 a10 a11 a12 a13 → (∀ (b1 : A1) (b2 : A2) (b3 : A3) (b4 : A4) (b5 : A5) (b6 : A6) (b7 : A7) (b8 : A8) (b9 : A9) (b10 : A10) (b11 : A11) (b12 : A12) (b13 : A13), I b1 b2 b3 b4 b5 b6 b7 b8 b9 b10 b11 b12 b13 → μ b1 b2 b3 b4 b5 b6 b7 b8 b9 b10 b11 b12 b13 < μ a1 a2 a3 a4 a5 a6 a7 a8 a9 a10 a11 a12 a13 → W n b1 b2 b3 b4 b5 b6 b7 b8 b9 b10 b11 b12 b13) → W (n + 1) a1 a2 a3 a4 a5 a6 a7 a8 a9 a10 a11 a12 a13) (a1 : A1) (a2 : A2) (a3 : A3) (a4 : A4) (a5 : A5) (a6 : A6) (a7 : A7) (a8 : A8) (a9 : A9) (a10 : A10) (a11 : A11) (a12 : A12) (a13 : A13) (h : I a1 a2 a3 a4 a5 a6 a7 a8 a9 a10 a11 a12 a13) : ∃ n, W n a1 a2 a3 a4 a5 a6 a7 a8 a9 a10 a11 a12 a13 :=
  loop_m (σ := A1 × A2 × A3 × A4 × A5 × A6 × A7 × A8 × A9 × A10 × A11 × A12 × A13) (fun n s => W n s.1 s.2.1 s.2.2.1 s.2.2.2.1 s.2.2.2.2.1 s.2.2.2.2.2.1 s.2.2.2.2.2.2.1 s.2.2.2.2.2.2.2.1 s.2.2.2.2.2.2.2.2.1 s.2.2.2.2.2.2.2.2.2.1 s.2.2.2.2.2.2.2.2.2.2.1 s.2.2.2.2.2.2.2.2.2.2.2.1 s.2.2.2.2.2.2.2.2.2.2.2.2) (fun s => I s.1 s.2.1 s.2.2.1 s.2.2.2.1 s.2.2.2.2.1 s.2.2.2.2.2.1 s.2.2.2.2.2.2.1 s.2.2.2.2.2.2.2.1 s.2.2.2.2.2.2.2.2.1 s.2.2.2.2.2.2.2.2.2.1 s.2.2.2.2.2.2.2.2.2.2.1 s.2.2.2.2.2.2.2.2.2.2.2.1 s.2.2.2.2.2.2.2.2.2.2.2.2) (fun s => μ s.1 s.2.1 s.2.2.1 s.2.2.2.1 s.2.2.2.2.1 s.2.2.2.2.2.1 s.2.2.2.2.2.2.1 s.2.2.2.2.2.2.2.1 s.2.2.2.2.2.2.2.2.1 s.2.2.2.2.2.2.2.2.2.1 s.2.2.2.2.2.2.2.2.2.2.1 s.2.2.2.2.2.2.2.2.2.2.2.1 s.2.2.2.2.2.2.2.2.2.2.2.2) (fun n s hI hk => hs n s.1 s.2.1 s.2.2.1 s.2.2.2.1 s.2.2.2.2.1 s.2.2.2.2.2.1 s.2.2.2.2.2.2.1 s.2.2.2.2.2.2.2.1 s.2.2.2.2.2.2.2.2.1 s.2.2.2.2.2.2.2.2.2.1 s.2.2.2.2.2.2.2.2.2.2.1 s.2.2.2.2.2.2.2.2.2.2.2.1 s.2.2.2.2.2.2.2.2.2.2.2.2 hI (fun b1 b2 b3 b4 b5 b6 b7 b8 b9 b10 b11 b12 b13 h9 hm => hk (b1, b2, b3, b4, b5, b6, b7, b8, b9, b10, b11, b12, b13) h9 hm)) (a1, a2, a3, a4, a5, a6, a7, a8, a9, a10, a11, a12, a13) h
theorem lp14 {A1 A2 A3 A4 A5 A6 A7 A8 A9 A10 A11 A12 A13 A14 : Type} (W : Nat → A1 → A2 → A3 → A4 → A5 → A6 → A7 → A8 → A9 → A10 → A11 → A12 → A13 → A14 → Prop) (I : A1 → A2 → A3 → A4 → A5 → A6 → A7 → A8 → A9 → A10 → A11 → A12 → A13 → A14 → Prop) (μ : A1 → A2 → A3 → A4 → A5 → A6 → A7 → A8 → A9 → A10 → A11 → A12 → A13 → A14 → Nat) (hs : ∀ (n : Nat) (a1 : A1) (a2 : A2) (a3 : A3) (a4 : A4) (a5 : A5) (a6 : A6) (a7 : A7) (a8 : A8) (a9 : A9) (a10 : A10) (a11 : A11) (a12 : A12) (a13 : A13) (a14 : A14), I a1 a2 a3 a4 a5 a6 a7 a8 a9 a10 a11 a12 a13 a14 → (∀ (b1 : A1) (b2 : A2) (b3 : A3) (b4 : A4) (b5 : A5) (b6 : A6) (b7 : A7) (b8 : A8) (b9 : A9) (b10 : A10) (b11 : A11) (b12 : A12) (b13 : A13) (b14 : A14), I b1 b2 b3 b4 b5 b6 b7 b8 b9 b10 b11 b12 b13 b14 → μ b1 b2 b3 b4 b5 b6 b7 b8 b9 b10 b11 b12 b13 b14 < μ a1 a2 a3 a4 a5 a6 a7 a8 a9 a10 a11 a12 a13 a14 → W n b1 b2 b3 b4 b5 b6 b7 b8 b9 b10 b11 b12 b13 b14) → W (n + 1) a1 a2 a3 a4 a5 a6 a7 a8 a9 a10 a11 a12 a13 a14) (a1 : A1) (a2 : A2) (a3 : A3) (a4 : A4) (a5 : A5) (a6 : A6) (a7 : A7) (a8 : A8) (a9 : A9) (a10 : A10) (a11 : A11) (a12 : A12) (a13 : A13) (a14 : A14) (h : I a1 a2 a3 a4 a5 a6 a7 a8 a9 a10 a11 a12 a13 a14) : ∃ n, W n a1 a2 a3 a4 a5 a6 a7 a8 a9 a10 a11 a12 a13 a14 :=
  loop_m (σ := A1 × A2 × A3 × A4 × A5 × A6 × A7 × A8 × A9 × A10 × A11 × A12 × A13 × A14) (fun n s => W n s.1 s.2.1 s.2.2.1 s.2.2.2.1 s.2.2.2.2.1 s.2.2.2.2.2.1 s.2.2.2.2.2.2.1 s.2.2.2.2.2.2.2.1 s.2.2.2.2.2.2.2.2.1 s.2.2.2.2.2.2.2.2.2.1 s.2.2.2.2.2.2.2.2.2.2.1 s.2.2.2.2.2.2.2.2.2.2.2.1 s.2.2.2.2.2.2.2.2.2.2.2.2.1 s.2.2.2.2.2.2.2.2.2.2.2.2.2) (fun s => I s.1 s.2.1 s.2.2.1 s.2.2.2.1 s.2.2.2.2.1 s.2.2.2.2.2.1 s.2.2.2.2.2.2.1 s.2.2.2.2.2.2.2.1 s.2.2.2.2.2.2.2.2.1 s.2.2.2.2.2.2.2.2.2.1 s.2.2.2.2.2.2.2.2.2.2.1 s.2.2.2.2.2.2.2.2.2.2.2.1 s.2.2.2.2.2.2.2.2.2.2.2.2.1 s.2.2.2.2.2.2.2.2.2.2.2.2.2) (fun s => μ s.1 s.2.1 s.2.2.1 s.2.2.2.1 s.2.2.2.2.1 s.2.2.2.2.2.1 s.2.2.2.2.2.2.1 s.2.2.2.2.2.2.2.1 s.2.2.2.2.2.2.2.2.1 s.2.2.2.2.2.2.2.2.2.1 s.2.2.2.2.2.2.2.2.2.2.1 s.2.2.2.2.2.2.2.2.2.2.2.1 s.2.2.2.2.2.2.2.2.2.2.2.2.1 s.2.2.2.2.2.2.2.2.2.2.2.2.2) (fun n s hI hk => hs n s.1 s.2.1 s.2.2.1 s.2.2.2.1 s.2.2.2.2.1 s.2.2.2.2.2.1 s.2.2.2.2.2.2.1 s.2.2.2.2.2.2.2.1 s.2.2.2.2.2.2.2.2.1 s.2.2.2.2.2.2.2.2.2.1 s.2.2.2.2.2.2.2.2.2.2.1 s.2.2.2.2.2.2.2.2.2.2.2.1 s.2.2.2.2.2.2.2.2.2.2.2.2.1 s.2.2.2.2.2.2.2.2.2.2.2.2.2 hI (fun b1 b2 b3 b4 b5 b6 b7 b8 b9 b10 b11 b12 b13 b14 h9 hm => hk (b1, b2, b3, b4, b5, b6, b7, b8, b9, b10, b11, b12, b13, b14) h9 hm)) (a1, a2, a3, a4, a5, a6, a7, a8, a9, a10, a11, a12, a13, a14) h
theorem lp15 {A1 A2 A3 A4 A5 A6 A7 A8 A9 A10 A11 A12 A13 A14 A15 : Type} (W : Nat → A1 → A2 → A3 → A4 → A5 → A6 → A7 → A8 → A9 → A10 → A11 → A12 → A13 → A14 → A15 → Prop) (I : A1 → A2 → A3 → A4 → A5 → A6 → A7 → A8 → A9 → A10 → A11 → A12 → A13 → A14 → A15 → Prop) (μ : A1 → A2 → A3 → A4 → A5 → A6 → A7 → A8 → A9 → A10 → A11 → A12 → A13 → A14 → A15 → Nat) (hs : ∀ (n : Nat) (a1 : A1) (a2 : A2) (a3 : A3) (a4 : A4) (a5 : A5) (a6 : A6) (a7 : A7) (a8 : A8) (a9 : A9) (a10 : A10) (a11 : A11) (a12 : A12) (a13 : A13) (a14 : A14) (a15 : A15), I a1 a2 a3 a4 a5 a6 a7 a8 a9 a10 a11 a12 a13 a14 a15 → (∀ (b1 : A1) (b2 : A2) (b3 : A3) (b4 : A4) (b5 : A5) (b6 : A6) (b7 : A7) (b8 : A8) (b9 : A9) (b10 : A10) (b11 : A11) (b12 : A12) (b13 : A13) (b14 : A14) (b15 : A15), I b1 b2 b3 b4 b5 b6 b7 b8 b9 b10 b11 b12 b13 b14 b15 → μ b1 b2 b3 b4 b5 b6 b7 b8 b9 b10 b11 b12 b13 b14 b15 < μ a1 a2 a3 a4 a5 a6 a7 a8 a9 a10 a11 a12 a13 a14 a15 → W n b1 b2 b3 b4 b5 b6 b7 b8 b9 b10 b11 b12 b13 b14 b15) → W (n + 1) a1 a2 a3 a4 a5 a6 a7 a8 a9 a10 a11 a12 a13 a14 a15) (a1 : A1) (a2 : A2) (a3 : A3) (a4 : A4) (a5 : A5) (a6 : A6) (a7 : A7) (a8 : A8) (a9 : A9) (a10 : A10) (a11 : A11) (a12 : A12) (a13 : A13) (a14 : A14) (a15 : A15) (h : I a1 a2 a3 a4 a5 a6 a7 a8 a9 a10 a11 a12 a13 a14 a15) : ∃ n, W n a1 a2 a3 a4 a5 a6 a7 a8 a9 a10 a11 a12 a13 a14 a15 :=
  loop_m (σ := A1 × A2 × A3 × A4 × A5 × A6 × A7 × A8 × A9 × A10 × A11 × A12 × A13 × A14 × A15) (fun n s => W n s.1 s.2.1 s.2.2.1 s.2.2.2.1 s.2.2.2.2.1 s.2.2.2.2.2.1 s.2.2.2.2.2.2.1 s.2.2.2.2.2.2.2.1 s.2.2.2.2.2.2.2.2.1 s.2.2.2.2.2.2.2.2.2.1 s.2.2.2.2.2.2.2.2.2.2.1 s.2.2.2.2.2.2.2.2.2.2.2.1 s.2.2.2.2.2.2.2.2.2.2.2.2.1 s.2.2.2.2.2.2.2.2.2.2.2.2.2.1 s.2.2.2.2.2.2.2.2.2.2.2.2.2.2) (fun s => I s.1 s.2.1 s.2.2.1 s.2.2.2.1 s.2.2.2.2.1 s.2.2.2.2.2.1 s.2.2.2.2.2.2.1 s.2.2.2.2.2.2.2.1 s.2.2.2.2.2.2.2.2.1 s.2.2.2.2.2.2.2.2.2.1 s.2.2.2.2.2.2.2.2.2.2.1 s.2.2.2.2.2.2.2.2.2.2.2.1 s.2.2.2.2.2.2.2.2.2.2.2.2.1 s.2.2.2.2.2.2.2.2.2.2.2.2.2.1 s.2.2.2.2.2.2.2.2.2.2.2.2.2.2) (fun s => μ s.1 s.2.1 s.2.2.1 s.2.2.2.1 s.2.2.2.2.1 s.2.2.2.2.2.1 s.2.2.2.2.2.2.1 s.2.2.2.2.2.2.2.1 s.2.2.2.2.2.2.2.2.1 s.2.2.2.2.2.2.2.2.2.1 s.2.2.2.2.2.2.2.2.2.2.1 s.2.2.2.2.2.2.2.2.2.2.2.1 s.2.2.2.2.2.2.2.2.2.2.2.2.1 s.2.2.2.2.2.2.2.2.2.2.2.2.2.1 s.2.2.2.2.2.2.2.2.2.2.2.2.2.2) (fun n s hI hk => hs n s.1 s.2.1 s.2.2.1 s.2.2.2.1 s.2.2.2.2.1 s.2.2.2.2.2.1 s.2.2.2.2.2.2.1 s.2.2.2.2.2.2.2.1 s.2.2.2.2.2.2.2.2.1 s.2.2.2.2.2.2.2.2.2.1 s.2.2.2.2.2.2.2.2.2.2.1 s.2.2.2.2.2.2.2.2.2.2.2.1 s.2.2.2.2.2.2.2.2.2.2.2.2.1 s.2.2.2.2.2.2.2.2.2.2.2.2.2.1 s.2.2.2.2.2.2.2.2.2.2.2.2.2.2 hI (fun b1 b2 b3 b4 b5 b6 b7 b8 b9 b10 b11 b12 b13 b14 b15 h9 hm => hk (b1, b2, b3, b4, b5, b6, b7, b8, b9, b10, b11, b12, b13, b14, b15) h9 hm)) (a1, a2, a3, a4, a5, a6, a7, a8, a9, a10, a11, a12, a13, a14, a15) h
theorem lp16 {A1 A2 A3 A4 A5 A6 A7 A8 A9 A10 A11 A12 A13 A14 A15 A16 : Type} (W : Nat → A1 → A2 → A3 → A4 → A5 → A6 → A7 → A8 → A9 → A10 → A11 → A12 → A13 → A14 → A15 → A16 → Prop) (I : A1 → A2 → A3 → A4 → A5 → A6 → A7 → A8 → A9 → A10 → A11 → A12 → A13 → A14 → A15 → A16 → Prop) (μ : A1 → A2 → A3 → A4 → A5 → A6 → A7 → A8 → A9 → A10 → A11 → A12 → A13 → A14 → A15 → A16 → Nat) (hs : ∀ (n : Nat) (a1 : A1) (a2 : A2) (a3 : A3) (a4 : A4) (a5 : A5) (a6 : A6) (a7 : A7) (a8 : A8) (a9 : A9) (a10 : A10) (a11 : A11) (a12 : A12) (a13 : A13) (a14 : A14) (a15 : A15) (a16 : A16), I a1 a2 a3 a4 a5 a6 a7 a8 a9 a10 a11 a12 a13 a14 a15 a16 → (∀ (b1 : A1) (b2 : A2) (b3 : A3) (b4 : A4) (b5 : A5) (b6 : A6) (b7 : A7) (b8 : A8) (b9 : A9) (b10 : A10) (b11 : A11) (b12 : A12) (b13 : A13) (b14 : A14) (b15 : A15) (b16 : A16), I b1 b2 b3 b4 b5 b6 b7 b8 b9 b10 b11 b12 b13 b14 b15 b16 → μ b1 b2 b3 b4 b5 b6 b7 b8 b9 b10 b11 b12 b13 b14 b15 b16 < μ a1 a2 a3 a4 a5 a6 a7 a8 a9 a10 a11 a12 a13 a14 a15 a16 → W n b1 b2 b3 b4 b5 b6 b7 b8 b9 b10 b11 b12 b13 b14 b15 b16) → W (n + 1) a1 a2 a3 a4 a5 a6 a7 a8 a9 a10 a11 a12 a13 a14 a15 a16) (a1 : A1) (a2 : A2) (a3 : A3) (a4 : A4) (a5 : A5) (a6 : A6) (a7 : A7) (a8 : A8) (a9 : A9) (a10 : A10) (a11 : A11) (a12 : A12) (a13 : A13) (a14 : A14) (a15 : A15) (a16 : A16) (h : I a1 a2 a3 a4 a5 a6 a7 a8 a9 a10 a11 a12 a13 a14 a15 a16) : ∃ n, W n a1 a2 a3 a4 a5 a6 a7 a8 a9 a10 a11 a12 a13 a14 a15 a16 :=
  loop_m (σ := A1 × A2 × A3 × A4 × A5 × A6 × A7 × A8 × A9 × A10 × A11 × A12 × A13 × A14 × A15 × A16) (fun n s => W n s.1 s.2.1 s.2.2.1 s.2.2.2.1 s.2.2.2.2.1 s.2.2.2.2.2.1 s.2.2.2.2.2.2.1 s.2.2.2.2.2.2.2.1 s.2.2.2.2.2.2.2.2.1 s.2.2.2.2.2.2.2.2.2.1 s.2.2.2.2.2.2.2.2.2.2.1 s.2.2.2.2.2.2.2.2.2.2.2.1 s.2.2.2.2.2.2.2.2.2.2.2.2.1 s.2.2.2.2.2.2.2.2.2.2.2.2.2.1 s.2.2.2.2.2.2.2.2.2.2.2.2.2.2.1 s.2.2.2.2.2.2.2.2.2.2.2.2.2.2.2) (fun s => I s.1 s.2.1 s.2.2.1 s.2.2.2.1 s.2.2.2.2.1 s.2.2.2.2.2.1 s.2.2.2.2.2.2.1 s.2.2.2.2.2.2.2.1 s.2.2.2.2.2.2.2.2.1 s.2.2.2.2.2.2.2.2.2.1 s.2.2.2.2.2.2.2.2.2.2.1 s.2.2.2.2.2.2.2.2.2.2.2.1 s.2.2.2.2.2.2.2.2.2.2.2.2.1 s.2.2.2.2.2.2.2.2.2.2.2.2.2.1 s.2.2.2.2.2.2.2.2.2.2.2.2.2.2.1 s.2.2.2.2.2.2.2.2.2.2.2.2.2.2.2) (fun s => μ s.1 s.2.1 s.2.2.1 s.2.2.2.1 s.2.2.2.2.1 s.2.2.2.2.2.1 s.2.2.2.2.2.2.1 s.2.2.2.2.2.2.2.1 s.2.2.2.2.2.2.2.2.1 s.2.2.2.2.2.2.2.2.2.1 s.2.2.2.2.2.2.2.2.2.2.1 s.2.2.2.2.2.2.2.2.2.2.2.1 s.2.2.2.2.2.2.2.2.2.2.2.2.1 s.2.2.2.2.2.2.2.2.2.2.2.2.2.1 s.2.2.2.2.2.2.2.2.2.2.2.2.2.2.1 s.2.2.2.2.2.2.2.2.2.2.2.2.2.2.2) (fun n s hI hk => hs n s.1 s.2.1 s.2.2.1 s.2.2.2.1 s.2.2.2.2.1 s.2.2.2.2.2.1 s.2.2.2.2.2.2.1 s.2.2.2.2.2.2.2.1 s.2.2.2.2.2.2.2.2.1 s.2.2.2.2.2.2.2.2.2.1 s.2.2.2.2.2.2.2.2.2.2.1 s.2.2.2.2.2.2.2.2.2.2.2.1 s.2.2.2.2.2.2.2.2.2.2.2.2.1 s.2.2.2.2.2.2.2.2.2.2.2.2.2.1 s.2.2.2.2.2.2.2.2.2.2.2.2.2.2.1 s.2.2.2.2.2.2.2.2.2.2.2.2.2.2.2 hI (fun b1 b2 b3 b4 b5 b6 b7 b8 b9 b10 b11 b12 b13 b14 b15 b16 h9 hm => hk (b1, b2, b3, b4, b5, b6, b7, b8, b9, b10, b11, b12, b13, b14, b15, b16) h9 hm)) (a1, a2, a3, a4, a5, a6, a7, a8, a9, a10, a11, a12, a13, a14, a15, a16) h
theorem pk_least (P : Nat → Prop) (h : ∃ k, P k) : ∃ k, P k ∧ ∀ j, j < k → ¬ P j := by
  obtain ⟨k, hk⟩ := h
  induction k using Nat.strongRecOn with
  | ind k ih =>
    by_cases e : ∃ j, j < k ∧ P j
    · obtain ⟨j, hj, pj⟩ := e
      exact ih j hj pj
    · exact ⟨k, hk, fun j hj pj => e ⟨j, hj, pj⟩⟩
theorem rp1 {ρ A1 : Type} (W : Nat → (ρ → Prop) → A1 → Prop) (ok : A1 → Prop) (μ : A1 → Nat) (val : A1 → ρ)
    (hs : ∀ (d : Nat) (post : ρ → Prop) (a1 : A1), ok a1 → post (val a1) → (∀ (post' : ρ → Prop) (b1 : A1), ok b1 → μ b1 < μ a1 → post' (val b1) → W d post' b1) → W (d + 1) post a1) :
    ∀ (d : Nat) (post : ρ → Prop) (a1 : A1), ok a1 → μ a1 < d → post (val a1) → W d post a1 := by
  intro d
  induction d with
  | zero => intro post a1 _ h; omega
  | succ d ih =>
    intro post a1 ho hm hp
    exact hs d post a1 ho hp (fun post' b1 ho' hm' hp' => ih post' b1 ho' (by omega) hp')
theorem rp2 {ρ A1 A2 : Type} (W : Nat → (ρ → Prop) → A1 → A2 → Prop) (ok : A1 → A2 → Prop) (μ : A1 → A2 → Nat) (val : A1 → A2 → ρ)
    (hs : ∀ (d : Nat) (post : ρ → Prop) (a1 : A1) (a2 : A2), ok a1 a2 → post (val a1 a2) → (∀ (post' : ρ → Prop) (b1 : A1) (b2 : A2), ok b1 b2 → μ b1 b2 < μ a1 a2 → post' (val b1 b2) → W d post' b1 b2) → W (d + 1) post a1 a2) :
    ∀ (d : Nat) (post : ρ → Prop) (a1 : A1) (a2 : A2), ok a1 a2 → μ a1 a2 < d → post (val a1 a2) → W d post a1 a2 := by
  intro d
  induction d with
  | zero => intro post a1 a2 _ h; omega
  | succ d ih =>
    intro post a1 a2 ho hm hp
    exact hs d post a1 a2 ho hp (fun post' b1 b2 ho' hm' hp' => ih post' b1 b2 ho' (by omega) hp')
theorem rp3 {ρ A1 A2 A3 : Type} (W : Nat → (ρ → Prop) → A1 → A2 → A3 → Prop) (ok : A1 → A2 → A3 → Prop) (μ : A1 → A2 → A3 → Nat) (val : A1 → A2 → A3 → ρ)
    (hs : ∀ (d : Nat) (post : ρ → Prop) (a1 : A1) (a2 : A2) (a3 : A3), ok a1 a2 a3 → post (val a1 a2 a3) → (∀ (post' : ρ → Prop) (b1 : A1) (b2 : A2) (b3 : A3), ok b1 b2 b3 → μ b1 b2 b3 < μ a1 a2 a3 → post' (val b1 b2 b3) → W d post' b1 b2 b3) → W (d + 1) post a1 a2 a3) :
    ∀ (d : Nat) (post : ρ → Prop) (a1 : A1) (a2 : A2) (a3 : A3), ok a1 a2 a3 → μ a1 a2 a3 < d → post (val a1 a2 a3) → W d post a1 a2 a3 := by
  intro d
  induction d with
  | zero => intro post a1 a2 a3 _ h; omega
  | succ d ih =>
    intro post a1 a2 a3 ho hm hp
    exact hs d post a1 a2 a3 ho hp (fun post' b1 b2 b3 ho' hm' hp' => ih post' b1 b2 b3 ho' (by omega) hp')
theorem rp4 {ρ A1 A2 A3 A4 : Type} (W : Nat → (ρ → Prop) → A1 → A2 → A3 → A4 → Prop) (ok : A1 → A2 → A3 → A4 → Prop) (μ : A1 → A2 → A3 → A4 → Nat) (val : A1 → A2 → A3 → A4 → ρ)
    (hs : ∀ (d : Nat) (post : ρ → Prop) (a1 : A1) (a2 : A2) (a3 : A3) (a4 : A4), ok a1 a2 a3 a4 → post (val a1 a2 a3 a4) → (∀ (post' : ρ → Prop) (b1 : A1) (b2 : A2) (b3 : A3) (b4 : A4), ok b1 b2 b3 b4 → μ b1 b2 b3 b4 < μ a1 a2 a3 a4 → post' (val b1 b2 b3 b4) → W d post' b1 b2 b3 b4) → W (d + 1) post a1 a2 a3 a4) :
    ∀ (d : Nat) (post : ρ → Prop) (a1 : A1) (a2 : A2) (a3 : A3) (a4 : A4), ok a1 a2 a3 a4 → μ a1 a2 a3 a4 < d → post (val a1 a2 a3 a4) → W d post a1 a2 a3 a4 := by
  intro d
  induction d with
  | zero => intro post a1 a2 a3 a4 _ h; omega
  | succ d ih =>
    intro post a1 a2 a3 a4 ho hm hp
    exact hs d post a1 a2 a3 a4 ho hp (fun post' b1 b2 b3 b4 ho' hm' hp' => ih post' b1 b2 b3 b4 ho' (by omega) hp')
theorem rp5 {ρ A1 A2 A3 A4 A5 : Type} (W : Nat → (ρ → Prop) → A1 → A2 → A3 → A4 → A5 → Prop) (ok : A1 → A2 → A3 → A4 → A5 → Prop) (μ : A1 → A2 → A3 → A4 → A5 → Nat) (val : A1 → A2 → A3 → A4 → A5 → ρ)
    (hs : ∀ (d : Nat) (post : ρ → Prop) (a1 : A1) (a2 : A2) (a3 : A3) (a4 : A4) (a5 : A5), ok a1 a2 a3 a4 a5 → post (val a1 a2 a3 a4 a5) → (∀ (post' : ρ → Prop) (b1 : A1) (b2 : A2) (b3 : A3) (b4 : A4) (b5 : A5), ok b1 b2 b3 b4 b5 → μ b1 b2 b3 b4 b5 < μ a1 a2 a3 a4 a5 → post' (val b1 b2 b3 b4 b5) → W d post' b1 b2 b3 b4 b5) → W (d + 1) post a1 a2 a3 a4 a5) :
    ∀ (d : Nat) (post : ρ → Prop) (a1 : A1) (a2 : A2) (a3 : A3) (a4 : A4) (a5 : A5), ok a1 a2 a3 a4 a5 → μ a1 a2 a3 a4 a5 < d → post (val a1 a2 a3 a4 a5) → W d post a1 a2 a3 a4 a5 := by
  intro d
  induction d with
  | zero => intro post a1 a2 a3 a4 a5 _ h; omega
  | succ d ih =>
    intro post a1 a2 a3 a4 a5 ho hm hp
    exact hs d post a1 a2 a3 a4 a5 ho hp (fun post' b1 b2 b3 b4 b5 ho' hm' hp' => ih post' b1 b2 b3 b4 b5 ho' (by omega) hp')
theorem rp6 {ρ A1 A2 A3 A4 A5 A6 : Type} (W : Nat → (ρ → Prop) → A1 → A2 → A3 → A4 → A5 → A6 → Prop) (ok : A1 → A2 → A3 → A4 → A5 → A6 → Prop) (μ : A1 → A2 → A3 → A4 → A5 → A6 → Nat) (val : A1 → A2 → A3 → A4 → A5 → A6 → ρ)
    (hs : ∀ (d : Nat) (post : ρ → Prop) (a1 : A1) (a2 : A2) (a3 : A3) (a4 : A4) (a5 : A5) (a6 : A6), ok a1 a2 a3 a4 a5 a6 → post (val a1 a2 a3 a4 a5 a6) → (∀ (post' : ρ → Prop) (b1 : A1) (b2 : A2) (b3 : A3) (b4 : A4) (b5 : A5) (b6 : A6), ok b1 b2 b3 b4 b5 b6 → μ b1 b2 b3 b4 b5 b6 < μ a1 a2 a3 a4 a5 a6 → post' (val b1 b2 b3 b4 b5 b6) → W d post' b1 b2 b3 b4 b5 b6) → W (d + 1) post a1 a2 a3 a4 a5 a6) :
    ∀ (d : Nat) (post : ρ → Prop) (a1 : A1) (a2 : A2) (a3 : A3) (a4 : A4) (a5 : A5) (a6 : A6), ok a1 a2 a3 a4 a5 a6 → μ a1 a2 a3 a4 a5 a6 < d → post (val a1 a2 a3 a4 a5 a6) → W d post a1 a2 a3 a4 a5 a6 := by
  intro d
  induction d with
  | zero => intro post a1 a2 a3 a4 a5 a6 _ h; omega
  | succ d ih =>
    intro post a1 a2 a3 a4 a5 a6 ho hm hp
    exact hs d post a1 a2 a3 a4 a5 a6 ho hp (fun post' b1 b2 b3 b4 b5 b6 ho' hm' hp' => ih post' b1 b2 b3 b4 b5 b6 ho' (by omega) hp')
theorem rec_p {σ ρ : Type} (W : Nat → (ρ → Prop) → σ → Prop) (ok : σ → Prop) (μ : σ → Nat) (val : σ → ρ)
    (hs : ∀ d s post, ok s → post (val s) → (∀ s' post', ok s' → μ s' < μ s → post' (val s') → W d post' s') → W (d + 1) post s) :
    ∀ d s post, ok s → μ s < d → post (val s) → W d post s := by
  intro d
  induction d with
  | zero => intro s post _ h; omega
  | succ d ih =>
    intro s post ho hm hp
    exact hs d s post ho hp (fun s' post' ho' hm' hp' => ih s' post' ho' (by omega) hp')
theorem rec_q {σ ρ : Type} (W : Nat → (ρ → Prop) → σ → Prop) (ok : σ → Prop) (μ : σ → Nat) (Q : σ → ρ → Prop)
    (hs : ∀ d s post, ok s → (∀ r, Q s r → post r) → (∀ s' post', ok s' → μ s' < μ s → (∀ r, Q s' r → post' r) → W d post' s') → W (d + 1) post s) :
    ∀ d s post, ok s → μ s < d → (∀ r, Q s r → post r) → W d post s := by
  intro d
  induction d with
  | zero => intro s post _ h; omega
  | succ d ih =>
    intro s post ho hm hp
    exact hs d s post ho hp (fun s' post' ho' hm' hp' => ih s' post' ho' (by omega) hp')
def bx_sum (f : Nat → Int32) : Nat → Int32
  | 0 => 0
  | n + 1 => bx_sum f n + f n
theorem ek_u {A : Prop} {B : Nat → Prop} {k N : Nat} (hk : k < N) (h : B k) : (some k = none → A) ∧ (∀ y : Nat, some k = some y → (y < N ∧ B y)) :=
  ⟨fun z => absurd z (Option.some_ne_none k), fun _ e => (by cases e; exact ⟨hk, h⟩)⟩
theorem ek_nu {A : Prop} {B : Nat → Prop} (h : A) : ((none : Option Nat) = none → A) ∧ (∀ y : Nat, (none : Option Nat) = some y → B y) :=
  ⟨fun _ => h, fun _ e => (by cases e)⟩
theorem ek_if {c d A B : Prop} (e : c ↔ d) (f : d → A) (g : ¬ d → B) : (c → A) ∧ (¬ c → B) :=
  ⟨fun z => f (e.mp z), fun z => g (fun y => z (e.mpr y))⟩
theorem ek_v {α : Sort _} {P : α → Prop} {a b : α} (e : a = b) (h : P b) : P a := e ▸ h
theorem co_some {x : Option Nat} {A : Prop} {B : Nat → Prop} (i : Nat) (h : B i) (hx : x = some i := by rfl) : (x = none → A) ∧ (∀ y : Nat, x = some y → B y) := by
  subst hx
  exact ⟨fun e => (nomatch e), fun y e => Option.some.inj e ▸ h⟩
theorem co_none {x : Option Nat} {A : Prop} {B : Nat → Prop} (h : A) (hx : x = none := by rfl) : (x = none → A) ∧ (∀ y : Nat, x = some y → B y) := by
  subst hx
  exact ⟨fun _ => h, fun y e => (nomatch e)⟩
theorem co_any {x : Option Nat} {A : Prop} {B : Nat → Prop} (hn : x = none → A) (hs : ∀ i : Nat, x = some i → B i) : (x = none → A) ∧ (∀ y : Nat, x = some y → B y) := ⟨hn, hs⟩
theorem co_2 {P : Nat → Prop} (h0 : P 0) (h1 : P 1) {i : Nat} (hi : i < 2) : P i :=
  match i, hi with
  | 0, _ => h0
  | 1, _ => h1
theorem co_3 {P : Nat → Prop} (h0 : P 0) (h1 : P 1) (h2 : P 2) {i : Nat} (hi : i < 3) : P i :=
  match i, hi with
  | 0, _ => h0
  | 1, _ => h1
  | 2, _ => h2
theorem co_4 {P : Nat → Prop} (h0 : P 0) (h1 : P 1) (h2 : P 2) (h3 : P 3) {i : Nat} (hi : i < 4) : P i :=
  match i, hi with
  | 0, _ => h0
  | 1, _ => h1
  | 2, _ => h2
  | 3, _ => h3
theorem co_dec {N : Nat} {P : Nat → Prop} [DecidablePred P] (h : (List.range N).all (fun i => decide (P i)) = true) {i : Nat} (hi : i < N) : P i := by
  have := List.all_eq_true.mp h i (List.mem_range.mpr hi)
  exact of_decide_eq_true this
theorem co_tab {α : Type} {l : List α} {d : α} {P : α → Prop} (h : ∀ a, a ∈ l → P a) {i : Nat} (hi : i < l.length) : P (l.getD i d) := by
  rw [List.getD_eq_getElem?_getD, List.getElem?_eq_getElem hi]
  exact h _ (List.getElem_mem hi)
theorem pk_mu {x : Int32} {L : Nat} (h0 : ¬ x < 0) (h : ¬ nI L ≤ x) (hL : L < 2 ^ 31) : ∃ j : Nat, j < L ∧ x = nI j ∧ x + 1 = nI (j + 1) ∧ x.toNatClampNeg = j ∧ L - (x + 1).toNatClampNeg < L - x.toNatClampNeg := by
  obtain ⟨j, hj, rfl⟩ := nI_of h0
  have hl : j < L := Nat.not_le.mp fun q => h (nI_le q hj)
  refine ⟨j, hl, rfl, nI_1 j, nI_clamp hj, ?_⟩
  rw [nI_1, nI_clamp (by omega), nI_clamp hj]
  omega
theorem op_s {α : Type} {r : Option α} {A : Prop} {B : α → Prop} {y : α} (h : r = some y) (b : B y) : (r = none → A) ∧ ∀ z, r = some z → B z :=
  ⟨fun e => (by rw [h] at e; cases e), fun z e => (by rw [h] at e; cases e; exact b)⟩
def l_holds {α : Type} (a : Nat → Option Nat) (LP : List Nat) (p : Nat → α) (c : Nat) (b : Nat → α) : Prop :=
  ∀ j, j < c → ∃ y, a j = some y ∧ y ∈ LP ∧ p y = b j
theorem l_holds_0 {α : Type} {a : Nat → Option Nat} {LP : List Nat} {p b : Nat → α} : l_holds a LP p 0 b := fun j h => absurd h (Nat.not_lt_zero j)
theorem l_in_new (LP : List Nat) (q : Nat) : q ∈ LP ++ [q] := List.mem_append.mpr (Or.inr (List.mem_singleton.mpr rfl))
def l_sum (b : Nat → Int32) : Nat → Int32
  | 0 => 0
  | k + 1 => l_sum b k + b k
theorem sb_shr0 (x : Int32) : x >>> ((0 : Int32) &&& 31) = x := by
  rw [show ((0 : Int32) &&& 31) = 0 by decide]
  simp
theorem sb_shl0 (x : Int32) : x <<< ((0 : Int32) &&& 31) = x := by
  rw [show ((0 : Int32) &&& 31) = 0 by decide]
  simp
theorem sb_cl0 : (0 : Int32).toNatClampNeg = 0 := by decide
theorem sb_m1 {p : Nat} (h : 0 < p) : nI p + (-1) = nI (p - 1) := by
  obtain ⟨q, rfl⟩ : ∃ q, p = q + 1 := ⟨p - 1, by omega⟩
  exact pk_m1 q
def sb_b (c : Nat) : Int32 := (nI c).toInt8.toInt32
theorem sb_byte : ∀ c, c < 256 → sb_b c &&& 255 = nI c ∧ ((nI c).toUInt32 % 65536).toInt32 = nI c ∧ nI c ≤ 255 := by decide +kernel
def sb_Fit (a : Nat → Int32) : Prop := ∀ j, fits .byte (.int (a j)) = true
def sb_Lat (t : Nat → Nat) (n : Nat) (a : Nat → Int32) : Prop := ∀ j, j < n → t j < 256 ∧ a j = sb_b (t j)
theorem sb_fitB (c : Nat) : fits .byte (.int (sb_b c)) = true := pk_fb _
theorem sb_fit0 : sb_Fit (fun _ => 0) := fun _ => by
  show fits .byte (.int 0) = true
  decide
theorem sb_fitU {a : Nat → Int32} {k : Nat} {x : Int32} (h : sb_Fit a) (hx : fits .byte (.int x) = true) : sb_Fit (upd a k x) := by
  intro j
  by_cases e : j = k
  · subst e
    rw [pk_us]
    exact hx
  · rw [pk_un e]
    exact h j
def sb_cat (t : Nat → Nat) (n : Nat) (s : Nat → Nat) : Nat → Nat := fun j => if j < n then t j else s (j - n)
theorem sb_cat_lo {t s : Nat → Nat} {n j : Nat} (h : j < n) : sb_cat t n s j = t j := if_pos h
theorem sb_cat_hi {t s : Nat → Nat} {n j : Nat} : sb_cat t n s (n + j) = s j := by
  show (if n + j < n then t (n + j) else s (n + j - n)) = s j
  rw [if_neg (by omega), Nat.add_sub_cancel_left]
theorem sb_latPut {t s : Nat → Nat} {n w : Nat} {a a' : Nat → Int32} (h : sb_Lat t n a) (hk : ∀ j, j < n → a' j = a j) (hs : ∀ i, i < w → s i < 256 ∧ a' (n + i) = sb_b (s i)) : sb_Lat (sb_cat t n s) (n + w) a' := by
  intro j hj
  by_cases e : j < n
  · rw [sb_cat_lo e, hk j e]
    exact h j e
  · obtain ⟨i, rfl⟩ : ∃ i, j = n + i := ⟨j - n, by omega⟩
    rw [sb_cat_hi]
    exact hs i (by omega)
theorem sb_latKeep {t : Nat → Nat} {n : Nat} {a a' : Nat → Int32} (h : sb_Lat t n a) (hk : ∀ j, j < n → a' j = a j) : sb_Lat t n a' := fun j hj => by
  rw [hk j hj]
  exact h j hj
def sb_cap (q m : Nat) : Nat := if q ≤ m then m else if 2 * m + 2 < q then q else 2 * m + 2
def sb_Room (q m mc ms : Nat) : Prop := q ≤ m ∨ (1 ≤ mc ∧ sb_cap q m ≤ ms ∧ sb_cap q m ≤ 65536)
theorem sb_cap_ge (q m : Nat) : q ≤ sb_cap q m := by
  unfold sb_cap
  split
  · omega
  · split <;> omega
theorem sb_cap_gem (q m : Nat) : m ≤ sb_cap q m := by
  unfold sb_cap
  split
  · omega
  · split <;> omega
theorem sb_cap_le {q m mc ms : Nat} (hm : m ≤ 65536) (hr : sb_Room q m mc ms) : sb_cap q m ≤ 65536 := by
  rcases hr with h | h
  · rw [sb_cap, if_pos h]
    exact hm
  · exact h.2.2
theorem sb_at {P : Int32 → Prop} {x y : Int32} (e : x = y) (h : P y) : P x := e ▸ h
def sb_dg (w : Nat) : Nat := if w < 10 then 1 else if w < 100 then 2 else if w < 1000 then 3 else if w < 10000 then 4 else if w < 100000 then 5 else if w < 1000000 then 6 else if w < 10000000 then 7 else if w < 100000000 then 8 else if w < 1000000000 then 9 else 10
def sb_dec (v : Nat) : Nat → Nat := fun i => 48 + v / 10 ^ (sb_dg v - 1 - i) % 10
theorem sb_dg_in (w : Nat) : 1 ≤ sb_dg w ∧ sb_dg w ≤ 10 := by
  unfold sb_dg
  constructor <;> (repeat' split) <;> omega
theorem sb_dg100 {w : Nat} (h : 100 ≤ w) (hw : w < 2 ^ 31) : sb_dg w = sb_dg (w / 100) + 2 := by
  rw [sb_dg, sb_dg, if_neg (show ¬ w < 10 by omega), if_neg (show ¬ w < 100 by omega)]
  by_cases h3 : w < 1000
  · rw [if_pos h3, if_pos (show w / 100 < 10 by omega)]
  rw [if_neg h3, if_neg (show ¬ w / 100 < 10 by omega)]
  by_cases h4 : w < 10000
  · rw [if_pos h4, if_pos (show w / 100 < 100 by omega)]
  rw [if_neg h4, if_neg (show ¬ w / 100 < 100 by omega)]
  by_cases h5 : w < 100000
  · rw [if_pos h5, if_pos (show w / 100 < 1000 by omega)]
  rw [if_neg h5, if_neg (show ¬ w / 100 < 1000 by omega)]
  by_cases h6 : w < 1000000
  · rw [if_pos h6, if_pos (show w / 100 < 10000 by omega)]
  rw [if_neg h6, if_neg (show ¬ w / 100 < 10000 by omega)]
  by_cases h7 : w < 10000000
  · rw [if_pos h7, if_pos (show w / 100 < 100000 by omega)]
  rw [if_neg h7, if_neg (show ¬ w / 100 < 100000 by omega)]
  by_cases h8 : w < 100000000
  · rw [if_pos h8, if_pos (show w / 100 < 1000000 by omega)]
  rw [if_neg h8, if_neg (show ¬ w / 100 < 1000000 by omega)]
  by_cases h9 : w < 1000000000
  · rw [if_pos h9, if_pos (show w / 100 < 10000000 by omega)]
  rw [if_neg h9, if_neg (show ¬ w / 100 < 10000000 by omega)]
  rw [if_pos (show w / 100 < 100000000 by omega)]
theorem sb_negT {w : Nat} (h : w < 2 ^ 31) : (-nI w).toInt = -(w : Int) := by
  rw [Int32.toInt_neg, nI_toInt h]
  exact Int.bmod_eq_of_le (by omega) (by omega)
theorem sb_nle {a b : Nat} (ha : a < 2 ^ 31) (hb : b < 2 ^ 31) : -nI a ≤ -nI b ↔ b ≤ a := by
  rw [Int32.le_iff_toInt_le, sb_negT ha, sb_negT hb]
  omega
theorem sb_nlt {a b : Nat} (ha : a < 2 ^ 31) (hb : b < 2 ^ 31) : -nI a < -nI b ↔ b < a := by
  rw [Int32.lt_iff_toInt_lt, sb_negT ha, sb_negT hb]
  omega
theorem sb_cmp {A B : Prop} {x : Int32} (v c : Nat) (f : c ≤ v → A) (g : v < c → B) (hv : v < 2 ^ 31) (hx : x = -nI c := by rfl) (hc : c < 2 ^ 31 := by omega) : (-nI v ≤ x → A) ∧ (¬ -nI v ≤ x → B) := by
  subst hx
  rw [sb_nle hv hc]
  exact ⟨f, fun z => g (by omega)⟩
theorem sb_ndiv {w : Nat} (hw : w < 2 ^ 31) : (-nI w) / 100 = -nI (w / 100) := by
  apply Int32.toInt_inj.mp
  have h100 : (100 : Int32).toInt = 100 := by decide
  rw [Int32.toInt_div, sb_negT hw, h100, sb_negT (by omega), Int.neg_tdiv, Int.tdiv_eq_ediv_of_nonneg (by omega), Int.bmod_eq_of_le (by omega) (by omega)]
  omega
theorem sb_nrem {w : Nat} (hw : w < 2 ^ 31) : (-nI (w / 100)) * 100 - (-nI w) = nI (w % 100) := by
  have h := pk_rem (a := w) (d := 100) hw (by decide) (by decide)
  rw [pk_div hw (by decide) (by decide)] at h
  rw [← h]
  show (-nI (w / 100)) * nI 100 - (-nI w) = nI w - nI (w / 100) * nI 100
  rw [Int32.neg_mul, Int32.sub_neg, Int32.add_comm, ← Int32.sub_eq_add_neg]
end
section
/-! the abstract state: natural-valued arrays, sums, the states of the processes -/
def kn_F (f : Nat → Nat) : Nat → Int32 := fun j => nI (f j)
def kn_U (f : Nat → Nat) (k v : Nat) : Nat → Nat := fun j => if j = k then v else f j
theorem kn_ap (f : Nat → Nat) (j : Nat) : kn_F f j = nI (f j) := rfl
theorem kn_us {f : Nat → Nat} {k v : Nat} : kn_U f k v k = v := if_pos rfl
theorem kn_un {f : Nat → Nat} {k v j : Nat} (h : j ≠ k) : kn_U f k v j = f j := if_neg h
theorem kn_uc (f : Nat → Nat) (k v j : Nat) : (j = k ∧ kn_U f k v j = v) ∨ (j ≠ k ∧ kn_U f k v j = f j) := by
  by_cases h : j = k
  · exact Or.inl ⟨h, if_pos h⟩
  · exact Or.inr ⟨h, if_neg h⟩
theorem kn_upd (f : Nat → Nat) (k v : Nat) : upd (kn_F f) k (nI v) = kn_F (kn_U f k v) := by
  funext j
  show (if j = k then nI v else nI (f j)) = nI (if j = k then v else f j)
  by_cases h : j = k
  · rw [if_pos h, if_pos h]
  · rw [if_neg h, if_neg h]
theorem kn_upd' {f : Nat → Nat} {k v : Nat} {x : Int32} {k' : Nat} (hk : k' = k) (hx : x = nI v) : upd (kn_F f) k' x = kn_F (kn_U f k v) := by
  rw [hk, hx, kn_upd]
theorem kn_uu (f : Nat → Nat) (k v v' : Nat) : kn_U (kn_U f k v) k v' = kn_U f k v' := by
  funext j
  unfold kn_U
  by_cases h : j = k
  · rw [if_pos h, if_pos h]
  · rw [if_neg h, if_neg h, if_neg h]
theorem kn_rd {f : Nat → Nat} {p : Nat} (hp : p < 2 ^ 31) : kn_F f (nI p).toNatClampNeg = nI (f p) := by
  rw [nI_clamp hp]; rfl
theorem kn_z : (fun _ => 0 : Nat → Int32) = kn_F (fun _ => 0) := rfl
theorem kn_i16 (p q : Nat) : nI p * 16 + nI q = nI (p * 16 + q) := by
  rw [show (16 : Int32) = nI 16 from rfl, pk_mul, nI_add]
theorem kn_i4 (p q : Nat) : nI p * 4 + nI q = nI (p * 4 + q) := by
  rw [show (4 : Int32) = nI 4 from rfl, pk_mul, nI_add]
theorem kn_m4 (p : Nat) : nI p * 4 = nI (p * 4) := by
  rw [show (4 : Int32) = nI 4 from rfl, pk_mul]
theorem kn_m64 (p : Nat) : nI p * 64 = nI (p * 64) := by
  rw [show (64 : Int32) = nI 64 from rfl, pk_mul]
theorem kn_i64 (p q : Nat) : nI p * 64 + nI q = nI (p * 64 + q) := by
  rw [show (64 : Int32) = nI 64 from rfl, pk_mul, nI_add]
theorem kn_all {P : Nat → Prop} (h : ∀ n, P n) (n : Nat) : P n := h n
/-! sums -/
def kn_S (f : Nat → Nat) : Nat → Nat
  | 0 => 0
  | n + 1 => kn_S f n + f n
theorem kn_S_eq {f g : Nat → Nat} : ∀ n, (∀ i, i < n → f i = g i) → kn_S f n = kn_S g n
  | 0, _ => rfl
  | n + 1, h => by
    have a := kn_S_eq n (fun i hi => h i (by omega))
    have b := h n (by omega)
    simp only [kn_S]; omega
theorem kn_S_lo {f : Nat → Nat} {k v n : Nat} (h : n ≤ k) : kn_S (kn_U f k v) n = kn_S f n :=
  kn_S_eq n (fun i hi => kn_un (by omega))
theorem kn_S_hi {f : Nat → Nat} {k v : Nat} : ∀ {n : Nat}, k < n → kn_S (kn_U f k v) n + f k = kn_S f n + v
  | 0, h => by omega
  | n + 1, h => by
    simp only [kn_S]
    rcases Nat.lt_or_ge k n with z | z
    · have a := kn_S_hi (f := f) (v := v) z
      have b : kn_U f k v n = f n := kn_un (by omega)
      omega
    · have e : k = n := by omega
      subst e
      have a : kn_S (kn_U f k v) k = kn_S f k := kn_S_lo (Nat.le_refl _)
      have b : kn_U f k v k = v := kn_us
      omega
theorem kn_S_mono {f : Nat → Nat} {m : Nat} : ∀ {n : Nat}, m ≤ n → kn_S f m ≤ kn_S f n
  | 0, h => by
    have : m = 0 := by omega
    subst this; exact Nat.le_refl _
  | n + 1, h => by
    rcases Nat.lt_or_ge m (n + 1) with z | z
    · have a := kn_S_mono (f := f) (m := m) (n := n) (by omega)
      simp only [kn_S]; omega
    · have : m = n + 1 := by omega
      subst this; exact Nat.le_refl _
theorem kn_S_el {f : Nat → Nat} {i n : Nat} (h : i < n) : kn_S f i + f i ≤ kn_S f n := by
  have := kn_S_mono (f := f) (m := i + 1) (n := n) (by omega)
  simp only [kn_S] at this; exact this
/-! what the code may hold -/
def kn_fit (nc : Nat) (w r : Nat → Nat) (p o : Nat) (a b : Int32) : Prop :=
  o = 0 ∨ (o = 8 ∧ ∃ x : Nat, x ≤ 15 ∧ a = nI x) ∨
  ((∃ x : Nat, x ≤ 3 ∧ a = nI x) ∧ (o = 1 ∨ (2 ≤ o ∧ o ≤ 5 ∧ ∃ y : Nat, y ≤ 3 ∧ b = nI y) ∨ (o = 6 ∧ ∃ y : Nat, y < nc ∧ b = nI y ∧ r y = p) ∨ (o = 7 ∧ ∃ y : Nat, y < nc ∧ b = nI y ∧ w y = p) ∨ (9 ≤ o ∧ o ≤ 10 ∧ ∃ y : Nat, y ≤ 15 ∧ b = nI y)))
/-- valid: what the reading methods need -/
def kn_V (np nc : Nat) (on cn po w r c h : Nat → Nat) (aa ab hl : Nat → Int32) : Prop :=
  np ≤ 6 ∧ nc ≤ 8 ∧ (∀ j, po j ≤ 16) ∧ (∀ j, cn j ≤ 16) ∧ (∀ j, on j ≤ 10) ∧ (∀ j, w j < np) ∧ (∀ j, r j < np) ∧ (∀ j, c j ≤ 64) ∧ (∀ j, h j ≤ c j) ∧
  (∀ p i, p < np → i < cn p → kn_fit nc w r p (on (p * 16 + i)) (aa (p * 16 + i)) (ab (p * 16 + i))) ∧ (∀ j, j < nc → (0 < c j ↔ hl (r j) = 0))
def kn_op (on cn po : Nat → Nat) (p : Nat) : Nat := if po p < cn p then on (p * 16 + po p) else 0
def kn_d (po : Nat → Nat) (ab : Nat → Int32) (p : Nat) : Nat := (ab (p * 16 + po p)).toNatClampNeg
def kn_st (on cn po c h : Nat → Nat) (ab hl : Nat → Int32) (p : Nat) : Nat :=
  if hl p = 0 then
    (if kn_op on cn po p = 6 then (if h (kn_d po ab p) = 0 then 3 else 1)
     else if kn_op on cn po p = 7 then (if 0 < c (kn_d po ab p) ∧ c (kn_d po ab p) ≤ h (kn_d po ab p) then 4 else 1)
     else 1)
  else 2
theorem kn_V_ch {np nc : Nat} {on cn po w r c h : Nat → Nat} {aa ab hl : Nat → Int32} {p : Nat} (V : kn_V np nc on cn po w r c h aa ab hl) (hp : p < np) (ho : kn_op on cn po p = 6 ∨ kn_op on cn po p = 7) : po p < cn p ∧ on (p * 16 + po p) = kn_op on cn po p ∧ kn_d po ab p < nc ∧ ab (p * 16 + po p) = nI (kn_d po ab p) ∧ (kn_op on cn po p = 6 → r (kn_d po ab p) = p) ∧ (kn_op on cn po p = 7 → w (kn_d po ab p) = p) := by
  obtain ⟨v1, v2, v3, v4, v5, v6, v7, v8, v9, v10, v11⟩ := V
  unfold kn_op at ho ⊢
  by_cases h1 : po p < cn p
  · rw [if_pos h1] at ho ⊢
    have hf := v10 p (po p) hp h1
    unfold kn_d
    rcases hf with hf | ⟨hf, _⟩ | ⟨_, hf | ⟨hf, hf2, _⟩ | ⟨hf, y, hy, e, hr⟩ | ⟨hf, y, hy, e, hr⟩ | ⟨hf, hf2, _⟩⟩
    · omega
    · omega
    · omega
    · omega
    · rw [e, nI_clamp (by omega)]
      exact ⟨h1, rfl, hy, rfl, fun _ => hr, fun z => by omega⟩
    · rw [e, nI_clamp (by omega)]
      exact ⟨h1, rfl, hy, rfl, fun z => by omega, fun _ => hr⟩
    · omega
  · rw [if_neg h1] at ho
    omega
theorem kn_st_cases (on cn po c h : Nat → Nat) (ab hl : Nat → Int32) (p : Nat) : (kn_st on cn po c h ab hl p = 1) ∨ (kn_st on cn po c h ab hl p = 2) ∨ (kn_st on cn po c h ab hl p = 3 ∧ kn_op on cn po p = 6) ∨ (kn_st on cn po c h ab hl p = 4 ∧ kn_op on cn po p = 7) := by
  unfold kn_st
  by_cases h0 : hl p = 0
  · rw [if_pos h0]
    by_cases h6 : kn_op on cn po p = 6
    · rw [if_pos h6]
      by_cases hh : h (kn_d po ab p) = 0
      · rw [if_pos hh]; exact Or.inr (Or.inr (Or.inl ⟨rfl, h6⟩))
      · rw [if_neg hh]; exact Or.inl rfl
    · rw [if_neg h6]
      by_cases h7 : kn_op on cn po p = 7
      · rw [if_pos h7]
        by_cases hh : 0 < c (kn_d po ab p) ∧ c (kn_d po ab p) ≤ h (kn_d po ab p)
        · rw [if_pos hh]; exact Or.inr (Or.inr (Or.inr ⟨rfl, h7⟩))
        · rw [if_neg hh]; exact Or.inl rfl
      · rw [if_neg h7]; exact Or.inl rfl
  · rw [if_neg h0]; exact Or.inr (Or.inl rfl)
theorem kn_st_le (on cn po c h : Nat → Nat) (ab hl : Nat → Int32) (p : Nat) : kn_st on cn po c h ab hl p ≤ 4 := by
  rcases kn_st_cases on cn po c h ab hl p with z | z | ⟨z, _⟩ | ⟨z, _⟩ <;> omega
/-- whom a process waits for -/
def kn_aw (on cn po w r c h : Nat → Nat) (ab hl : Nat → Int32) (p : Nat) : Option Nat :=
  if kn_st on cn po c h ab hl p = 3 then some (w (kn_d po ab p))
  else if kn_st on cn po c h ab hl p = 4 then some (r (kn_d po ab p)) else none
def kn_ov : Option Nat → Int32
  | none => -6
  | some q => nI q
def kn_ring (A : Nat → Option Nat) (p : Nat) : Nat → Nat → Nat
  | 0, _ => 0
  | m + 1, q => match A q with
    | none => 0
    | some q' => if q' = p then 1 else kn_ring A p m q'
theorem kn_ring_n {A : Nat → Option Nat} {p m q : Nat} (h : A q = none) : kn_ring A p (m + 1) q = 0 := by
  unfold kn_ring; rw [h]
theorem kn_ring_t {A : Nat → Option Nat} {p m q : Nat} (h : A q = some p) : kn_ring A p (m + 1) q = 1 := by
  unfold kn_ring; rw [h]; exact if_pos rfl
theorem kn_ring_f {A : Nat → Option Nat} {p m q q' : Nat} (h : A q = some q') (hn : q' ≠ p) : kn_ring A p (m + 1) q = kn_ring A p m q' := by
  rw [kn_ring, h]; exact if_neg hn
theorem kn_ring_le {A : Nat → Option Nat} {p : Nat} : ∀ m q, kn_ring A p m q = 0 ∨ kn_ring A p m q = 1
  | 0, _ => Or.inl rfl
  | m + 1, q => by
    cases hq : A q with
    | none => exact Or.inl (kn_ring_n hq)
    | some q' =>
      by_cases e : q' = p
      · subst e; exact Or.inr (kn_ring_t hq)
      · rw [kn_ring_f hq e]; exact kn_ring_le m q'
end
section
section
variable {np na ng nc nf : Nat} {sd : Int32} {on cn po w r c h wt b e : Nat → Nat} {aa ab rg hl dg hi ar tk : Nat → Int32}
theorem kx_isP1 {post : Int32 → Prop} {p : Nat} (hp : p < np) (hn : np ≤ 6) (k : post 1) : wpX_isProcess post (0, 1, 2, 3, 4, 5, 6, 7, 8, 9, 10, nI np, nI na, nI ng, sd, nI nc, nI nf, kn_F on, aa, ab, kn_F cn, rg, kn_F po, hl, kn_F w, kn_F r, kn_F c, kn_F h, kn_F wt, dg, hi, ar, kn_F b, kn_F e) (nI p) := by
  unfold wpX_isProcess
  exact br_f (nI_pos (by omega)) (br_f (nI_ge hp (by omega)) k)
theorem kx_isP0 {post : Int32 → Prop} {x : Int32} (hx : x < 0 ∨ nI np ≤ x) (k : post 0) : wpX_isProcess post (0, 1, 2, 3, 4, 5, 6, 7, 8, 9, 10, nI np, nI na, nI ng, sd, nI nc, nI nf, kn_F on, aa, ab, kn_F cn, rg, kn_F po, hl, kn_F w, kn_F r, kn_F c, kn_F h, kn_F wt, dg, hi, ar, kn_F b, kn_F e) x := by
  unfold wpX_isProcess
  by_cases h0 : x < 0
  · exact br_t h0 k
  · exact br_f h0 (br_t (hx.resolve_left h0) k)
theorem ky_bP0 {post : Int32 → Prop} {p : Nat} (hp : p < np) (hn : np ≤ 6) (k : post 0) : wpY_badProcess post (nI np, nI na, nI ng, sd, nI nc, kn_F on, aa, ab, kn_F cn, rg, kn_F po, hl, kn_F w, kn_F r, kn_F c, kn_F h, kn_F wt, dg, tk, hi) (nI p) := by
  unfold wpY_badProcess
  exact br_f (nI_pos (by omega)) (br_t (nI_lt hp (by omega)) k)
theorem ky_bP1 {post : Int32 → Prop} {x : Int32} (hx : x < 0 ∨ nI np ≤ x) (k : post 1) : wpY_badProcess post (nI np, nI na, nI ng, sd, nI nc, kn_F on, aa, ab, kn_F cn, rg, kn_F po, hl, kn_F w, kn_F r, kn_F c, kn_F h, kn_F wt, dg, tk, hi) x := by
  unfold wpY_badProcess
  by_cases h0 : x < 0
  · exact br_t h0 k
  · exact br_f h0 (br_f (Int32.not_lt.mpr (hx.resolve_left h0)) k)
theorem kx_isC1 {post : Int32 → Prop} {p : Nat} (hp : p < nc) (hn : nc ≤ 8) (k : post 1) : wpX_isChannel post (0, 1, 2, 3, 4, 5, 6, 7, 8, 9, 10, nI np, nI na, nI ng, sd, nI nc, nI nf, kn_F on, aa, ab, kn_F cn, rg, kn_F po, hl, kn_F w, kn_F r, kn_F c, kn_F h, kn_F wt, dg, hi, ar, kn_F b, kn_F e) (nI p) := by
  unfold wpX_isChannel
  exact br_f (nI_pos (by omega)) (br_f (nI_ge hp (by omega)) k)
theorem kx_isC0 {post : Int32 → Prop} {x : Int32} (hx : x < 0 ∨ nI nc ≤ x) (k : post 0) : wpX_isChannel post (0, 1, 2, 3, 4, 5, 6, 7, 8, 9, 10, nI np, nI na, nI ng, sd, nI nc, nI nf, kn_F on, aa, ab, kn_F cn, rg, kn_F po, hl, kn_F w, kn_F r, kn_F c, kn_F h, kn_F wt, dg, hi, ar, kn_F b, kn_F e) x := by
  unfold wpX_isChannel
  by_cases h0 : x < 0
  · exact br_t h0 k
  · exact br_f h0 (br_t (hx.resolve_left h0) k)
theorem ky_bC0 {post : Int32 → Prop} {p : Nat} (hp : p < nc) (hn : nc ≤ 8) (k : post 0) : wpY_badChannel post (nI np, nI na, nI ng, sd, nI nc, kn_F on, aa, ab, kn_F cn, rg, kn_F po, hl, kn_F w, kn_F r, kn_F c, kn_F h, kn_F wt, dg, tk, hi) (nI p) := by
  unfold wpY_badChannel
  exact br_f (nI_pos (by omega)) (br_t (nI_lt hp (by omega)) k)
theorem ky_bC1 {post : Int32 → Prop} {x : Int32} (hx : x < 0 ∨ nI nc ≤ x) (k : post 1) : wpY_badChannel post (nI np, nI na, nI ng, sd, nI nc, kn_F on, aa, ab, kn_F cn, rg, kn_F po, hl, kn_F w, kn_F r, kn_F c, kn_F h, kn_F wt, dg, tk, hi) x := by
  unfold wpY_badChannel
  by_cases h0 : x < 0
  · exact br_t h0 k
  · exact br_f h0 (br_f (Int32.not_lt.mpr (hx.resolve_left h0)) k)
theorem kx_nextOp {post : Int32 → Prop} {p : Nat} (hp : p < 6) (h1 : po p ≤ 16) (h2 : cn p ≤ 16) (k : post (nI (kn_op on cn po p))) : wpX_nextOp post (0, 1, 2, 3, 4, 5, 6, 7, 8, 9, 10, nI np, nI na, nI ng, sd, nI nc, nI nf, kn_F on, aa, ab, kn_F cn, rg, kn_F po, hl, kn_F w, kn_F r, kn_F c, kn_F h, kn_F wt, dg, hi, ar, kn_F b, kn_F e) (nI p) := by
  have i6 : vp_in (nI p) 6 := vp_in_nI hp (by omega)
  unfold kn_op at k
  unfold wpX_nextOp
  simp (disch := omega) only [kn_ap, nI_clamp, kn_i16]
  refine ⟨i6, i6, pk_lt (po p) (cn p) (fun hlt => ?_) (fun hge => ?_)⟩
  · rw [if_pos hlt] at k
    exact ⟨i6, vp_in_nI (by omega) (by omega), k⟩
  · rw [if_neg (by omega)] at k
    exact k
theorem kx_st83 {post : Int32 → Prop} {d : Nat} {z : Int32} (hd : d < 8) (hc : c d ≤ 64) (hh : h d ≤ 64) (k : post (if z = 0 then 1 else if c d ≤ h d then 4 else 1)) : wX_stateOf_83 post (nI d) z 0 1 2 3 4 5 6 7 8 9 10 (nI np) (nI na) (nI ng) sd (nI nc) (nI nf) (kn_F on) aa ab (kn_F cn) rg (kn_F po) hl (kn_F w) (kn_F r) (kn_F c) (kn_F h) (kn_F wt) dg hi ar (kn_F b) (kn_F e) := by
  have i8 : vp_in (nI d) 8 := vp_in_nI hd (by omega)
  unfold wX_stateOf_83
  by_cases hz : z = 0
  · rw [if_pos hz] at k; exact br_t hz k
  · rw [if_neg hz] at k
    refine br_f hz ⟨i8, i8, ?_⟩
    simp (disch := omega) only [kn_ap, nI_clamp]
    refine pk_lt (h d) (c d) (fun hlt => ?_) (fun hge => ?_)
    · rw [if_neg (by omega)] at k; exact k
    · rw [if_pos hge] at k; exact k
theorem kx_st31 {post : Int32 → Prop} {p d o : Nat} (hp : p < 6) (h1 : po p ≤ 16) (h2 : p * 16 + po p < 96) (hd : d < 8) (ed : ab (p * 16 + po p) = nI d) (hc : c d ≤ 64) (hh : h d ≤ 64) (ho : o = 6 ∨ o = 7) (k : post (nI (if o = 6 then (if h d = 0 then 3 else 1) else (if 0 < c d ∧ c d ≤ h d then 4 else 1)))) : wX_stateOf_31 post (nI p) (nI o) 0 1 2 3 4 5 6 7 8 9 10 (nI np) (nI na) (nI ng) sd (nI nc) (nI nf) (kn_F on) aa ab (kn_F cn) rg (kn_F po) hl (kn_F w) (kn_F r) (kn_F c) (kn_F h) (kn_F wt) dg hi ar (kn_F b) (kn_F e) := by
  have i6 : vp_in (nI p) 6 := vp_in_nI hp (by omega)
  have i8 : vp_in (nI d) 8 := vp_in_nI hd (by omega)
  unfold wX_stateOf_31
  simp (disch := omega) only [kn_ap, nI_clamp, kn_i16]
  refine ⟨i6, vp_in_nI h2 (by omega), nm_r ed ?_⟩
  simp (disch := omega) only [nI_clamp]
  refine pk_eq o 6 (fun h6 => ⟨i8, ?_⟩) (fun h6 => ⟨i8, ?_⟩)
  · rw [if_pos h6] at k
    refine pk_eq (h d) 0 (fun h0 => ?_) (fun h0 => ?_)
    · rw [if_pos h0] at k; exact k
    · rw [if_neg h0] at k; exact k
  · rw [if_neg h6] at k
    refine pk_le (c d) 0 (fun h0 => ?_) (fun h0 => ?_)
    · rw [if_neg (by omega)] at k
      exact kx_st83 hd hc hh (by rw [if_pos rfl]; exact k)
    · refine kx_st83 hd hc hh ?_
      rw [if_neg (by decide)]
      by_cases h3 : c d ≤ h d
      · rw [if_pos h3]; rw [if_pos ⟨h0, h3⟩] at k; exact k
      · rw [if_neg h3]; rw [if_neg (by omega)] at k; exact k
theorem kx_st {post : Int32 → Prop} {p : Nat} (V : kn_V np nc on cn po w r c h aa ab hl) (hp : p < np) (k : post (nI (kn_st on cn po c h ab hl p))) : wpX_stateOf post (0, 1, 2, 3, 4, 5, 6, 7, 8, 9, 10, nI np, nI na, nI ng, sd, nI nc, nI nf, kn_F on, aa, ab, kn_F cn, rg, kn_F po, hl, kn_F w, kn_F r, kn_F c, kn_F h, kn_F wt, dg, hi, ar, kn_F b, kn_F e) (nI p) := by
  have V' := V
  obtain ⟨v1, v2, v3, v4, v5, v6, v7, v8, v9, v10, v11⟩ := V'
  have i6 : vp_in (nI p) 6 := vp_in_nI (by omega) (by omega)
  have q1 := v3 p
  unfold kn_st at k
  unfold wpX_stateOf
  simp (disch := omega) only [nI_clamp]
  refine ⟨i6, br_c (fun h0 => ?_) (fun h0 => ?_)⟩
  · rw [if_pos h0] at k
    refine kx_nextOp (by omega) q1 (v4 p) ?_
    have key : kn_op on cn po p = 6 ∨ kn_op on cn po p = 7 → wX_stateOf_31 post (nI p) (nI (kn_op on cn po p)) 0 1 2 3 4 5 6 7 8 9 10 (nI np) (nI na) (nI ng) sd (nI nc) (nI nf) (kn_F on) aa ab (kn_F cn) rg (kn_F po) hl (kn_F w) (kn_F r) (kn_F c) (kn_F h) (kn_F wt) dg hi ar (kn_F b) (kn_F e) := by
      intro ho
      obtain ⟨g1, g2, g3, g4, g5, g6⟩ := kn_V_ch V hp ho
      have q2 := v8 (kn_d po ab p)
      have q3 := v9 (kn_d po ab p)
      have q4 := v4 p
      refine kx_st31 (by omega) q1 (by omega) (by omega) g4 q2 (by omega) ho ?_
      rcases ho with ho | ho
      · rw [if_pos ho]; rw [if_pos ho] at k; exact k
      · rw [if_neg (by omega)]; rw [if_neg (by omega), if_pos ho] at k; exact k
    have q4 : kn_op on cn po p ≤ 10 := by
      unfold kn_op
      by_cases z : po p < cn p
      · rw [if_pos z]; exact v5 _
      · rw [if_neg z]; omega
    refine pk_eq (kn_op on cn po p) 6 (fun h6 => key (Or.inl h6)) (fun h6 => ?_)
    refine pk_eq (kn_op on cn po p) 7 (fun h7 => key (Or.inr h7)) (fun h7 => ?_)
    rw [if_neg h6, if_neg h7] at k
    exact k
  · rw [if_neg h0] at k
    exact k
theorem ky_st90 {post : Int32 → Prop} {d o : Nat} {x : Int32} (ho : o ≤ 10) (hd : o = 7 → d < 8 ∧ x = nI d) (hr : r d < 6) (hc : c d ≤ 64) (hh : h d ≤ c d) (k : post (nI (if o = 7 ∧ hl (r d) = 0 ∧ c d ≤ h d then 4 else 1))) : wY_state_90 post (nI o) x (nI np) (nI na) (nI ng) sd (nI nc) (kn_F on) aa ab (kn_F cn) rg (kn_F po) hl (kn_F w) (kn_F r) (kn_F c) (kn_F h) (kn_F wt) dg tk hi := by
  unfold wY_state_90
  refine pk_eq o 7 (fun h7 => ?_) (fun h7 => ?_)
  · obtain ⟨d8, rfl⟩ := hd h7
    have i8 : vp_in (nI d) 8 := vp_in_nI d8 (by omega)
    simp (disch := omega) only [kn_ap, nI_clamp]
    refine ⟨i8, vp_in_nI hr (by omega), br_c (fun h0 => ⟨i8, i8, ?_⟩) (fun h0 => ?_)⟩
    · refine pk_eq (h d) (c d) (fun he => ?_) (fun he => ?_)
      · rw [if_pos ⟨h7, h0, by omega⟩] at k; exact k
      · rw [if_neg (fun z => by omega)] at k; exact k
    · rw [if_neg (fun z => h0 z.2.1)] at k; exact k
  · rw [if_neg (fun z => h7 z.1)] at k; exact k
theorem ky_st {post : Int32 → Prop} {p : Nat} (V : kn_V np nc on cn po w r c h aa ab hl) (hp : p < np) (k : post (nI (kn_st on cn po c h ab hl p))) : wpY_state post (nI np, nI na, nI ng, sd, nI nc, kn_F on, aa, ab, kn_F cn, rg, kn_F po, hl, kn_F w, kn_F r, kn_F c, kn_F h, kn_F wt, dg, tk, hi) (nI p) := by
  have V' := V
  obtain ⟨v1, v2, v3, v4, v5, v6, v7, v8, v9, v10, v11⟩ := V'
  have i6 : vp_in (nI p) 6 := vp_in_nI (by omega) (by omega)
  have q1 := v3 p
  have q2 := v4 p
  unfold kn_st at k
  unfold wpY_state
  refine ky_bP0 hp v1 (br_t rfl ⟨i6, ?_⟩)
  simp (disch := omega) only [kn_ap, nI_clamp, kn_i16]
  refine br_c (fun h0 => ⟨i6, i6, ?_⟩) (fun h0 => ?_)
  · rw [if_pos h0] at k
    refine pk_lt (po p) (cn p) (fun h1 => ?_) (fun h1 => ?_)
    · have i96 : vp_in (nI (p * 16 + po p)) 96 := vp_in_nI (by omega) (by omega)
      have eo : kn_op on cn po p = on (p * 16 + po p) := if_pos h1
      have q5 := v5 (p * 16 + po p)
      refine ⟨i6, i96, nm_e ⟨i6, i96, nm_e ?_⟩⟩
      refine pk_eq (on (p * 16 + po p)) 6 (fun h6 => ?_) (fun h6 => ?_)
      · obtain ⟨g1, g2, g3, g4, g5, g6⟩ := kn_V_ch V hp (Or.inl (eo.trans h6))
        have q3 := v9 (kn_d po ab p)
        have q4 := v8 (kn_d po ab p)
        have q6 := v7 (kn_d po ab p)
        rw [if_pos (eo.trans h6)] at k
        rw [g4]
        refine ⟨vp_in_nI (by omega) (by omega), ?_⟩
        rw [nI_clamp (by omega)]
        refine pk_eq (h (kn_d po ab p)) 0 (fun hz => ?_) (fun hz => ?_)
        · rw [if_pos hz] at k; exact k
        · rw [if_neg hz] at k
          refine ky_st90 (d := kn_d po ab p) (by omega) (fun z => absurd z (by omega)) (by omega) q4 q3 ?_
          rw [if_neg (fun z => by omega)]; exact k
      · rw [if_neg (fun z => h6 (eo.symm.trans z))] at k
        by_cases h7 : on (p * 16 + po p) = 7
        · obtain ⟨g1, g2, g3, g4, g5, g6⟩ := kn_V_ch V hp (Or.inr (eo.trans h7))
          have q3 := v9 (kn_d po ab p)
          have q4 := v8 (kn_d po ab p)
          have q6 := v7 (kn_d po ab p)
          have q7 := v11 (kn_d po ab p) g3
          rw [if_pos (eo.trans h7)] at k
          refine ky_st90 (d := kn_d po ab p) (by omega) (fun _ => ⟨by omega, g4⟩) (by omega) q4 q3 ?_
          by_cases hz : 0 < c (kn_d po ab p) ∧ c (kn_d po ab p) ≤ h (kn_d po ab p)
          · rw [if_pos hz] at k
            rw [if_pos ⟨h7, q7.mp hz.1, hz.2⟩]; exact k
          · rw [if_neg hz] at k
            rw [if_neg (fun z => hz ⟨q7.mpr z.2.1, z.2.2⟩)]; exact k
        · have q6 := v7 0
          have q4 := v8 0
          have q3 := v9 0
          rw [if_neg (fun z => h7 (eo.symm.trans z))] at k
          refine ky_st90 (d := 0) (by omega) (fun z => absurd z h7) (by omega) q4 q3 ?_
          rw [if_neg (fun z => h7 z.1)]; exact k
    · have eo : kn_op on cn po p = 0 := if_neg (by omega)
      rw [if_neg (by omega), if_neg (by omega)] at k
      exact k
  · rw [if_neg h0] at k
    exact k
theorem kx_aw19 {post : Int32 → Prop} {p d s : Nat} (hp : p < 6) (h2 : p * 16 + po p < 96) (hd : d < 8) (ed : ab (p * 16 + po p) = nI d) (hs : s ≤ 4) (k : post (nI (if s = 3 then w d else r d))) : wX_awaited_19 post (nI p) (nI s) 0 1 2 3 4 5 6 7 8 9 10 (nI np) (nI na) (nI ng) sd (nI nc) (nI nf) (kn_F on) aa ab (kn_F cn) rg (kn_F po) hl (kn_F w) (kn_F r) (kn_F c) (kn_F h) (kn_F wt) dg hi ar (kn_F b) (kn_F e) := by
  have i6 : vp_in (nI p) 6 := vp_in_nI hp (by omega)
  have i8 : vp_in (nI d) 8 := vp_in_nI hd (by omega)
  unfold wX_awaited_19
  simp (disch := omega) only [kn_ap, nI_clamp, kn_i16]
  refine ⟨i6, vp_in_nI h2 (by omega), nm_r ed ?_⟩
  simp (disch := omega) only [nI_clamp]
  refine pk_eq s 3 (fun h3 => ⟨i8, ?_⟩) (fun h3 => ⟨i8, ?_⟩)
  · rw [if_pos h3] at k; exact k
  · rw [if_neg h3] at k; exact k
theorem kn_aw_3 {p : Nat} (hs : kn_st on cn po c h ab hl p = 3) : kn_aw on cn po w r c h ab hl p = some (w (kn_d po ab p)) := if_pos hs
theorem kn_aw_4 {p : Nat} (hs : kn_st on cn po c h ab hl p = 4) : kn_aw on cn po w r c h ab hl p = some (r (kn_d po ab p)) := by
  unfold kn_aw; rw [if_neg (by omega), if_pos hs]
theorem kn_aw_n {p : Nat} (h3 : kn_st on cn po c h ab hl p ≠ 3) (h4 : kn_st on cn po c h ab hl p ≠ 4) : kn_aw on cn po w r c h ab hl p = none := by
  unfold kn_aw; rw [if_neg h3, if_neg h4]
theorem kn_aw_lt {p q : Nat} (V : kn_V np nc on cn po w r c h aa ab hl) (ha : kn_aw on cn po w r c h ab hl p = some q) : q < np := by
  obtain ⟨v1, v2, v3, v4, v5, v6, v7, v8, v9, v10, v11⟩ := V
  by_cases h3 : kn_st on cn po c h ab hl p = 3
  · rw [kn_aw_3 h3] at ha; cases ha; exact v6 _
  · by_cases h4 : kn_st on cn po c h ab hl p = 4
    · rw [kn_aw_4 h4] at ha; cases ha; exact v7 _
    · rw [kn_aw_n h3 h4] at ha; cases ha
theorem kx_aw {post : Int32 → Prop} {p : Nat} (V : kn_V np nc on cn po w r c h aa ab hl) (hp : p < np) (k : post (kn_ov (kn_aw on cn po w r c h ab hl p))) : wpX_awaited post (0, 1, 2, 3, 4, 5, 6, 7, 8, 9, 10, nI np, nI na, nI ng, sd, nI nc, nI nf, kn_F on, aa, ab, kn_F cn, rg, kn_F po, hl, kn_F w, kn_F r, kn_F c, kn_F h, kn_F wt, dg, hi, ar, kn_F b, kn_F e) (nI p) := by
  have V' := V
  obtain ⟨v1, v2, v3, v4, v5, v6, v7, v8, v9, v10, v11⟩ := V'
  have q1 := v3 p
  have q2 := v4 p
  unfold wpX_awaited
  refine kx_st V hp ?_
  have hle := kn_st_le on cn po c h ab hl p
  have hcs := kn_st_cases on cn po c h ab hl p
  refine pk_eq (kn_st on cn po c h ab hl p) 3 (fun h3 => ?_) (fun h3 => pk_eq (kn_st on cn po c h ab hl p) 4 (fun h4 => ?_) (fun h4 => ?_))
  · obtain ⟨g1, g2, g3, g4, g5, g6⟩ := kn_V_ch V hp (Or.inl (by omega))
    rw [kn_aw_3 h3] at k
    refine kx_aw19 (by omega) (by omega) (by omega) g4 hle ?_
    rw [if_pos h3]; exact k
  · obtain ⟨g1, g2, g3, g4, g5, g6⟩ := kn_V_ch V hp (Or.inr (by omega))
    rw [kn_aw_4 h4] at k
    refine kx_aw19 (by omega) (by omega) (by omega) g4 hle ?_
    rw [if_neg h3]; exact k
  · rw [kn_aw_n h3 h4] at k; exact k
theorem ky_aw {post : Int32 → Prop} {p : Nat} (V : kn_V np nc on cn po w r c h aa ab hl) (hp : p < np) (k : post (kn_ov (kn_aw on cn po w r c h ab hl p))) : wpY_waitsFor post (nI np, nI na, nI ng, sd, nI nc, kn_F on, aa, ab, kn_F cn, rg, kn_F po, hl, kn_F w, kn_F r, kn_F c, kn_F h, kn_F wt, dg, tk, hi) (nI p) := by
  have V' := V
  obtain ⟨v1, v2, v3, v4, v5, v6, v7, v8, v9, v10, v11⟩ := V'
  have q1 := v3 p
  have q2 := v4 p
  have i6 : vp_in (nI p) 6 := vp_in_nI (by omega) (by omega)
  unfold wpY_waitsFor
  refine ky_bP0 hp v1 (br_t rfl ?_)
  refine ky_st V hp ?_
  have hle := kn_st_le on cn po c h ab hl p
  have hcs := kn_st_cases on cn po c h ab hl p
  simp (disch := omega) only [kn_ap, nI_clamp, kn_i16]
  refine pk_eq (kn_st on cn po c h ab hl p) 3 (fun h3 => ?_) (fun h3 => pk_eq (kn_st on cn po c h ab hl p) 4 (fun h4 => ?_) (fun h4 => ?_))
  · obtain ⟨g1, g2, g3, g4, g5, g6⟩ := kn_V_ch V hp (Or.inl (by omega))
    rw [kn_aw_3 h3] at k
    rw [g4, nI_clamp (by omega)]
    exact ⟨i6, vp_in_nI (by omega) (by omega), vp_in_nI (by omega) (by omega), k⟩
  · obtain ⟨g1, g2, g3, g4, g5, g6⟩ := kn_V_ch V hp (Or.inr (by omega))
    rw [kn_aw_4 h4] at k
    rw [g4, nI_clamp (by omega)]
    exact ⟨i6, vp_in_nI (by omega) (by omega), vp_in_nI (by omega) (by omega), k⟩
  · rw [kn_aw_n h3 h4] at k; exact k
theorem kn_ov_s {q : Nat} : kn_ov (some q) = nI q := rfl
theorem kn_ov_n : kn_ov none = -6 := rfl
theorem kn_m6 {q : Nat} (hq : q < 2 ^ 31) : ¬ (-6 : Int32) = nI q := by
  intro z
  have h1 := nI_pos' hq
  rw [← z] at h1
  exact absurd h1 (by decide)
theorem kx_ring4 {post : Int32 → Prop} {p : Nat} (V : kn_V np nc on cn po w r c h aa ab hl) (hp : p < np) : ∀ (d m q n : Nat), m + d = np → d < n → q < np → post (nI (kn_ring (kn_aw on cn po w r c h ab hl) p d q)) → wX_onRing_4 post (nI p) 0 1 2 3 4 5 6 7 8 9 10 (nI np) (nI na) (nI ng) sd (nI nc) (nI nf) (kn_F on) aa ab (kn_F cn) rg (kn_F po) hl (kn_F w) (kn_F r) (kn_F c) (kn_F h) (kn_F wt) dg hi ar (kn_F b) (kn_F e) n (nI q) (nI m) := by
  have V' := V
  obtain ⟨v1, v2, v3, v4, v5, v6, v7, v8, v9, v10, v11⟩ := V'
  intro d
  induction d with
  | zero =>
    intro m q n hm hn hq k
    obtain ⟨n, rfl⟩ : ∃ n', n = n' + 1 := ⟨n - 1, by omega⟩
    exact br_t (nI_le (by omega) (by omega)) k
  | succ d ih =>
    intro m q n hm hn hq k
    obtain ⟨n, rfl⟩ : ∃ n', n = n' + 1 := ⟨n - 1, by omega⟩
    refine br_f (nI_ge (by omega) (by omega)) ?_
    refine kx_aw V hq ?_
    cases hA : kn_aw on cn po w r c h ab hl q with
    | none =>
      rw [kn_ring_n hA] at k
      exact br_f (kn_m6 (by omega)) (br_f (by decide) k)
    | some q' =>
      have hq' := kn_aw_lt V hA
      rw [kn_ov_s]
      refine pk_eq q' p (fun e => ?_) (fun e => ?_)
      · rw [e] at hA
        rw [kn_ring_t hA] at k; exact k
      · rw [kn_ring_f hA e] at k
        exact br_t (nI_pos' (by omega)) (nm_r (nI_1 m) (ih (m + 1) q' n (by omega) (by omega) hq' k))
theorem kx_ring {post : Int32 → Prop} {p : Nat} (V : kn_V np nc on cn po w r c h aa ab hl) (hp : p < np) (k : post (nI (kn_ring (kn_aw on cn po w r c h ab hl) p np p))) : wpX_onRing post (0, 1, 2, 3, 4, 5, 6, 7, 8, 9, 10, nI np, nI na, nI ng, sd, nI nc, nI nf, kn_F on, aa, ab, kn_F cn, rg, kn_F po, hl, kn_F w, kn_F r, kn_F c, kn_F h, kn_F wt, dg, hi, ar, kn_F b, kn_F e) (nI p) := by
  unfold wpX_onRing
  exact ⟨np + 1, kx_ring4 V hp np 0 p (np + 1) (by omega) (by omega) hp k⟩
theorem ky_ring4 {post : Int32 → Prop} {p : Nat} (V : kn_V np nc on cn po w r c h aa ab hl) (hp : p < np) : ∀ (d m q n : Nat), m + d = np + 1 → d < n → q < np → post (nI (kn_ring (kn_aw on cn po w r c h ab hl) p d q)) → wY_onRing_4 post (nI p) (nI np) (nI na) (nI ng) sd (nI nc) (kn_F on) aa ab (kn_F cn) rg (kn_F po) hl (kn_F w) (kn_F r) (kn_F c) (kn_F h) (kn_F wt) dg tk hi n (nI q) (nI m) := by
  have V' := V
  obtain ⟨v1, v2, v3, v4, v5, v6, v7, v8, v9, v10, v11⟩ := V'
  intro d
  induction d with
  | zero =>
    intro m q n hm hn hq k
    obtain ⟨n, rfl⟩ : ∃ n', n = n' + 1 := ⟨n - 1, by omega⟩
    exact br_t (nI_lt (by omega) (by omega)) k
  | succ d ih =>
    intro m q n hm hn hq k
    obtain ⟨n, rfl⟩ : ∃ n', n = n' + 1 := ⟨n - 1, by omega⟩
    refine br_f (nI_nlt (by omega) (by omega)) ?_
    refine ky_aw V hq ?_
    cases hA : kn_aw on cn po w r c h ab hl q with
    | none =>
      rw [kn_ring_n hA] at k
      exact br_f (by decide) k
    | some q' =>
      have hq' := kn_aw_lt V hA
      rw [kn_ov_s]
      refine br_t (nI_pos' (by omega)) ?_
      refine pk_eq q' p (fun e => ?_) (fun e => ?_)
      · rw [e] at hA
        rw [kn_ring_t hA] at k; exact k
      · rw [kn_ring_f hA e] at k
        exact nm_r (nI_1 m) (ih (m + 1) q' n (by omega) (by omega) hq' k)
theorem ky_ring {post : Int32 → Prop} {p : Nat} (V : kn_V np nc on cn po w r c h aa ab hl) (hp : p < np) (k : post (nI (kn_ring (kn_aw on cn po w r c h ab hl) p np p))) : wpY_onRing post (nI np, nI na, nI ng, sd, nI nc, kn_F on, aa, ab, kn_F cn, rg, kn_F po, hl, kn_F w, kn_F r, kn_F c, kn_F h, kn_F wt, dg, tk, hi) (nI p) := by
  unfold wpY_onRing
  exact ⟨np + 1, ky_ring4 V hp np 1 p (np + 1) (by omega) (by omega) hp k⟩
end
end
section
/-! tight processes and channels, the least of them, the verdict -/
def kn_T (S : Nat → Nat) (A : Nat → Option Nat) (np : Nat) (p : Nat) : Prop := S p = 4 ∧ kn_ring A p np p = 1
def kn_TC (T : Nat → Prop) (d : Nat → Nat) (np : Nat) (x : Nat) : Prop := ∃ q, q < np ∧ T q ∧ d q = x
def kn_lx (c : Nat → Nat) (x y : Nat) : Prop := c x < c y ∨ (c x = c y ∧ x ≤ y)
def kn_best (T : Nat → Prop) (d c : Nat → Nat) (m : Nat) : Option Nat → Prop
  | none => ∀ q, q < m → ¬ T q
  | some x => (∃ q, q < m ∧ T q ∧ d q = x) ∧ ∀ q, q < m → T q → kn_lx c x (d q)
def kn_bestC (TC : Nat → Prop) (c : Nat → Nat) (m : Nat) : Option Nat → Prop
  | none => ∀ x, x < m → ¬ TC x
  | some x => x < m ∧ TC x ∧ ∀ y, y < m → TC y → kn_lx c x y
theorem kn_lx_as {c : Nat → Nat} {x y : Nat} (h1 : kn_lx c x y) (h2 : kn_lx c y x) : x = y := by
  unfold kn_lx at h1 h2; omega
theorem kn_best_u {T : Nat → Prop} {d c : Nat → Nat} {m nc : Nat} (hd : ∀ q, q < m → T q → d q < nc) : ∀ {o o' : Option Nat}, kn_best T d c m o → kn_bestC (kn_TC T d m) c nc o' → o' = o
  | none, none, _, _ => rfl
  | none, some x, h, ⟨_, ⟨q, hq, hT, _⟩, _⟩ => absurd hT (h q hq)
  | some x, none, ⟨⟨q, hq, hT, e⟩, _⟩, h => absurd ⟨q, hq, hT, e⟩ (h x (by rw [← e]; exact hd q hq hT))
  | some x, some y, ⟨⟨q, hq, hT, e⟩, h1⟩, ⟨hy, ⟨q', hq', hT', e'⟩, h2⟩ => by
    have a := h1 q' hq' hT'
    rw [e'] at a
    have b := h2 x (by rw [← e]; exact hd q hq hT) ⟨q, hq, hT, e⟩
    rw [kn_lx_as a b]
theorem kn_best_0 {T : Nat → Prop} {d c : Nat → Nat} : kn_best T d c 0 none := fun q hq => absurd hq (Nat.not_lt_zero q)
theorem kn_bestC_0 {T : Nat → Prop} {c : Nat → Nat} : kn_bestC T c 0 none := fun q hq => absurd hq (Nat.not_lt_zero q)
theorem kn_best_skip {T : Nat → Prop} {d c : Nat → Nat} {m : Nat} (hT : ¬ T m) : ∀ {o : Option Nat}, kn_best T d c m o → kn_best T d c (m + 1) o
  | none, h => fun q hq z => by
    rcases Nat.lt_or_ge q m with a | a
    · exact h q a z
    · have e : q = m := by omega
      subst e; exact hT z
  | some x, ⟨⟨q, hq, h1, h2⟩, h3⟩ => ⟨⟨q, by omega, h1, h2⟩, fun q hq z => by
    rcases Nat.lt_or_ge q m with a | a
    · exact h3 q a z
    · have e : q = m := by omega
      subst e; exact absurd z hT⟩
theorem kn_best_new {T : Nat → Prop} {d c : Nat → Nat} {m : Nat} (hT : T m) (h : kn_best T d c m none) : kn_best T d c (m + 1) (some (d m)) :=
  ⟨⟨m, by omega, hT, rfl⟩, fun q hq z => by
    rcases Nat.lt_or_ge q m with a | a
    · exact absurd z (h q a)
    · have e : q = m := by omega
      subst e; exact Or.inr ⟨rfl, Nat.le_refl _⟩⟩
theorem kn_best_keep {T : Nat → Prop} {d c : Nat → Nat} {m x : Nat} (hx : kn_lx c x (d m)) (h : kn_best T d c m (some x)) : kn_best T d c (m + 1) (some x) := by
  obtain ⟨⟨q, hq, h1, h2⟩, h3⟩ := h
  refine ⟨⟨q, by omega, h1, h2⟩, fun q hq z => ?_⟩
  rcases Nat.lt_or_ge q m with a | a
  · exact h3 q a z
  · have e : q = m := by omega
    subst e; exact hx
theorem kn_best_take {T : Nat → Prop} {d c : Nat → Nat} {m x : Nat} (hT : T m) (hx : kn_lx c (d m) x) (h : kn_best T d c m (some x)) : kn_best T d c (m + 1) (some (d m)) := by
  obtain ⟨⟨q, hq, h1, h2⟩, h3⟩ := h
  refine ⟨⟨m, by omega, hT, rfl⟩, fun q hq z => ?_⟩
  rcases Nat.lt_or_ge q m with a | a
  · have b := h3 q a z
    unfold kn_lx at b hx ⊢; omega
  · have e : q = m := by omega
    subst e; exact Or.inr ⟨rfl, Nat.le_refl _⟩
theorem kn_bestC_skip {T : Nat → Prop} {c : Nat → Nat} {m : Nat} (hT : ¬ T m) : ∀ {o : Option Nat}, kn_bestC T c m o → kn_bestC T c (m + 1) o
  | none, h => fun q hq z => by
    rcases Nat.lt_or_ge q m with a | a
    · exact h q a z
    · have e : q = m := by omega
      subst e; exact hT z
  | some x, ⟨h1, h2, h3⟩ => ⟨by omega, h2, fun q hq z => by
    rcases Nat.lt_or_ge q m with a | a
    · exact h3 q a z
    · have e : q = m := by omega
      subst e; exact absurd z hT⟩
theorem kn_bestC_new {T : Nat → Prop} {c : Nat → Nat} {m : Nat} (hT : T m) (h : kn_bestC T c m none) : kn_bestC T c (m + 1) (some m) :=
  ⟨by omega, hT, fun q hq z => by
    rcases Nat.lt_or_ge q m with a | a
    · exact absurd z (h q a)
    · have e : q = m := by omega
      subst e; exact Or.inr ⟨rfl, Nat.le_refl _⟩⟩
theorem kn_bestC_keep {T : Nat → Prop} {c : Nat → Nat} {m x : Nat} (hx : c x ≤ c m) (h : kn_bestC T c m (some x)) : kn_bestC T c (m + 1) (some x) := by
  obtain ⟨h1, h2, h3⟩ := h
  refine ⟨by omega, h2, fun q hq z => ?_⟩
  rcases Nat.lt_or_ge q m with a | a
  · exact h3 q a z
  · have e : q = m := by omega
    subst e; unfold kn_lx; omega
theorem kn_bestC_take {T : Nat → Prop} {c : Nat → Nat} {m x : Nat} (hT : T m) (hx : c m < c x) (h : kn_bestC T c m (some x)) : kn_bestC T c (m + 1) (some m) := by
  obtain ⟨h1, h2, h3⟩ := h
  refine ⟨by omega, hT, fun q hq z => ?_⟩
  rcases Nat.lt_or_ge q m with a | a
  · have b := h3 q a z
    unfold kn_lx at b ⊢; omega
  · have e : q = m := by omega
    subst e; exact Or.inr ⟨rfl, Nat.le_refl _⟩
section
variable {np na ng nc nf : Nat} {sd : Int32} {on cn po w r c h wt b e : Nat → Nat} {aa ab rg hl dg hi ar tk : Nat → Int32}
theorem kn_T_d {q : Nat} (V : kn_V np nc on cn po w r c h aa ab hl) (hq : q < np) (hT : kn_T (kn_st on cn po c h ab hl) (kn_aw on cn po w r c h ab hl) np q) : po q < cn q ∧ kn_d po ab q < nc ∧ ab (q * 16 + po q) = nI (kn_d po ab q) ∧ 0 < c (kn_d po ab q) := by
  have hcs := kn_st_cases on cn po c h ab hl q
  have h4 : kn_st on cn po c h ab hl q = 4 := hT.1
  have ho : kn_op on cn po q = 7 := by omega
  obtain ⟨g1, g2, g3, g4, g5, g6⟩ := kn_V_ch V hq (Or.inr ho)
  refine ⟨g1, g3, g4, ?_⟩
  unfold kn_st at h4
  by_cases h0 : hl q = 0
  · rw [if_pos h0, if_neg (by omega), if_pos ho] at h4
    by_cases z : 0 < c (kn_d po ab q) ∧ c (kn_d po ab q) ≤ h (kn_d po ab q)
    · exact z.1
    · rw [if_neg z] at h4; omega
  · rw [if_neg h0] at h4; omega
theorem kx_cb {post : Int32 → Prop} {x y : Nat} (hx : x < 8) (hy : y < 8) (hcx : c x ≤ 64) (hcy : c y ≤ 64) (k1 : (c x < c y ∨ (c x = c y ∧ x < y)) → post 1) (k0 : ¬ (c x < c y ∨ (c x = c y ∧ x < y)) → post 0) : wpX_comesBefore post (0, 1, 2, 3, 4, 5, 6, 7, 8, 9, 10, nI np, nI na, nI ng, sd, nI nc, nI nf, kn_F on, aa, ab, kn_F cn, rg, kn_F po, hl, kn_F w, kn_F r, kn_F c, kn_F h, kn_F wt, dg, hi, ar, kn_F b, kn_F e) (nI x) (nI y) := by
  have i8 : vp_in (nI x) 8 := vp_in_nI hx (by omega)
  have j8 : vp_in (nI y) 8 := vp_in_nI hy (by omega)
  unfold wpX_comesBefore
  simp (disch := omega) only [kn_ap, nI_clamp]
  refine ⟨i8, j8, pk_eq (c x) (c y) (fun h1 => ?_) (fun h1 => ?_)⟩
  · exact pk_le y x (fun h2 => k0 (by omega)) (fun h2 => k1 (by omega))
  · exact ⟨i8, j8, pk_le (c y) (c x) (fun h2 => k0 (by omega)) (fun h2 => k1 (by omega))⟩
theorem kx_sm5 {post : Int32 → Prop} (V : kn_V np nc on cn po w r c h aa ab hl) (k : ∀ o, kn_best (kn_T (kn_st on cn po c h ab hl) (kn_aw on cn po w r c h ab hl) np) (kn_d po ab) c np o → post (kn_ov o)) : ∀ (d m n : Nat) (o : Option Nat), m + d = np → d < n → kn_best (kn_T (kn_st on cn po c h ab hl) (kn_aw on cn po w r c h ab hl) np) (kn_d po ab) c m o → wX_smallestTight_5 post 0 1 2 3 4 5 6 7 8 9 10 (nI np) (nI na) (nI ng) sd (nI nc) (nI nf) (kn_F on) aa ab (kn_F cn) rg (kn_F po) hl (kn_F w) (kn_F r) (kn_F c) (kn_F h) (kn_F wt) dg hi ar (kn_F b) (kn_F e) n (kn_ov o) (nI m) := by
  have V' := V
  obtain ⟨v1, v2, v3, v4, v5, v6, v7, v8, v9, v10, v11⟩ := V'
  intro d
  induction d with
  | zero =>
    intro m n o hm hn ho
    obtain ⟨n, rfl⟩ : ∃ n', n = n' + 1 := ⟨n - 1, by omega⟩
    have e : m = np := by omega
    subst e
    exact br_t (nI_le (by omega) (by omega)) (k o ho)
  | succ d ih =>
    intro m n o hm hn ho
    obtain ⟨n, rfl⟩ : ∃ n', n = n' + 1 := ⟨n - 1, by omega⟩
    have hm' : m < np := by omega
    have q1 := v3 m
    have q2 := v4 m
    refine br_f (nI_ge (by omega) (by omega)) ?_
    refine kx_st V hm' ?_
    have hle := kn_st_le on cn po c h ab hl m
    refine pk_eq (kn_st on cn po c h ab hl m) 4 (fun h4 => ?_) (fun h4 => ?_)
    · refine kx_ring V hm' ?_
      rcases kn_ring_le (A := kn_aw on cn po w r c h ab hl) (p := m) np m with h5 | h5
      · rw [h5]
        exact br_t rfl (nm_r (nI_1 m) (ih (m + 1) n o (by omega) (by omega) (kn_best_skip (fun z => by have := z.2; omega) ho)))
      · rw [h5]
        have hT : kn_T (kn_st on cn po c h ab hl) (kn_aw on cn po w r c h ab hl) np m := ⟨h4, h5⟩
        obtain ⟨g1, g2, g3, g4⟩ := kn_T_d V hm' hT
        refine br_f (by decide) ⟨vp_in_nI (by omega) (by omega), ?_⟩
        simp (disch := omega) only [kn_ap, nI_clamp, kn_i16]
        refine ⟨vp_in_nI (by omega) (by omega), nm_r g3 ?_⟩
        cases o with
        | none =>
          exact br_t (by decide) (nm_r (nI_1 m) (ih (m + 1) n (some (kn_d po ab m)) (by omega) (by omega) (kn_best_new hT ho)))
        | some x =>
          have hx8 : x < 8 := by
            obtain ⟨⟨q, hq, hTq, e⟩, _⟩ := ho
            have := (kn_T_d V (by omega) hTq).2.1
            omega
          refine br_f (nI_pos (by omega)) ?_
          refine kx_cb (by omega) hx8 (v8 _) (v8 _) (fun hb => ?_) (fun hb => ?_)
          · exact br_f (by decide) (nm_r (nI_1 m) (ih (m + 1) n (some (kn_d po ab m)) (by omega) (by omega) (kn_best_take hT (by unfold kn_lx; omega) ho)))
          · exact br_t rfl (nm_r (nI_1 m) (ih (m + 1) n (some x) (by omega) (by omega) (kn_best_keep (by unfold kn_lx; omega) ho)))
    · exact nm_r (nI_1 m) (ih (m + 1) n o (by omega) (by omega) (kn_best_skip (fun z => h4 z.1) ho))
theorem kx_sm {post : Int32 → Prop} (V : kn_V np nc on cn po w r c h aa ab hl) (k : ∀ o, kn_best (kn_T (kn_st on cn po c h ab hl) (kn_aw on cn po w r c h ab hl) np) (kn_d po ab) c np o → post (kn_ov o)) : wpX_smallestTight post (0, 1, 2, 3, 4, 5, 6, 7, 8, 9, 10, nI np, nI na, nI ng, sd, nI nc, nI nf, kn_F on, aa, ab, kn_F cn, rg, kn_F po, hl, kn_F w, kn_F r, kn_F c, kn_F h, kn_F wt, dg, hi, ar, kn_F b, kn_F e) := by
  unfold wpX_smallestTight
  exact ⟨np + 1, kx_sm5 V k np 0 (np + 1) none (by omega) (by omega) kn_best_0⟩
theorem ky_ti2 {post : Int32 → Prop} {x : Nat} (V : kn_V np nc on cn po w r c h aa ab hl) (hx : x < nc) (k1 : kn_TC (kn_T (kn_st on cn po c h ab hl) (kn_aw on cn po w r c h ab hl) np) (kn_d po ab) np x → post 1) (k0 : ¬ kn_TC (kn_T (kn_st on cn po c h ab hl) (kn_aw on cn po w r c h ab hl) np) (kn_d po ab) np x → post 0) : ∀ (d m n : Nat), m + d = np → d < n → (∀ q, q < m → ¬ (kn_T (kn_st on cn po c h ab hl) (kn_aw on cn po w r c h ab hl) np q ∧ kn_d po ab q = x)) → wY_tight_2 post (nI x) (nI np) (nI na) (nI ng) sd (nI nc) (kn_F on) aa ab (kn_F cn) rg (kn_F po) hl (kn_F w) (kn_F r) (kn_F c) (kn_F h) (kn_F wt) dg tk hi n (nI m) := by
  have V' := V
  obtain ⟨v1, v2, v3, v4, v5, v6, v7, v8, v9, v10, v11⟩ := V'
  intro d
  induction d with
  | zero =>
    intro m n hm hn ho
    obtain ⟨n, rfl⟩ : ∃ n', n = n' + 1 := ⟨n - 1, by omega⟩
    have e : m = np := by omega
    subst e
    exact br_t (nI_le (by omega) (by omega)) (k0 (fun ⟨q, hq, hT, e⟩ => ho q hq ⟨hT, e⟩))
  | succ d ih =>
    intro m n hm hn ho
    obtain ⟨n, rfl⟩ : ∃ n', n = n' + 1 := ⟨n - 1, by omega⟩
    have hm' : m < np := by omega
    have q1 := v3 m
    have q2 := v4 m
    have nxt : ¬ (kn_T (kn_st on cn po c h ab hl) (kn_aw on cn po w r c h ab hl) np m ∧ kn_d po ab m = x) → wY_tight_2 post (nI x) (nI np) (nI na) (nI ng) sd (nI nc) (kn_F on) aa ab (kn_F cn) rg (kn_F po) hl (kn_F w) (kn_F r) (kn_F c) (kn_F h) (kn_F wt) dg tk hi n (nI (m + 1)) := fun z =>
      ih (m + 1) n (by omega) (by omega) (fun q hq => by
        rcases Nat.lt_or_ge q m with a | a
        · exact ho q a
        · have e : q = m := by omega
          rw [e]; exact z)
    refine br_f (nI_ge (by omega) (by omega)) ?_
    refine ky_st V hm' ?_
    have hle := kn_st_le on cn po c h ab hl m
    refine pk_eq (kn_st on cn po c h ab hl m) 4 (fun h4 => ?_) (fun h4 => ?_)
    · have hcs := kn_st_cases on cn po c h ab hl m
      obtain ⟨g1, g2, g3, g4, g5, g6⟩ := kn_V_ch V hm' (Or.inr (by omega))
      simp (disch := omega) only [kn_ap, nI_clamp, kn_i16]
      refine ⟨vp_in_nI (by omega) (by omega), vp_in_nI (by omega) (by omega), ?_⟩
      refine pk_eq (kn_d po ab m) x (fun hd => ?_) (fun hd => ?_) g4
      · refine ky_ring V hm' ?_
        rcases kn_ring_le (A := kn_aw on cn po w r c h ab hl) (p := m) np m with h5 | h5
        · rw [h5]
          exact br_t rfl (nm_r (nI_1 m) (nxt (fun z => by have := z.1.2; omega)))
        · rw [h5]
          exact br_f (by decide) (k1 ⟨m, hm', ⟨h4, h5⟩, hd⟩)
      · exact nm_r (nI_1 m) (nxt (fun z => hd z.2))
    · exact nm_r (nI_1 m) (nxt (fun z => h4 z.1.1))
theorem ky_ti {post : Int32 → Prop} {x : Nat} (V : kn_V np nc on cn po w r c h aa ab hl) (hx : x < nc) (k1 : kn_TC (kn_T (kn_st on cn po c h ab hl) (kn_aw on cn po w r c h ab hl) np) (kn_d po ab) np x → post 1) (k0 : ¬ kn_TC (kn_T (kn_st on cn po c h ab hl) (kn_aw on cn po w r c h ab hl) np) (kn_d po ab) np x → post 0) : wpY_tight post (nI np, nI na, nI ng, sd, nI nc, kn_F on, aa, ab, kn_F cn, rg, kn_F po, hl, kn_F w, kn_F r, kn_F c, kn_F h, kn_F wt, dg, tk, hi) (nI x) := by
  unfold wpY_tight
  exact ⟨np + 1, ky_ti2 V hx k1 k0 np 0 (np + 1) (by omega) (by omega) (fun q hq => absurd hq (Nat.not_lt_zero q))⟩
theorem ky_re14 {post : Int32 → SY → Prop} (V : kn_V np nc on cn po w r c h aa ab hl) (J : ∀ n o, kn_bestC (kn_TC (kn_T (kn_st on cn po c h ab hl) (kn_aw on cn po w r c h ab hl) np) (kn_d po ab) np) c nc o → wY_resolve_14 post (nI np) (nI na) (nI ng) sd (nI nc) (kn_F on) aa ab (kn_F cn) rg (kn_F po) hl (kn_F w) (kn_F r) (kn_F c) (kn_F h) (kn_F wt) dg tk hi (n + 1) (kn_ov o) (nI nc)) : ∀ (d m n : Nat) (o : Option Nat), m + d = nc → d < n → kn_bestC (kn_TC (kn_T (kn_st on cn po c h ab hl) (kn_aw on cn po w r c h ab hl) np) (kn_d po ab) np) c m o → wY_resolve_14 post (nI np) (nI na) (nI ng) sd (nI nc) (kn_F on) aa ab (kn_F cn) rg (kn_F po) hl (kn_F w) (kn_F r) (kn_F c) (kn_F h) (kn_F wt) dg tk hi n (kn_ov o) (nI m) := by
  have V' := V
  obtain ⟨v1, v2, v3, v4, v5, v6, v7, v8, v9, v10, v11⟩ := V'
  intro d
  induction d with
  | zero =>
    intro m n o hm hn ho
    obtain ⟨n, rfl⟩ : ∃ n', n = n' + 1 := ⟨n - 1, by omega⟩
    have e : m = nc := by omega
    subst e
    exact J n o ho
  | succ d ih =>
    intro m n o hm hn ho
    obtain ⟨n, rfl⟩ : ∃ n', n = n' + 1 := ⟨n - 1, by omega⟩
    refine br_f (nI_ge (by omega) (by omega)) ?_
    refine ky_ti V (by omega) (fun hT => ?_) (fun hT => ?_)
    · refine br_f (by decide) ?_
      cases o with
      | none =>
        exact br_t (by decide) (nm_r (nI_1 m) (ih (m + 1) n (some m) (by omega) (by omega) (kn_bestC_new hT ho)))
      | some x =>
        have hx8 : x < m := ho.1
        have qx := v8 x
        have qm := v8 m
        refine br_f (nI_pos (by omega)) ⟨vp_in_nI (by omega) (by omega), vp_in_nI (by omega) (by omega), ?_⟩
        rw [kn_ov_s]
        rw [kn_rd (by omega), kn_rd (by omega)]
        refine pk_le (c x) (c m) (fun hb => ?_) (fun hb => ?_)
        · exact nm_r (nI_1 m) (ih (m + 1) n (some x) (by omega) (by omega) (kn_bestC_keep hb ho))
        · exact nm_r (nI_1 m) (ih (m + 1) n (some m) (by omega) (by omega) (kn_bestC_take hT hb ho))
    · exact br_t rfl (nm_r (nI_1 m) (ih (m + 1) n o (by omega) (by omega) (kn_bestC_skip hT ho)))
theorem ky_free7 {post : Int32 → Prop} (hn : nc ≤ 8) (hs : nf + kn_S c nc = na) (hna : na ≤ 64) (k : post (nI nf)) : ∀ (d m n : Nat), m + d = nc → d < n → wY_free_7 post (nI np) (nI na) (nI ng) sd (nI nc) (kn_F on) aa ab (kn_F cn) rg (kn_F po) hl (kn_F w) (kn_F r) (kn_F c) (kn_F h) (kn_F wt) dg tk hi n (nI (na - kn_S c m)) (nI m) := by
  intro d
  induction d with
  | zero =>
    intro m n hm hn
    obtain ⟨n, rfl⟩ : ∃ n', n = n' + 1 := ⟨n - 1, by omega⟩
    have e : m = nc := by omega
    subst e
    have e2 : na - kn_S c m = nf := by omega
    rw [e2]
    exact br_t (nI_le (by omega) (by omega)) k
  | succ d ih =>
    intro m n hm hn
    obtain ⟨n, rfl⟩ : ∃ n', n = n' + 1 := ⟨n - 1, by omega⟩
    have q1 := kn_S_el (f := c) (i := m) (n := nc) (by omega)
    refine br_f (nI_ge (by omega) (by omega)) ⟨vp_in_nI (by omega) (by omega), ?_⟩
    rw [kn_rd (by omega)]
    have e1 : nI (na - kn_S c m) - nI (c m) = nI (na - kn_S c (m + 1)) := by
      rw [pk_sub (by omega)]
      exact congrArg nI (by simp only [kn_S]; omega)
    exact nm_r e1 (nm_r (nI_1 m) (ih (m + 1) n (by omega) (by omega)))
theorem ky_free {post : Int32 → Prop} (hn : nc ≤ 8) (hs : nf + kn_S c nc = na) (hna : na ≤ 64) (k : post (nI nf)) : wpY_free post (nI np, nI na, nI ng, sd, nI nc, kn_F on, aa, ab, kn_F cn, rg, kn_F po, hl, kn_F w, kn_F r, kn_F c, kn_F h, kn_F wt, dg, tk, hi) := by
  unfold wpY_free
  exact ⟨nc + 1, ky_free7 hn hs hna k nc 0 (nc + 1) (by omega) (by omega)⟩
/-! the verdict -/
def kn_vr (S : Nat → Nat) (T : Nat → Prop) (np nf ng res : Nat) : Prop :=
  (res = 1 ∧ ∃ q, q < np ∧ S q = 1) ∨ (res = 2 ∧ ∀ q, q < np → S q = 2) ∨
  ((∀ q, q < np → S q ≠ 1) ∧ (∃ q, q < np ∧ S q ≠ 2) ∧ ((res = 5 ∧ ∀ q, q < np → ¬ T q) ∨ ((∃ q, q < np ∧ T q) ∧ ((res = 3 ∧ ng ≤ nf) ∨ (res = 4 ∧ nf < ng)))))
theorem kn_vr_u {S : Nat → Nat} {T : Nat → Prop} {np nf ng a a' : Nat} (hnp : 1 ≤ np) (h1 : kn_vr S T np nf ng a) (h2 : kn_vr S T np nf ng a') : a' = a := by
  rcases h1 with ⟨h1, q, hq, hs⟩ | ⟨h1, hs⟩ | ⟨hn, ⟨q, hq, hs⟩, hh⟩
  · rcases h2 with ⟨h2, _⟩ | ⟨h2, hs'⟩ | ⟨hn', _⟩
    · omega
    · have := hs' q hq; omega
    · exact absurd hs (hn' q hq)
  · rcases h2 with ⟨h2, q', hq', hs'⟩ | ⟨h2, hs'⟩ | ⟨hn', ⟨q', hq', hs'⟩, _⟩
    · have := hs q' hq'; omega
    · omega
    · exact absurd (hs q' hq') hs'
  · rcases h2 with ⟨h2, q', hq', hs'⟩ | ⟨h2, hs'⟩ | ⟨hn', _, hh'⟩
    · exact absurd hs' (hn q' hq')
    · exact absurd (hs' q hq) hs
    · rcases hh with ⟨e, hT⟩ | ⟨⟨q1, hq1, hT⟩, hh⟩
      · rcases hh' with ⟨e', _⟩ | ⟨⟨q2, hq2, hT2⟩, _⟩
        · omega
        · exact absurd hT2 (hT q2 hq2)
      · rcases hh' with ⟨e', hT2⟩ | ⟨_, hh'⟩
        · exact absurd hT (hT2 q1 hq1)
        · omega
def kn_al (S : Nat → Nat) (m : Nat) (x : Int32) : Prop := (∀ q, q < m → S q ≠ 1) ∧ ((x = 1 ∧ ∀ q, q < m → S q = 2) ∨ (x = 0 ∧ ∃ q, q < m ∧ S q ≠ 2))
theorem kn_al_0 {S : Nat → Nat} : kn_al S 0 1 := ⟨fun q hq => absurd hq (Nat.not_lt_zero q), Or.inl ⟨rfl, fun q hq => absurd hq (Nat.not_lt_zero q)⟩⟩
theorem kn_al_s {S : Nat → Nat} {m : Nat} {x : Int32} (h : kn_al S m x) (h1 : S m ≠ 1) : kn_al S (m + 1) (if S m = 2 then x else 0) := by
  have a : ∀ q, q < m + 1 → S q ≠ 1 := fun q hq => by
    rcases Nat.lt_or_ge q m with z | z
    · exact h.1 q z
    · have e : q = m := by omega
      rw [e]; exact h1
  refine ⟨a, ?_⟩
  by_cases h2 : S m = 2
  · rw [if_pos h2]
    rcases h.2 with ⟨e, hh⟩ | ⟨e, q, hq, hh⟩
    · refine Or.inl ⟨e, fun q hq => ?_⟩
      rcases Nat.lt_or_ge q m with z | z
      · exact hh q z
      · have e : q = m := by omega
        rw [e]; exact h2
    · exact Or.inr ⟨e, q, by omega, hh⟩
  · rw [if_neg h2]
    exact Or.inr ⟨rfl, m, by omega, h2⟩
theorem kx_vd13 {post : Int32 → Prop} (V : kn_V np nc on cn po w r c h aa ab hl) (hf : nf ≤ 64) (hg : ng ≤ 4) (k : ∀ a, kn_vr (kn_st on cn po c h ab hl) (kn_T (kn_st on cn po c h ab hl) (kn_aw on cn po w r c h ab hl) np) np nf ng a → post (nI a)) : ∀ (d m n : Nat) (x : Int32), m + d = np → d < n → kn_al (kn_st on cn po c h ab hl) m x → wX_verdict_13 post 0 1 2 3 4 5 6 7 8 9 10 (nI np) (nI na) (nI ng) sd (nI nc) (nI nf) (kn_F on) aa ab (kn_F cn) rg (kn_F po) hl (kn_F w) (kn_F r) (kn_F c) (kn_F h) (kn_F wt) dg hi ar (kn_F b) (kn_F e) n x (nI m) := by
  have V' := V
  obtain ⟨v1, v2, v3, v4, v5, v6, v7, v8, v9, v10, v11⟩ := V'
  intro d
  induction d with
  | zero =>
    intro m n x hm hn hx
    obtain ⟨n, rfl⟩ : ∃ n', n = n' + 1 := ⟨n - 1, by omega⟩
    have e : m = np := by omega
    subst e
    refine br_t (nI_le (by omega) (by omega)) ?_
    obtain ⟨a1, ⟨e, a2⟩ | ⟨e, a2⟩⟩ := hx
    · exact br_f (by rw [e]; decide) (k 2 (Or.inr (Or.inl ⟨rfl, a2⟩)))
    · refine br_t e ?_
      refine kx_sm V (fun o ho => ?_)
      cases o with
      | none => exact br_f (by decide) (k 5 (Or.inr (Or.inr ⟨a1, a2, Or.inl ⟨rfl, ho⟩⟩)))
      | some y =>
        obtain ⟨⟨q, hq, hT, e⟩, _⟩ := ho
        have hd := (kn_T_d V hq hT).2.1
        refine br_t (nI_pos' (by omega)) ?_
        exact pk_lt nf ng (fun z => k 4 (Or.inr (Or.inr ⟨a1, a2, Or.inr ⟨⟨q, hq, hT⟩, Or.inr ⟨rfl, z⟩⟩⟩))) (fun z => k 3 (Or.inr (Or.inr ⟨a1, a2, Or.inr ⟨⟨q, hq, hT⟩, Or.inl ⟨rfl, z⟩⟩⟩)))
  | succ d ih =>
    intro m n x hm hn hx
    obtain ⟨n, rfl⟩ : ∃ n', n = n' + 1 := ⟨n - 1, by omega⟩
    have hm' : m < np := by omega
    refine br_f (nI_ge (by omega) (by omega)) ?_
    refine kx_st V hm' ?_
    have hle := kn_st_le on cn po c h ab hl m
    refine pk_eq (kn_st on cn po c h ab hl m) 1 (fun h1 => k 1 (Or.inl ⟨rfl, m, hm', h1⟩)) (fun h1 => ?_)
    have s := kn_al_s hx h1
    refine br_c (fun h0 => ?_) (fun h0 => ?_)
    · have e0 : (if kn_st on cn po c h ab hl m = 2 then x else 0) = 0 := by
        by_cases z : kn_st on cn po c h ab hl m = 2
        · rw [if_pos z]; exact h0
        · rw [if_neg z]
      rw [e0] at s
      exact nm_r (nI_1 m) (ih (m + 1) n 0 (by omega) (by omega) s)
    · have hx1 : x = 1 := by
        rcases hx.2 with ⟨e, _⟩ | ⟨e, _⟩
        · exact e
        · exact absurd e h0
      refine pk_eq (kn_st on cn po c h ab hl m) 2 (fun h2 => ?_) (fun h2 => ?_)
      · rw [if_pos h2, hx1] at s
        exact nm_r (nI_1 m) (ih (m + 1) n 1 (by omega) (by omega) s)
      · rw [if_neg h2] at s
        exact nm_r (nI_1 m) (ih (m + 1) n 0 (by omega) (by omega) s)
theorem kx_vd {post : Int32 → Prop} (V : kn_V np nc on cn po w r c h aa ab hl) (hf : nf ≤ 64) (hg : ng ≤ 4) (hsd : ¬ sd = 0) (k : ∀ a, kn_vr (kn_st on cn po c h ab hl) (kn_T (kn_st on cn po c h ab hl) (kn_aw on cn po w r c h ab hl) np) np nf ng a → post (nI a)) : wpX_verdict post (0, 1, 2, 3, 4, 5, 6, 7, 8, 9, 10, nI np, nI na, nI ng, sd, nI nc, nI nf, kn_F on, aa, ab, kn_F cn, rg, kn_F po, hl, kn_F w, kn_F r, kn_F c, kn_F h, kn_F wt, dg, hi, ar, kn_F b, kn_F e) := by
  unfold wpX_verdict
  exact br_f hsd ⟨np + 1, kx_vd13 V hf hg k np 0 (np + 1) 1 (by omega) (by omega) kn_al_0⟩
def kn_any (T : Nat → Prop) (m : Nat) (x : Int32) : Prop := (x = 1 ∧ ∃ q, q < m ∧ T q) ∨ (x = 0 ∧ ∀ q, q < m → ¬ T q)
theorem ky_vd59 {post : Int32 → Prop} (V : kn_V np nc on cn po w r c h aa ab hl) (J : ∀ n x, kn_any (kn_TC (kn_T (kn_st on cn po c h ab hl) (kn_aw on cn po w r c h ab hl) np) (kn_d po ab) np) nc x → wY_verdict_59 post (nI np) (nI na) (nI ng) sd (nI nc) (kn_F on) aa ab (kn_F cn) rg (kn_F po) hl (kn_F w) (kn_F r) (kn_F c) (kn_F h) (kn_F wt) dg tk hi (n + 1) x (nI nc)) : ∀ (d m n : Nat) (x : Int32), m + d = nc → d < n → kn_any (kn_TC (kn_T (kn_st on cn po c h ab hl) (kn_aw on cn po w r c h ab hl) np) (kn_d po ab) np) m x → wY_verdict_59 post (nI np) (nI na) (nI ng) sd (nI nc) (kn_F on) aa ab (kn_F cn) rg (kn_F po) hl (kn_F w) (kn_F r) (kn_F c) (kn_F h) (kn_F wt) dg tk hi n x (nI m) := by
  have V' := V
  obtain ⟨v1, v2, v3, v4, v5, v6, v7, v8, v9, v10, v11⟩ := V'
  intro d
  induction d with
  | zero =>
    intro m n x hm hn ho
    obtain ⟨n, rfl⟩ : ∃ n', n = n' + 1 := ⟨n - 1, by omega⟩
    have e : m = nc := by omega
    subst e
    exact J n x ho
  | succ d ih =>
    intro m n x hm hn ho
    obtain ⟨n, rfl⟩ : ∃ n', n = n' + 1 := ⟨n - 1, by omega⟩
    refine br_f (nI_ge (by omega) (by omega)) ?_
    refine ky_ti V (by omega) (fun hT => ?_) (fun hT => ?_)
    · exact br_f (by decide) (nm_r (nI_1 m) (ih (m + 1) n 1 (by omega) (by omega) (Or.inl ⟨rfl, m, by omega, hT⟩)))
    · refine br_t rfl (nm_r (nI_1 m) (ih (m + 1) n x (by omega) (by omega) ?_))
      rcases ho with ⟨e, q, hq, z⟩ | ⟨e, z⟩
      · exact Or.inl ⟨e, q, by omega, z⟩
      · refine Or.inr ⟨e, fun q hq => ?_⟩
        rcases Nat.lt_or_ge q m with a | a
        · exact z q a
        · have e : q = m := by omega
          rw [e]; exact hT
theorem ky_vd13 {post : Int32 → Prop} (V : kn_V np nc on cn po w r c h aa ab hl) (hs : nf + kn_S c nc = na) (hna : na ≤ 64) (hg : ng ≤ 4) (k : ∀ a, kn_vr (kn_st on cn po c h ab hl) (kn_T (kn_st on cn po c h ab hl) (kn_aw on cn po w r c h ab hl) np) np nf ng a → post (nI a)) : ∀ (d m n : Nat) (x : Int32), m + d = np → d < n → kn_al (kn_st on cn po c h ab hl) m x → wY_verdict_13 post (nI np) (nI na) (nI ng) sd (nI nc) (kn_F on) aa ab (kn_F cn) rg (kn_F po) hl (kn_F w) (kn_F r) (kn_F c) (kn_F h) (kn_F wt) dg tk hi n x (nI m) := by
  have V' := V
  obtain ⟨v1, v2, v3, v4, v5, v6, v7, v8, v9, v10, v11⟩ := V'
  intro d
  induction d with
  | zero =>
    intro m n x hm hn hx
    obtain ⟨n, rfl⟩ : ∃ n', n = n' + 1 := ⟨n - 1, by omega⟩
    have e : m = np := by omega
    subst e
    refine br_t (nI_le (by omega) (by omega)) ?_
    obtain ⟨a1, ⟨e, a2⟩ | ⟨e, a2⟩⟩ := hx
    · exact br_f (by rw [e]; decide) (k 2 (Or.inr (Or.inl ⟨rfl, a2⟩)))
    · refine br_t e ⟨nc + 1, ky_vd59 V (fun n x hx => ?_) nc 0 (nc + 1) 0 (by omega) (by omega) (Or.inr ⟨rfl, fun q hq => absurd hq (Nat.not_lt_zero q)⟩)⟩
      refine br_t (nI_le (by omega) (by omega)) ?_
      rcases hx with ⟨e, y, hy, q, hq, hT, _⟩ | ⟨e, hn⟩
      · refine br_f (by rw [e]; decide) (ky_free v2 hs hna ?_)
        exact pk_lt nf ng (fun z => k 4 (Or.inr (Or.inr ⟨a1, a2, Or.inr ⟨⟨q, hq, hT⟩, Or.inr ⟨rfl, z⟩⟩⟩))) (fun z => k 3 (Or.inr (Or.inr ⟨a1, a2, Or.inr ⟨⟨q, hq, hT⟩, Or.inl ⟨rfl, z⟩⟩⟩)))
      · exact br_t e (k 5 (Or.inr (Or.inr ⟨a1, a2, Or.inl ⟨rfl, fun q hq hT => hn _ (kn_T_d V hq hT).2.1 ⟨q, hq, hT, rfl⟩⟩⟩)))
  | succ d ih =>
    intro m n x hm hn hx
    obtain ⟨n, rfl⟩ : ∃ n', n = n' + 1 := ⟨n - 1, by omega⟩
    have hm' : m < np := by omega
    refine br_f (nI_ge (by omega) (by omega)) ?_
    refine ky_st V hm' ?_
    have hle := kn_st_le on cn po c h ab hl m
    refine pk_eq (kn_st on cn po c h ab hl m) 1 (fun h1 => k 1 (Or.inl ⟨rfl, m, hm', h1⟩)) (fun h1 => ?_)
    refine ky_st V hm' ?_
    have s := kn_al_s hx h1
    refine pk_eq (kn_st on cn po c h ab hl m) 2 (fun h2 => ?_) (fun h2 => ?_)
    · rw [if_pos h2] at s
      exact nm_r (nI_1 m) (ih (m + 1) n x (by omega) (by omega) s)
    · rw [if_neg h2] at s
      exact nm_r (nI_1 m) (ih (m + 1) n 0 (by omega) (by omega) s)
theorem ky_vd {post : Int32 → Prop} (V : kn_V np nc on cn po w r c h aa ab hl) (hs : nf + kn_S c nc = na) (hna : na ≤ 64) (hg : ng ≤ 4) (hsd : ¬ sd = 0) (k : ∀ a, kn_vr (kn_st on cn po c h ab hl) (kn_T (kn_st on cn po c h ab hl) (kn_aw on cn po w r c h ab hl) np) np nf ng a → post (nI a)) : wpY_verdict post (nI np, nI na, nI ng, sd, nI nc, kn_F on, aa, ab, kn_F cn, rg, kn_F po, hl, kn_F w, kn_F r, kn_F c, kn_F h, kn_F wt, dg, tk, hi) := by
  unfold wpY_verdict
  exact br_f hsd ⟨np + 1, ky_vd13 V hs hna hg k np 0 (np + 1) 1 (by omega) (by omega) kn_al_0⟩
end
end
section
/-! the relation -/
def kn_cell (b e c i : Nat) : Nat := if e + i < c then b + (e + i) else b + (e + i - c)
theorem kn_cell_in {b e c i : Nat} (he : e < c) (hi : i < c) : b ≤ kn_cell b e c i ∧ kn_cell b e c i < b + c := by
  unfold kn_cell
  by_cases z : e + i < c
  · rw [if_pos z]; omega
  · rw [if_neg z]; omega
theorem kn_cell_inj {b e c i j : Nat} (he : e < c) (hi : i < c) (hj : j < c) (hn : i ≠ j) : kn_cell b e c i ≠ kn_cell b e c j := by
  unfold kn_cell
  by_cases z : e + i < c
  · rw [if_pos z]
    by_cases y : e + j < c
    · rw [if_pos y]; omega
    · rw [if_neg y]; omega
  · rw [if_neg z]
    by_cases y : e + j < c
    · rw [if_pos y]; omega
    · rw [if_neg y]; omega
def kn_M (na nc nf : Nat) (c h b e : Nat → Nat) (ar tk : Nat → Int32) : Prop :=
  nf + kn_S c nc = na ∧ (∀ j, nc ≤ j → c j = 0) ∧ (∀ j, e j ≤ c j) ∧ (∀ j, 0 < c j → e j < c j) ∧ (∀ j, b j ≤ 64) ∧
  (∀ i j, i < j → 0 < c i → 0 < c j → b i + c i ≤ b j) ∧ (∀ j, 0 < c j → b j + c j ≤ na) ∧
  (∀ j i, i < h j → ar (kn_cell (b j) (e j) (c j) i) = tk (j * 64 + i))
def kn_P (na nf : Nat) (sd : Int32) (c b : Nat → Nat) (hl : Nat → Int32) : Prop :=
  sd = 0 → (∀ p, hl p = 0) ∧ ∀ j, 0 < c j → b j + c j + nf ≤ na
def kn_I (B np na ng nc nf : Nat) (sd : Int32) (on cn po w r c h wt b e : Nat → Nat) (aa ab hl ar tk : Nat → Int32) : Prop :=
  kn_V np nc on cn po w r c h aa ab hl ∧ kn_M na nc nf c h b e ar tk ∧ kn_P na nf sd c b hl ∧ (1 ≤ np ∧ 8 ≤ na ∧ na ≤ 64 ∧ 1 ≤ ng ∧ ng ≤ 4) ∧ (∀ j, wt j ≤ B) ∧ (∀ j, h j ≤ wt j)
def kn_R (B np na ng nc : Nat) (sd : Int32) (u : SX) (v : SY) : Prop :=
  ∃ (nf : Nat) (on cn po w r c h wt b e : Nat → Nat) (aa ab rg hl dg hi ar tk : Nat → Int32), u = (0, 1, 2, 3, 4, 5, 6, 7, 8, 9, 10, nI np, nI na, nI ng, sd, nI nc, nI nf, kn_F on, aa, ab, kn_F cn, rg, kn_F po, hl, kn_F w, kn_F r, kn_F c, kn_F h, kn_F wt, dg, hi, ar, kn_F b, kn_F e) ∧ v = (nI np, nI na, nI ng, sd, nI nc, kn_F on, aa, ab, kn_F cn, rg, kn_F po, hl, kn_F w, kn_F r, kn_F c, kn_F h, kn_F wt, dg, tk, hi) ∧ kn_I B np na ng nc nf sd on cn po w r c h wt b e aa ab hl ar tk
section
variable {np na ng nc nf : Nat} {sd : Int32} {on cn po w r c h wt b e : Nat → Nat} {aa ab rg hl dg hi ar tk : Nat → Int32}
theorem kn_mk {B : Nat} (I : kn_I B np na ng nc nf sd on cn po w r c h wt b e aa ab hl ar tk) : kn_R B np na ng nc sd (0, 1, 2, 3, 4, 5, 6, 7, 8, 9, 10, nI np, nI na, nI ng, sd, nI nc, nI nf, kn_F on, aa, ab, kn_F cn, rg, kn_F po, hl, kn_F w, kn_F r, kn_F c, kn_F h, kn_F wt, dg, hi, ar, kn_F b, kn_F e) (nI np, nI na, nI ng, sd, nI nc, kn_F on, aa, ab, kn_F cn, rg, kn_F po, hl, kn_F w, kn_F r, kn_F c, kn_F h, kn_F wt, dg, tk, hi) :=
  ⟨nf, on, cn, po, w, r, c, h, wt, b, e, aa, ab, rg, hl, dg, hi, ar, tk, rfl, rfl, I⟩
end
theorem kn_el {B np na ng nc : Nat} {sd : Int32} {u : SX} {v : SY} {P : SX → SY → Prop} (I : kn_R B np na ng nc sd u v) (H : ∀ (nf : Nat) (on cn po w r c h wt b e : Nat → Nat) (aa ab rg hl dg hi ar tk : Nat → Int32), kn_I B np na ng nc nf sd on cn po w r c h wt b e aa ab hl ar tk → P (0, 1, 2, 3, 4, 5, 6, 7, 8, 9, 10, nI np, nI na, nI ng, sd, nI nc, nI nf, kn_F on, aa, ab, kn_F cn, rg, kn_F po, hl, kn_F w, kn_F r, kn_F c, kn_F h, kn_F wt, dg, hi, ar, kn_F b, kn_F e) (nI np, nI na, nI ng, sd, nI nc, kn_F on, aa, ab, kn_F cn, rg, kn_F po, hl, kn_F w, kn_F r, kn_F c, kn_F h, kn_F wt, dg, tk, hi)) : P u v :=
  I.elim fun nf I => I.elim fun on I => I.elim fun cn I => I.elim fun po I => I.elim fun w I => I.elim fun r I => I.elim fun c I => I.elim fun h I => I.elim fun wt I => I.elim fun b I => I.elim fun e I => I.elim fun aa I => I.elim fun ab I => I.elim fun rg I => I.elim fun hl I => I.elim fun dg I => I.elim fun hi I => I.elim fun ar I => I.elim fun tk I => by
    rw [I.1, I.2.1]
    exact H nf on cn po w r c h wt b e aa ab rg hl dg hi ar tk I.2.2
theorem kn_R_B {B B' np na ng nc : Nat} {sd : Int32} {u : SX} {v : SY} (hB : B ≤ B') (I : kn_R B np na ng nc sd u v) : kn_R B' np na ng nc sd u v := by
  refine kn_el (P := fun u v => kn_R B' np na ng nc sd u v) I ?_
  intro nf on cn po w r c h wt b e aa ab rg hl dg hi ar tk I
  refine kn_mk ⟨I.1, I.2.1, I.2.2.1, I.2.2.2.1, fun j => ?_, I.2.2.2.2.2⟩
  have := I.2.2.2.2.1 j
  omega
section
variable {np na ng nc nf : Nat} {sd : Int32} {on cn po w r c h wt b e : Nat → Nat} {aa ab rg hl dg hi ar tk : Nat → Int32}
theorem kn_U_le {f : Nat → Nat} {k v m : Nat} (h : ∀ j, f j ≤ m) (hv : v ≤ m) : ∀ j, kn_U f k v j ≤ m := by
  intro j
  have := h j
  rcases kn_uc f k v j with ⟨_, z⟩ | ⟨_, z⟩ <;> omega
theorem kn_V_po {po' : Nat → Nat} (V : kn_V np nc on cn po w r c h aa ab hl) (hp : ∀ j, po' j ≤ 16) : kn_V np nc on cn po' w r c h aa ab hl := by
  obtain ⟨v1, v2, v3, v4, v5, v6, v7, v8, v9, v10, v11⟩ := V
  exact ⟨v1, v2, hp, v4, v5, v6, v7, v8, v9, v10, v11⟩
theorem kn_V_h {h' : Nat → Nat} (V : kn_V np nc on cn po w r c h aa ab hl) (hh : ∀ j, h' j ≤ c j) : kn_V np nc on cn po w r c h' aa ab hl := by
  obtain ⟨v1, v2, v3, v4, v5, v6, v7, v8, v9, v10, v11⟩ := V
  exact ⟨v1, v2, v3, v4, v5, v6, v7, v8, hh, v10, v11⟩
/-! taking a token -/
def kn_sh (tk : Nat → Int32) (d i : Nat) : Nat → Int32 := fun j => if d * 64 ≤ j ∧ j + 1 < d * 64 + i then tk (j + 1) else tk j
theorem kn_sh_1 (tk : Nat → Int32) (d : Nat) : kn_sh tk d 1 = tk := by
  funext j
  exact if_neg (by omega)
theorem kn_sh_s (tk : Nat → Int32) (d i : Nat) (hi : 1 ≤ i) : upd (kn_sh tk d i) (d * 64 + i - 1) (kn_sh tk d i (d * 64 + i)) = kn_sh tk d (i + 1) := by
  funext j
  have a : kn_sh tk d i (d * 64 + i) = tk (d * 64 + i) := if_neg (by omega)
  rw [a]
  by_cases z : j = d * 64 + i - 1
  · rw [z, pk_us]
    unfold kn_sh
    rw [if_pos (by omega)]
    exact congrArg tk (by omega)
  · rw [pk_un z]
    unfold kn_sh
    by_cases y : d * 64 ≤ j ∧ j + 1 < d * 64 + i
    · rw [if_pos y, if_pos (by omega)]
    · rw [if_neg y, if_neg (by omega)]
def kn_nx (e c : Nat) : Nat := if e + 1 = c then 0 else e + 1
theorem kn_M_take {d : Nat} (M : kn_M na nc nf c h b e ar tk) (hh : ∀ j, h j ≤ c j) (h64 : ∀ j, c j ≤ 64) (hd : 0 < h d) : kn_M na nc nf c (kn_U h d (h d - 1)) b (kn_U e d (kn_nx (e d) (c d))) ar (kn_sh tk d (h d)) := by
  obtain ⟨m1, m2, m3, m4, m5, m6, m7, m8⟩ := M
  have q1 := hh d
  have q2 := m4 d (by omega)
  have q3 : kn_nx (e d) (c d) < c d := by
    unfold kn_nx
    by_cases z : e d + 1 = c d
    · rw [if_pos z]; omega
    · rw [if_neg z]; omega
  refine ⟨m1, m2, fun j => ?_, fun j hj => ?_, m5, m6, m7, fun j i hi => ?_⟩
  · have := m3 j
    rcases kn_uc e d (kn_nx (e d) (c d)) j with ⟨z, z'⟩ | ⟨_, z'⟩
    · rw [z', z]; omega
    · rw [z']; omega
  · have := m4 j hj
    rcases kn_uc e d (kn_nx (e d) (c d)) j with ⟨z, z'⟩ | ⟨_, z'⟩
    · rw [z', z]; omega
    · rw [z']; omega
  · by_cases z : j = d
    · subst z
      rw [kn_us] at hi ⊢
      have q4 := m8 j (i + 1) (by omega)
      have e1 : kn_cell (b j) (kn_nx (e j) (c j)) (c j) i = kn_cell (b j) (e j) (c j) (i + 1) := by
        unfold kn_cell kn_nx
        by_cases y : e j + 1 = c j
        · rw [if_pos y, if_pos (by omega), if_neg (by omega)]; omega
        · rw [if_neg y]
          by_cases x : e j + 1 + i < c j
          · rw [if_pos x, if_pos (by omega)]; omega
          · rw [if_neg x, if_neg (by omega)]; omega
      rw [e1, q4]
      unfold kn_sh
      rw [if_pos (by omega)]
      exact congrArg tk (by omega)
    · rw [kn_un z] at hi ⊢
      rw [m8 j i hi]
      have := hh j
      have := h64 j
      have := h64 d
      unfold kn_sh
      rw [if_neg (by omega)]
/-! writing a token -/
theorem kn_M_put {d : Nat} {x : Int32} (M : kn_M na nc nf c h b e ar tk) (hh : ∀ j, h j ≤ c j) (h64 : ∀ j, c j ≤ 64) (hd : h d < c d) : kn_M na nc nf c (kn_U h d (h d + 1)) b e (upd ar (kn_cell (b d) (e d) (c d) (h d)) x) (upd tk (d * 64 + h d) x) := by
  obtain ⟨m1, m2, m3, m4, m5, m6, m7, m8⟩ := M
  have q2 := m4 d (by omega)
  refine ⟨m1, m2, m3, m4, m5, m6, m7, fun j i hi => ?_⟩
  by_cases z : j = d
  · subst z
    rw [kn_us] at hi
    by_cases y : i = h j
    · subst y
      rw [pk_us, pk_us]
    · rw [pk_un (kn_cell_inj q2 (by omega) (by omega) y), pk_un (by omega)]
      exact m8 j i (by omega)
  · rw [kn_un z] at hi
    have a1 := hh j
    have a2 := h64 j
    have a3 := h64 d
    have a4 := m4 j (by omega)
    have c1 := kn_cell_in (b := b j) (e := e j) (c := c j) (i := i) a4 (by omega)
    have c2 := kn_cell_in (b := b d) (e := e d) (c := c d) (i := h d) q2 hd
    have ne : kn_cell (b j) (e j) (c j) i ≠ kn_cell (b d) (e d) (c d) (h d) := by
      rcases Nat.lt_or_ge j d with y | y
      · have := m6 j d y (by omega) (by omega); omega
      · have := m6 d j (by omega) (by omega) (by omega); omega
    rw [pk_un ne, pk_un (by omega)]
    exact m8 j i hi
/-! closing channels -/
def kn_Z (r : Nat → Nat) (p m : Nat) (f : Nat → Nat) : Nat → Nat := fun j => if j < m ∧ r j = p then 0 else f j
theorem kn_Z_0 (r : Nat → Nat) (p : Nat) (f : Nat → Nat) : kn_Z r p 0 f = f := by
  funext j
  exact if_neg (by omega)
theorem kn_Z_t {r : Nat → Nat} {p m : Nat} {f : Nat → Nat} (hm : r m = p) : kn_U (kn_Z r p m f) m 0 = kn_Z r p (m + 1) f := by
  funext j
  unfold kn_U kn_Z
  by_cases z : j = m
  · subst z; rw [if_pos rfl, if_pos ⟨by omega, hm⟩]
  · rw [if_neg z]
    by_cases y : j < m ∧ r j = p
    · rw [if_pos y, if_pos ⟨by omega, y.2⟩]
    · rw [if_neg y, if_neg (fun x => y ⟨by omega, x.2⟩)]
theorem kn_Z_f {r : Nat → Nat} {p m : Nat} {f : Nat → Nat} (hm : ¬ r m = p) : kn_Z r p m f = kn_Z r p (m + 1) f := by
  funext j
  unfold kn_Z
  by_cases y : j < m ∧ r j = p
  · rw [if_pos y, if_pos ⟨by omega, y.2⟩]
  · rw [if_neg y, if_neg (fun x => ?_)]
    rcases Nat.lt_or_ge j m with a | a
    · exact y ⟨a, x.2⟩
    · have e : j = m := by omega
      subst e; exact hm x.2
theorem kn_Z_c (r : Nat → Nat) (p m : Nat) (f : Nat → Nat) (j : Nat) : ((j < m ∧ r j = p) ∧ kn_Z r p m f j = 0) ∨ (¬ (j < m ∧ r j = p) ∧ kn_Z r p m f j = f j) := by
  by_cases z : j < m ∧ r j = p
  · exact Or.inl ⟨z, if_pos z⟩
  · exact Or.inr ⟨z, if_neg z⟩
theorem kn_Z_m (r : Nat → Nat) (p m : Nat) (f : Nat → Nat) : kn_Z r p m f m = f m := if_neg (by omega)
theorem kn_Z_S {r : Nat → Nat} {p m n : Nat} {f : Nat → Nat} (hm : r m = p) (hn : m < n) : kn_S (kn_Z r p (m + 1) f) n + f m = kn_S (kn_Z r p m f) n := by
  have := kn_S_hi (f := kn_Z r p m f) (k := m) (v := 0) (n := n) hn
  rw [kn_Z_t hm, kn_Z_m] at this
  omega
theorem kn_M_halt {p : Nat} (M : kn_M na nc nf c h b e ar tk) : kn_M na nc (na - kn_S (kn_Z r p nc c) nc) (kn_Z r p nc c) (kn_Z r p nc h) b (kn_Z r p nc e) ar tk := by
  obtain ⟨m1, m2, m3, m4, m5, m6, m7, m8⟩ := M
  have le : ∀ n, kn_S (kn_Z r p nc c) n ≤ kn_S c n := by
    intro n
    induction n with
    | zero => exact Nat.le_refl _
    | succ n ih =>
      simp only [kn_S]
      rcases kn_Z_c r p nc c n with ⟨_, z⟩ | ⟨_, z⟩ <;> omega
  have l1 := le nc
  refine ⟨by omega, fun j hj => ?_, fun j => ?_, fun j hj => ?_, m5, fun i j hij hi hj => ?_, fun j hj => ?_, fun j i hi => ?_⟩
  · have := m2 j hj
    rcases kn_Z_c r p nc c j with ⟨_, z⟩ | ⟨_, z⟩ <;> omega
  · have := m3 j
    rcases kn_Z_c r p nc c j with ⟨a, z⟩ | ⟨a, z⟩
    · rcases kn_Z_c r p nc e j with ⟨a', z'⟩ | ⟨a', z'⟩
      · omega
      · exact absurd a a'
    · rcases kn_Z_c r p nc e j with ⟨a', z'⟩ | ⟨a', z'⟩
      · exact absurd a' a
      · omega
  · rcases kn_Z_c r p nc c j with ⟨a, z⟩ | ⟨a, z⟩
    · omega
    · rcases kn_Z_c r p nc e j with ⟨a', z'⟩ | ⟨a', z'⟩
      · exact absurd a' a
      · have := m4 j (by omega); omega
  · rcases kn_Z_c r p nc c i with ⟨_, z⟩ | ⟨_, z⟩
    · omega
    · rcases kn_Z_c r p nc c j with ⟨_, z'⟩ | ⟨_, z'⟩
      · omega
      · rw [z]; exact m6 i j hij (by omega) (by omega)
  · rcases kn_Z_c r p nc c j with ⟨_, z⟩ | ⟨_, z⟩
    · omega
    · rw [z]; exact m7 j (by omega)
  · rcases kn_Z_c r p nc h j with ⟨a, z⟩ | ⟨a, z⟩
    · omega
    · rcases kn_Z_c r p nc e j with ⟨a', z'⟩ | ⟨a', z'⟩
      · exact absurd a' a
      · rcases kn_Z_c r p nc c j with ⟨a2, z2⟩ | ⟨a2, z2⟩
        · exact absurd a2 a
        · rw [z', z2]; exact m8 j i (by omega)
theorem kn_V_halt {p : Nat} (V : kn_V np nc on cn po w r c h aa ab hl) (hm : ∀ j, nc ≤ j → c j = 0) : kn_V np nc on cn po w r (kn_Z r p nc c) (kn_Z r p nc h) aa ab (upd hl p 1) := by
  obtain ⟨v1, v2, v3, v4, v5, v6, v7, v8, v9, v10, v11⟩ := V
  refine ⟨v1, v2, v3, v4, v5, v6, v7, fun j => ?_, fun j => ?_, v10, fun j hj => ?_⟩
  · have := v8 j
    rcases kn_Z_c r p nc c j with ⟨_, z⟩ | ⟨_, z⟩ <;> omega
  · have := v9 j
    rcases kn_Z_c r p nc c j with ⟨a, z⟩ | ⟨a, z⟩
    · rcases kn_Z_c r p nc h j with ⟨a', z'⟩ | ⟨a', z'⟩
      · omega
      · exact absurd a a'
    · rcases kn_Z_c r p nc h j with ⟨a', z'⟩ | ⟨a', z'⟩
      · omega
      · omega
  · rcases kn_Z_c r p nc c j with ⟨a, z⟩ | ⟨a, z⟩
    · rw [z, a.2, pk_us]
      exact ⟨fun x => absurd x (Nat.lt_irrefl 0), fun x => absurd x (by decide)⟩
    · have : r j ≠ p := fun x => a ⟨hj, x⟩
      rw [z, pk_un this]
      exact v11 j hj
end
end
section
/-! the component's step -/
section
variable {np na ng nc nf : Nat} {sd : Int32} {on cn po w r c h wt b e : Nat → Nat} {aa ab rg hl dg hi ar tk : Nat → Int32}
theorem kx_129 {post : SX → Prop} {p : Nat} (hp : p < 6) (k : post (0, 1, 2, 3, 4, 5, 6, 7, 8, 9, 10, nI np, nI na, nI ng, sd, nI nc, nI nf, kn_F on, aa, ab, kn_F cn, rg, kn_F (kn_U po p (po p + 1)), hl, kn_F w, kn_F r, kn_F c, kn_F h, kn_F wt, dg, hi, ar, kn_F b, kn_F e)) : wX_step_129 post (nI p) 0 1 2 3 4 5 6 7 8 9 10 (nI np) (nI na) (nI ng) sd (nI nc) (nI nf) (kn_F on) aa ab (kn_F cn) rg (kn_F po) hl (kn_F w) (kn_F r) (kn_F c) (kn_F h) (kn_F wt) dg hi ar (kn_F b) (kn_F e) := by
  have i6 : vp_in (nI p) 6 := vp_in_nI hp (by omega)
  unfold wX_step_129
  refine ⟨i6, i6, nm_r (kn_upd' (v := po p + 1) (nI_clamp (by omega)) ?_) k⟩
  rw [kn_rd (by omega), nI_1]
theorem kx_cmp1 {post : SX → Prop} {p a : Nat} {y : Int32} (hp : p < 6) (ha : a ≤ 3) (k : post (0, 1, 2, 3, 4, 5, 6, 7, 8, 9, 10, nI np, nI na, nI ng, sd, nI nc, nI nf, kn_F on, aa, ab, kn_F cn, upd rg (p * 4 + a) y, kn_F po, hl, kn_F w, kn_F r, kn_F c, kn_F h, kn_F wt, dg, hi, ar, kn_F b, kn_F e)) : wpX_compute post (0, 1, 2, 3, 4, 5, 6, 7, 8, 9, 10, nI np, nI na, nI ng, sd, nI nc, nI nf, kn_F on, aa, ab, kn_F cn, rg, kn_F po, hl, kn_F w, kn_F r, kn_F c, kn_F h, kn_F wt, dg, hi, ar, kn_F b, kn_F e) (nI p) (nI 1) (nI a) y := by
  unfold wpX_compute
  refine nm_r (kn_i4 p a) (br_t rfl ⟨vp_in_nI (by omega) (by omega), nm_r ?_ k⟩)
  rw [nI_clamp (by omega)]
theorem kx_cmp {post : SX → Prop} {p a y o : Nat} (hp : p < 6) (ha : a ≤ 3) (hy : y ≤ 3) (ho : 2 ≤ o ∧ o ≤ 5) (x : Int32) (hx : x = if o = 2 then rg (p * 4 + y) else if o = 3 then rg (p * 4 + a) + rg (p * 4 + y) else if o = 4 then rg (p * 4 + a) - rg (p * 4 + y) else rg (p * 4 + a) * rg (p * 4 + y)) (k : post (0, 1, 2, 3, 4, 5, 6, 7, 8, 9, 10, nI np, nI na, nI ng, sd, nI nc, nI nf, kn_F on, aa, ab, kn_F cn, upd rg (p * 4 + a) x, kn_F po, hl, kn_F w, kn_F r, kn_F c, kn_F h, kn_F wt, dg, hi, ar, kn_F b, kn_F e)) : wpX_compute post (0, 1, 2, 3, 4, 5, 6, 7, 8, 9, 10, nI np, nI na, nI ng, sd, nI nc, nI nf, kn_F on, aa, ab, kn_F cn, rg, kn_F po, hl, kn_F w, kn_F r, kn_F c, kn_F h, kn_F wt, dg, hi, ar, kn_F b, kn_F e) (nI p) (nI o) (nI a) (nI y) := by
  have ia : vp_in (nI (p * 4 + a)) 24 := vp_in_nI (by omega) (by omega)
  have iy : vp_in (nI (p * 4 + y)) 24 := vp_in_nI (by omega) (by omega)
  have ca : (nI (p * 4 + a)).toNatClampNeg = p * 4 + a := nI_clamp (by omega)
  unfold wpX_compute
  refine nm_r (kn_i4 p a) (pk_eq o 1 (fun h1 => absurd h1 (by omega)) (fun h1 => ?_))
  rw [kn_i4 p y]
  refine ⟨iy, nm_r (e' := rg (p * 4 + y)) (by rw [nI_clamp (by omega)]) ?_⟩
  rw [ca]
  refine pk_lt o 2 (fun z => absurd z (by omega)) (fun _ => pk_lt 5 o (fun z => absurd z (by omega)) (fun _ => ?_))
  refine pk_eq o 2 (fun h2 => ⟨ia, nm_r ?_ k⟩) (fun h2 => ?_)
  · rw [hx, if_pos h2]
  refine pk_eq o 3 (fun h3 => ⟨ia, ia, nm_r ?_ k⟩) (fun h3 => ?_)
  · rw [hx, if_neg h2, if_pos h3]
  refine pk_eq o 4 (fun h4 => ⟨ia, ia, nm_r ?_ k⟩) (fun h4 => ?_)
  · rw [hx, if_neg h2, if_neg h3, if_pos h4]
  refine pk_eq o 5 (fun h5 => ⟨ia, ia, nm_r ?_ k⟩) (fun h5 => by trivial)
  rw [hx, if_neg h2, if_neg h3, if_neg h4]
theorem kx_take {post : Int32 → SX → Prop} {d : Nat} (hd : d < 8) (h1 : b d + e d < 64) (h2 : c d ≤ 64) (h3 : 0 < h d) (h4 : h d ≤ 64) (k : post (ar (b d + e d)) (0, 1, 2, 3, 4, 5, 6, 7, 8, 9, 10, nI np, nI na, nI ng, sd, nI nc, nI nf, kn_F on, aa, ab, kn_F cn, rg, kn_F po, hl, kn_F w, kn_F r, kn_F c, kn_F (kn_U h d (h d - 1)), kn_F wt, dg, hi, ar, kn_F b, kn_F (kn_U e d (kn_nx (e d) (c d))))) : wpX_take post (0, 1, 2, 3, 4, 5, 6, 7, 8, 9, 10, nI np, nI na, nI ng, sd, nI nc, nI nf, kn_F on, aa, ab, kn_F cn, rg, kn_F po, hl, kn_F w, kn_F r, kn_F c, kn_F h, kn_F wt, dg, hi, ar, kn_F b, kn_F e) (nI d) := by
  have i8 : vp_in (nI d) 8 := vp_in_nI hd (by omega)
  have cd : (nI d).toNatClampNeg = d := nI_clamp (by omega)
  have K : ∀ z : Int32, z = nI (kn_nx (e d) (c d)) → wX_take_53 post (nI d) (ar (b d + e d)) z (nI d) 0 1 2 3 4 5 6 7 8 9 10 (nI np) (nI na) (nI ng) sd (nI nc) (nI nf) (kn_F on) aa ab (kn_F cn) rg (kn_F po) hl (kn_F w) (kn_F r) (kn_F c) (kn_F h) (kn_F wt) dg hi ar (kn_F b) (kn_F e) := by
    intro z hz
    unfold wX_take_53
    refine ⟨i8, nm_r (kn_upd' cd hz) ⟨i8, i8, nm_r (kn_upd' (v := h d - 1) cd ?_) k⟩⟩
    rw [kn_rd (by omega)]
    exact pk_sub (a := h d) (b := 1) (by omega)
  unfold wpX_take
  simp only [cd, kn_ap]
  refine ⟨i8, i8, ?_⟩
  rw [nI_add]
  refine ⟨vp_in_nI h1 (by omega), nm_r (e' := ar (b d + e d)) (by rw [nI_clamp (by omega)]) ⟨i8, i8, ?_⟩⟩
  rw [nI_1]
  refine pk_eq (e d + 1) (c d) (fun z => K 0 ?_) (fun z => ⟨i8, K _ ?_⟩)
  · unfold kn_nx; rw [if_pos z]; rfl
  · unfold kn_nx; rw [if_neg z]
theorem kx_cell {post : Int32 → Prop} {d i : Nat} (hd : d < 8) (h1 : c d ≤ 64) (h2 : e d ≤ 64) (h3 : i ≤ 64) (k : post (nI (kn_cell (b d) (e d) (c d) i))) : wpX_cellOf post (0, 1, 2, 3, 4, 5, 6, 7, 8, 9, 10, nI np, nI na, nI ng, sd, nI nc, nI nf, kn_F on, aa, ab, kn_F cn, rg, kn_F po, hl, kn_F w, kn_F r, kn_F c, kn_F h, kn_F wt, dg, hi, ar, kn_F b, kn_F e) (nI d) (nI i) := by
  have i8 : vp_in (nI d) 8 := vp_in_nI hd (by omega)
  have cd : (nI d).toNatClampNeg = d := nI_clamp (by omega)
  unfold kn_cell at k
  unfold wpX_cellOf
  simp only [cd, kn_ap]
  refine ⟨i8, nm_r (nI_add (e d) i) ⟨i8, ?_⟩⟩
  refine pk_lt (e d + i) (c d) (fun z => ⟨i8, ?_⟩) (fun z => ⟨i8, nm_r (pk_sub z) ⟨i8, ?_⟩⟩)
  · rw [if_pos z] at k; rw [nI_add]; exact k
  · rw [if_neg (by omega)] at k; rw [nI_add]; exact k
def kn_hi (hi : Nat → Int32) (d n : Nat) (x : Int32) : Nat → Int32 := if n < 16 then upd hi (d * 16 + n) x else hi
theorem kx_w28 {post : SX → Prop} {d B : Nat} {x : Int32} (hd : d < 8) (hw : wt d ≤ B) (hB : B < 2 ^ 30) (h1 : c d ≤ 64) (h2 : e d < c d ∨ c d = 0) (h3 : 0 < c d → h d < c d) (h4 : 0 < c d → b d + c d ≤ 64)
  (k0 : c d = 0 → post (0, 1, 2, 3, 4, 5, 6, 7, 8, 9, 10, nI np, nI na, nI ng, sd, nI nc, nI nf, kn_F on, aa, ab, kn_F cn, rg, kn_F po, hl, kn_F w, kn_F r, kn_F c, kn_F h, kn_F (kn_U wt d (wt d + 1)), upd dg d (31 * dg d + x), hi, ar, kn_F b, kn_F e))
  (k1 : 0 < c d → post (0, 1, 2, 3, 4, 5, 6, 7, 8, 9, 10, nI np, nI na, nI ng, sd, nI nc, nI nf, kn_F on, aa, ab, kn_F cn, rg, kn_F po, hl, kn_F w, kn_F r, kn_F c, kn_F (kn_U h d (h d + 1)), kn_F (kn_U wt d (wt d + 1)), upd dg d (31 * dg d + x), hi, upd ar (kn_cell (b d) (e d) (c d) (h d)) x, kn_F b, kn_F e)) : wX_write_28 post (nI d) x 0 1 2 3 4 5 6 7 8 9 10 (nI np) (nI na) (nI ng) sd (nI nc) (nI nf) (kn_F on) aa ab (kn_F cn) rg (kn_F po) hl (kn_F w) (kn_F r) (kn_F c) (kn_F h) (kn_F wt) dg hi ar (kn_F b) (kn_F e) := by
  have i8 : vp_in (nI d) 8 := vp_in_nI hd (by omega)
  have cd : (nI d).toNatClampNeg = d := nI_clamp (by omega)
  unfold wX_write_28
  simp only [cd, kn_ap]
  refine ⟨i8, i8, nm_r (kn_upd' (v := wt d + 1) rfl (nI_1 _)) ⟨i8, i8, nm_e ⟨i8, ?_⟩⟩⟩
  refine pk_le (c d) 0 (fun z => k0 (by omega)) (fun z => ⟨i8, ?_⟩)
  have q := h3 z
  have q4 := h4 z
  have q2 : e d < c d := by omega
  have cc := kn_cell_in (b := b d) (e := e d) (c := c d) (i := h d) q2 q
  refine kx_cell hd h1 (by omega) (by omega) ⟨vp_in_nI (by omega) (by omega), nm_r (e' := upd ar (kn_cell (b d) (e d) (c d) (h d)) x) (by rw [nI_clamp (by omega)]) ⟨i8, i8, nm_r (kn_upd' (v := h d + 1) rfl (nI_1 _)) (k1 z)⟩⟩
theorem kx_write {post : SX → Prop} {d B : Nat} {x : Int32} (hd : d < 8) (hw : wt d ≤ B) (hB : B < 2 ^ 30) (h1 : c d ≤ 64) (h2 : e d < c d ∨ c d = 0) (h3 : 0 < c d → h d < c d) (h4 : 0 < c d → b d + c d ≤ 64)
  (k0 : c d = 0 → post (0, 1, 2, 3, 4, 5, 6, 7, 8, 9, 10, nI np, nI na, nI ng, sd, nI nc, nI nf, kn_F on, aa, ab, kn_F cn, rg, kn_F po, hl, kn_F w, kn_F r, kn_F c, kn_F h, kn_F (kn_U wt d (wt d + 1)), upd dg d (31 * dg d + x), kn_hi hi d (wt d) x, ar, kn_F b, kn_F e))
  (k1 : 0 < c d → post (0, 1, 2, 3, 4, 5, 6, 7, 8, 9, 10, nI np, nI na, nI ng, sd, nI nc, nI nf, kn_F on, aa, ab, kn_F cn, rg, kn_F po, hl, kn_F w, kn_F r, kn_F c, kn_F (kn_U h d (h d + 1)), kn_F (kn_U wt d (wt d + 1)), upd dg d (31 * dg d + x), kn_hi hi d (wt d) x, upd ar (kn_cell (b d) (e d) (c d) (h d)) x, kn_F b, kn_F e)) : wpX_write post (0, 1, 2, 3, 4, 5, 6, 7, 8, 9, 10, nI np, nI na, nI ng, sd, nI nc, nI nf, kn_F on, aa, ab, kn_F cn, rg, kn_F po, hl, kn_F w, kn_F r, kn_F c, kn_F h, kn_F wt, dg, hi, ar, kn_F b, kn_F e) (nI d) x := by
  have i8 : vp_in (nI d) 8 := vp_in_nI hd (by omega)
  unfold kn_hi at k0 k1
  unfold wpX_write
  simp only [nI_clamp (n := d) (by omega), kn_ap]
  refine ⟨i8, pk_le 16 (wt d) (fun z => ?_) (fun z => ⟨i8, ?_⟩)⟩
  · rw [if_neg (by omega)] at k0 k1
    exact kx_w28 hd hw hB h1 h2 h3 h4 k0 k1
  · rw [if_pos (by omega)] at k0 k1
    rw [kn_i16, nI_clamp (by omega)]
    exact ⟨vp_in_nI (by omega) (by omega), nm_e (kx_w28 hd hw hB h1 h2 h3 h4 k0 k1)⟩
theorem kx_su49 {post : Int32 → Prop} {p : Nat} {y z : Int32} (hp : p < 6) (k : post (if z = 0 then nI (po p + 1) else y)) : wX_successor_49 post (nI p) y z 0 1 2 3 4 5 6 7 8 9 10 (nI np) (nI na) (nI ng) sd (nI nc) (nI nf) (kn_F on) aa ab (kn_F cn) rg (kn_F po) hl (kn_F w) (kn_F r) (kn_F c) (kn_F h) (kn_F wt) dg hi ar (kn_F b) (kn_F e) := by
  unfold wX_successor_49
  by_cases hz : z = 0
  · rw [if_pos hz] at k
    refine br_t hz ⟨vp_in_nI hp (by omega), ?_⟩
    rw [kn_rd (by omega), nI_1]; exact k
  · rw [if_neg hz] at k
    exact br_f hz k
def kn_jm (o : Nat) (a y : Int32) (x : Int32) (q : Int32) : Int32 := if o = 8 then a else if o = 9 then (if x = 0 then y else q) else (if 0 ≤ x then q else y)
theorem kx_succ {post : Int32 → Prop} {p o : Nat} {a y : Int32} (hp : p < 6) (ho : 8 ≤ o ∧ o ≤ 10) (ha : o ≠ 8 → ∃ x : Nat, x ≤ 3 ∧ a = nI x) (k : post (kn_jm o a y (rg (p * 4 + a.toNatClampNeg)) (nI (po p + 1)))) : wpX_successor post (0, 1, 2, 3, 4, 5, 6, 7, 8, 9, 10, nI np, nI na, nI ng, sd, nI nc, nI nf, kn_F on, aa, ab, kn_F cn, rg, kn_F po, hl, kn_F w, kn_F r, kn_F c, kn_F h, kn_F wt, dg, hi, ar, kn_F b, kn_F e) (nI p) (nI o) a y := by
  unfold kn_jm at k
  unfold wpX_successor
  refine pk_eq o 8 (fun h8 => ?_) (fun h8 => ?_)
  · rw [if_pos h8] at k; exact k
  · rw [if_neg h8] at k
    obtain ⟨x, hx, rfl⟩ := ha h8
    rw [nI_clamp (by omega)] at k
    rw [kn_i4]
    refine ⟨vp_in_nI (by omega) (by omega), nm_r (e' := rg (p * 4 + x)) (by rw [nI_clamp (by omega)]) ?_⟩
    refine pk_eq o 9 (fun h9 => ?_) (fun h9 => ?_)
    · rw [if_pos h9] at k
      refine br_c (fun z => kx_su49 hp ?_) (fun z => kx_su49 hp ?_)
      · rw [if_neg (by decide)]; rw [if_pos z] at k; exact k
      · rw [if_pos rfl]; rw [if_neg z] at k; exact k
    · rw [if_neg h9] at k
      refine br_c (fun z => kx_su49 hp ?_) (fun z => kx_su49 hp ?_)
      · rw [if_pos rfl]; rw [if_pos z] at k; exact k
      · rw [if_neg (by decide)]; rw [if_neg z] at k; exact k
theorem kx_ha9 {post : SX → Prop} {p : Nat} (hn : nc ≤ 8) (hp : p < 6) (hr : ∀ j, r j < 6) (hs : nf + kn_S c nc = na) (hna : na ≤ 64) (k : post (0, 1, 2, 3, 4, 5, 6, 7, 8, 9, 10, nI np, nI na, nI ng, sd, nI nc, nI (na - kn_S (kn_Z r p nc c) nc), kn_F on, aa, ab, kn_F cn, rg, kn_F po, hl, kn_F w, kn_F r, kn_F (kn_Z r p nc c), kn_F (kn_Z r p nc h), kn_F wt, dg, hi, ar, kn_F b, kn_F (kn_Z r p nc e))) : ∀ (d m n : Nat), m + d = nc → d < n → kn_S (kn_Z r p m c) nc ≤ na → wX_halt_9 post (nI p) 0 1 2 3 4 5 6 7 8 9 10 (nI np) (nI na) (nI ng) sd (nI nc) n (nI m) (nI (na - kn_S (kn_Z r p m c) nc)) (kn_F on) aa ab (kn_F cn) rg (kn_F po) hl (kn_F w) (kn_F r) (kn_F (kn_Z r p m c)) (kn_F (kn_Z r p m h)) (kn_F wt) dg hi ar (kn_F b) (kn_F (kn_Z r p m e)) := by
  intro d
  induction d with
  | zero =>
    intro m n hm hn hS
    obtain ⟨n, rfl⟩ : ∃ n', n = n' + 1 := ⟨n - 1, by omega⟩
    have ee : m = nc := by omega
    subst ee
    exact br_t (nI_le (by omega) (by omega)) k
  | succ d ih =>
    intro m n hm hn hS
    obtain ⟨n, rfl⟩ : ∃ n', n = n' + 1 := ⟨n - 1, by omega⟩
    have i8 : vp_in (nI m) 8 := vp_in_nI (by omega) (by omega)
    have cm : (nI m).toNatClampNeg = m := nI_clamp (by omega)
    have q := hr m
    refine br_f (nI_ge (by omega) (by omega)) ⟨i8, ?_⟩
    rw [kn_rd (by omega)]
    refine pk_eq (r m) p (fun z => ?_) (fun z => ?_)
    · have hS' := kn_Z_S (f := c) z (n := nc) (by omega)
      have I := ih (m + 1) n (by omega) (by omega) (by omega)
      rw [← kn_Z_t (f := h) z, ← kn_Z_t (f := e) z] at I
      have e1 : nI (na - kn_S (kn_Z r p m c) nc) + kn_F (kn_Z r p m c) (nI m).toNatClampNeg = nI (na - kn_S (kn_Z r p (m + 1) c) nc) := by
        rw [kn_rd (by omega), kn_Z_m, nI_add]
        exact congrArg nI (by omega)
      rw [← kn_Z_t (f := c) z] at I e1
      exact ⟨i8, nm_r e1 ⟨i8, nm_r (kn_upd' cm rfl) ⟨i8, nm_r (kn_upd' cm rfl) ⟨i8, nm_r (kn_upd' cm rfl) (nm_r (nI_1 m) I)⟩⟩⟩⟩
    · have I := ih (m + 1) n (by omega) (by omega) (by rw [← kn_Z_f z]; exact hS)
      rw [← kn_Z_f (f := h) z, ← kn_Z_f (f := e) z, ← kn_Z_f (f := c) z] at I
      exact nm_r (nI_1 m) I
theorem kx_halt {post : SX → Prop} {p : Nat} (hn : nc ≤ 8) (hp : p < 6) (hr : ∀ j, r j < 6) (hs : nf + kn_S c nc = na) (hna : na ≤ 64) (k : post (0, 1, 2, 3, 4, 5, 6, 7, 8, 9, 10, nI np, nI na, nI ng, sd, nI nc, nI (na - kn_S (kn_Z r p nc c) nc), kn_F on, aa, ab, kn_F cn, rg, kn_F po, upd hl p 1, kn_F w, kn_F r, kn_F (kn_Z r p nc c), kn_F (kn_Z r p nc h), kn_F wt, dg, hi, ar, kn_F b, kn_F (kn_Z r p nc e))) : wpX_halt post (0, 1, 2, 3, 4, 5, 6, 7, 8, 9, 10, nI np, nI na, nI ng, sd, nI nc, nI nf, kn_F on, aa, ab, kn_F cn, rg, kn_F po, hl, kn_F w, kn_F r, kn_F c, kn_F h, kn_F wt, dg, hi, ar, kn_F b, kn_F e) (nI p) := by
  have e1 : upd hl (nI p).toNatClampNeg (vp_nar .boolean 1) = upd hl p 1 := by
    rw [nI_clamp (by omega)]; rfl
  have K := kx_ha9 (hl := upd hl p 1) hn hp hr hs hna k nc 0 (nc + 1) (by omega) (by omega) (by rw [kn_Z_0]; omega)
  rw [kn_Z_0, kn_Z_0, kn_Z_0] at K
  have e2 : na - kn_S c nc = nf := by omega
  rw [e2] at K
  unfold wpX_halt
  exact ⟨vp_in_nI hp (by omega), nm_r e1 ⟨nc + 1, K⟩⟩
end
end
section
/-! the reference's step -/
section
variable {np na ng nc nf : Nat} {sd : Int32} {on cn po w r c h wt b e : Nat → Nat} {aa ab rg hl dg hi ar tk : Nat → Int32}
theorem ky_pre {post : SY → Prop} {p o : Nat} (hp : p < 6) (h1 : po p ≤ 16) (h2 : cn p ≤ 16) (ho : kn_op on cn po p = o) (k : wY_carryOut_32 post (nI p) (nI (po p)) (nI o) (nI np) (nI na) (nI ng) sd (nI nc) (kn_F on) aa ab (kn_F cn) rg (kn_F po) hl (kn_F w) (kn_F r) (kn_F c) (kn_F h) (kn_F wt) dg tk hi) : wpY_carryOut post (nI np, nI na, nI ng, sd, nI nc, kn_F on, aa, ab, kn_F cn, rg, kn_F po, hl, kn_F w, kn_F r, kn_F c, kn_F h, kn_F wt, dg, tk, hi) (nI p) := by
  have i6 : vp_in (nI p) 6 := vp_in_nI hp (by omega)
  unfold kn_op at ho
  unfold wpY_carryOut
  refine ⟨i6, nm_r (kn_rd (by omega)) ⟨i6, ?_⟩⟩
  rw [kn_rd (by omega)]
  refine pk_le (cn p) (po p) (fun z => ?_) (fun z => ?_)
  · rw [if_neg (by omega)] at ho
    rw [← ho] at k; exact k
  · rw [if_pos z] at ho
    rw [kn_i16, kn_rd (by omega), ho]
    exact ⟨vp_in_nI (by omega) (by omega), k⟩
theorem ky_32 {post : SY → Prop} {p o : Nat} (hp : p < 6) (h2 : po p < 16) (ho : 2 ≤ o ∧ o ≤ 10)
  (k : wY_carryOut_147 post (nI p) (nI o) (aa (p * 16 + po p)) (ab (p * 16 + po p)) (nI (p * 4)) (nI np) (nI na) (nI ng) sd (nI nc) (kn_F on) aa ab (kn_F cn) rg (kn_F (kn_U po p (po p + 1))) hl (kn_F w) (kn_F r) (kn_F c) (kn_F h) (kn_F wt) dg tk hi) : wY_carryOut_32 post (nI p) (nI (po p)) (nI o) (nI np) (nI na) (nI ng) sd (nI nc) (kn_F on) aa ab (kn_F cn) rg (kn_F po) hl (kn_F w) (kn_F r) (kn_F c) (kn_F h) (kn_F wt) dg tk hi := by
  have i6 : vp_in (nI p) 6 := vp_in_nI hp (by omega)
  have i96 : vp_in (nI (p * 16 + po p)) 96 := vp_in_nI (by omega) (by omega)
  unfold wY_carryOut_32
  rw [kn_i16, nI_clamp (n := p * 16 + po p) (by omega)]
  refine br_f (nI_ne0 (by omega) (by omega)) ⟨i96, nm_e ⟨i96, nm_e (nm_r (kn_m4 p) ⟨i6, nm_r (kn_upd' (nI_clamp (by omega)) (nI_1 _)) ?_⟩)⟩⟩
  exact pk_eq o 1 (fun z => absurd z (by omega)) (fun _ => k)
theorem ky_s1 {post : SY → Prop} {p a : Nat} (hp : p < 6) (h2 : po p < 16) (ha : aa (p * 16 + po p) = nI a) (ha3 : a ≤ 3) (k : post (nI np, nI na, nI ng, sd, nI nc, kn_F on, aa, ab, kn_F cn, upd rg (p * 4 + a) (ab (p * 16 + po p)), kn_F (kn_U po p (po p + 1)), hl, kn_F w, kn_F r, kn_F c, kn_F h, kn_F wt, dg, tk, hi)) : wY_carryOut_32 post (nI p) (nI (po p)) (nI 1) (nI np) (nI na) (nI ng) sd (nI nc) (kn_F on) aa ab (kn_F cn) rg (kn_F po) hl (kn_F w) (kn_F r) (kn_F c) (kn_F h) (kn_F wt) dg tk hi := by
  have i6 : vp_in (nI p) 6 := vp_in_nI hp (by omega)
  have i96 : vp_in (nI (p * 16 + po p)) 96 := vp_in_nI (by omega) (by omega)
  unfold wY_carryOut_32
  rw [kn_i16, nI_clamp (n := p * 16 + po p) (by omega)]
  refine br_f (by decide) ⟨i96, nm_r ha ⟨i96, nm_e (nm_r (kn_m4 p) ⟨i6, nm_r (kn_upd' (nI_clamp (by omega)) (nI_1 _)) (br_t rfl ?_)⟩)⟩⟩
  rw [nI_add, nI_clamp (n := p * 4 + a) (by omega)]
  exact ⟨vp_in_nI (by omega) (by omega), nm_e (br_f (by decide) (br_f (by decide) (br_f (by decide) (br_f (by decide) (br_f (by decide) (br_f (by decide) (br_f (by decide) (br_f (by decide) (br_f (by decide) k)))))))))⟩
theorem ky_147 {post : SY → Prop} {p a y o : Nat} (hp : p < 6) (ha : a ≤ 3) (hy : y ≤ 3) (ho : 2 ≤ o ∧ o ≤ 5) (x : Int32) (hx : x = if o = 2 then rg (p * 4 + y) else if o = 3 then rg (p * 4 + a) + rg (p * 4 + y) else if o = 4 then rg (p * 4 + a) - rg (p * 4 + y) else rg (p * 4 + a) * rg (p * 4 + y)) (k : post (nI np, nI na, nI ng, sd, nI nc, kn_F on, aa, ab, kn_F cn, upd rg (p * 4 + a) x, kn_F po, hl, kn_F w, kn_F r, kn_F c, kn_F h, kn_F wt, dg, tk, hi)) : wY_carryOut_147 post (nI p) (nI o) (nI a) (nI y) (nI (p * 4)) (nI np) (nI na) (nI ng) sd (nI nc) (kn_F on) aa ab (kn_F cn) rg (kn_F po) hl (kn_F w) (kn_F r) (kn_F c) (kn_F h) (kn_F wt) dg tk hi := by
  have ia : vp_in (nI (p * 4 + a)) 24 := vp_in_nI (by omega) (by omega)
  have iy : vp_in (nI (p * 4 + y)) 24 := vp_in_nI (by omega) (by omega)
  have ca : (nI (p * 4 + a)).toNatClampNeg = p * 4 + a := nI_clamp (by omega)
  have cy : (nI (p * 4 + y)).toNatClampNeg = p * 4 + y := nI_clamp (by omega)
  have o2 : o = 2 ∨ o = 3 ∨ o = 4 ∨ o = 5 := by omega
  rcases o2 with rfl | rfl | rfl | rfl
  · unfold wY_carryOut_147
    rw [nI_add, nI_add, ca, cy]
    refine br_t rfl ⟨iy, ia, nm_r ?_ (br_f (by decide) (br_f (by decide) (br_f (by decide) (br_f (by decide) (br_f (by decide) (br_f (by decide) (br_f (by decide) (br_f (by decide) k))))))))⟩
    rw [hx]; rfl
  · refine br_f (by decide) ?_
    unfold wY_carryOut_172
    rw [nI_add, nI_add, ca, cy]
    refine br_t rfl ⟨ia, iy, ia, nm_r ?_ (br_f (by decide) (br_f (by decide) (br_f (by decide) (br_f (by decide) (br_f (by decide) (br_f (by decide) (br_f (by decide) k)))))))⟩
    rw [hx]; rfl
  · refine br_f (by decide) (br_f (by decide) ?_)
    unfold wY_carryOut_208
    rw [nI_add, nI_add, ca, cy]
    refine br_t rfl ⟨ia, iy, ia, nm_r ?_ (br_f (by decide) (br_f (by decide) (br_f (by decide) (br_f (by decide) (br_f (by decide) (br_f (by decide) k))))))⟩
    rw [hx]; rfl
  · refine br_f (by decide) (br_f (by decide) (br_f (by decide) ?_))
    unfold wY_carryOut_244
    rw [nI_add, nI_add, ca, cy]
    refine br_t rfl ⟨ia, iy, ia, nm_r ?_ (br_f (by decide) (br_f (by decide) (br_f (by decide) (br_f (by decide) (br_f (by decide) k)))))⟩
    rw [hx]; rfl
theorem ky_309 {post : SY → Prop} {p d : Nat} {a : Int32} (hd : d < 8) (hh : h d ≤ 64) (h0 : 0 < h d) (k : post (nI np, nI na, nI ng, sd, nI nc, kn_F on, aa, ab, kn_F cn, rg, kn_F po, hl, kn_F w, kn_F r, kn_F c, kn_F (kn_U h d (h d - 1)), kn_F wt, dg, kn_sh tk d (h d), hi)) : ∀ (m i n : Nat), i + m = h d → m < n → 1 ≤ i → wY_carryOut_309 post (nI p) (nI 6) a (nI d) (nI (p * 4)) (nI np) (nI na) (nI ng) sd (nI nc) n (nI i) (kn_F on) aa ab (kn_F cn) rg (kn_F po) hl (kn_F w) (kn_F r) (kn_F c) (kn_F h) (kn_F wt) dg (kn_sh tk d i) hi := by
  have i8 : vp_in (nI d) 8 := vp_in_nI hd (by omega)
  have cd : (nI d).toNatClampNeg = d := nI_clamp (by omega)
  intro m
  induction m with
  | zero =>
    intro i n hi hn h1
    obtain ⟨n, rfl⟩ : ∃ n', n = n' + 1 := ⟨n - 1, by omega⟩
    have ee : i = h d := by omega
    subst ee
    unfold wY_carryOut_309
    rw [kn_rd (by omega)]
    refine ⟨i8, br_t (nI_le (by omega) (by omega)) ⟨i8, i8, nm_r (kn_upd' (v := h d - 1) cd ?_) ?_⟩⟩
    · exact pk_sub (a := h d) (b := 1) (by omega)
    · exact br_f (by decide) (br_f (by decide) (br_f (by decide) (br_f (by decide) k)))
  | succ m ih =>
    intro i n hi hn h1
    obtain ⟨n, rfl⟩ : ∃ n', n = n' + 1 := ⟨n - 1, by omega⟩
    have I := ih (i + 1) n (by omega) (by omega) (by omega)
    rw [← kn_sh_s tk d i h1] at I
    unfold wY_carryOut_309
    rw [kn_rd (by omega), kn_i64]
    have e1 : nI (d * 64 + i) - 1 = nI (d * 64 + i - 1) := pk_sub (a := d * 64 + i) (b := 1) (by omega)
    rw [e1, nI_clamp (n := d * 64 + i) (by omega), nI_clamp (n := d * 64 + i - 1) (by omega)]
    exact ⟨i8, br_f (nI_ge (by omega) (by omega)) ⟨vp_in_nI (by omega) (by omega), vp_in_nI (by omega) (by omega), nm_e (nm_r (nI_1 i) I)⟩⟩
theorem ky_6 {post : SY → Prop} {p d a : Nat} (hp : p < 6) (ha : a ≤ 3) (hd : d < 8) (hh : h d ≤ 64) (h0 : 0 < h d) (k : post (nI np, nI na, nI ng, sd, nI nc, kn_F on, aa, ab, kn_F cn, upd rg (p * 4 + a) (tk (d * 64)), kn_F po, hl, kn_F w, kn_F r, kn_F c, kn_F (kn_U h d (h d - 1)), kn_F wt, dg, kn_sh tk d (h d), hi)) : wY_carryOut_147 post (nI p) (nI 6) (nI a) (nI d) (nI (p * 4)) (nI np) (nI na) (nI ng) sd (nI nc) (kn_F on) aa ab (kn_F cn) rg (kn_F po) hl (kn_F w) (kn_F r) (kn_F c) (kn_F h) (kn_F wt) dg tk hi := by
  refine br_f (by decide) (br_f (by decide) (br_f (by decide) (br_f (by decide) ?_)))
  unfold wY_carryOut_280
  rw [nI_add, kn_m64, nI_clamp (n := p * 4 + a) (by omega), nI_clamp (n := d * 64) (by omega)]
  have K := ky_309 (p := p) (a := nI a) (rg := upd rg (p * 4 + a) (tk (d * 64))) hd hh h0 k (h d - 1) 1 (h d) (by omega) (by omega) (by omega)
  rw [kn_sh_1] at K
  exact br_t rfl ⟨vp_in_nI (by omega) (by omega), vp_in_nI (by omega) (by omega), nm_e ⟨h d, K⟩⟩
theorem ky_w54 {post : SY → Prop} {d B : Nat} {x : Int32} (hd : d < 8) (hw : wt d ≤ B) (hB : B < 2 ^ 30) (hr : r d < 6) (h1 : c d ≤ 64) (ho : 0 < c d ↔ hl (r d) = 0) (h3 : 0 < c d → h d < c d)
  (k0 : c d = 0 → post (nI np, nI na, nI ng, sd, nI nc, kn_F on, aa, ab, kn_F cn, rg, kn_F po, hl, kn_F w, kn_F r, kn_F c, kn_F h, kn_F (kn_U wt d (wt d + 1)), dg, tk, hi))
  (k1 : 0 < c d → post (nI np, nI na, nI ng, sd, nI nc, kn_F on, aa, ab, kn_F cn, rg, kn_F po, hl, kn_F w, kn_F r, kn_F c, kn_F (kn_U h d (h d + 1)), kn_F (kn_U wt d (wt d + 1)), dg, upd tk (d * 64 + h d) x, hi)) : wY_write_54 post (nI d) x (nI np) (nI na) (nI ng) sd (nI nc) (kn_F on) aa ab (kn_F cn) rg (kn_F po) hl (kn_F w) (kn_F r) (kn_F c) (kn_F h) (kn_F wt) dg tk hi := by
  have i8 : vp_in (nI d) 8 := vp_in_nI hd (by omega)
  have cd : (nI d).toNatClampNeg = d := nI_clamp (by omega)
  unfold wY_write_54
  simp only [cd, kn_ap]
  refine ⟨i8, i8, nm_r (kn_upd' (v := wt d + 1) rfl (nI_1 _)) ⟨i8, vp_in_nI hr (by omega), ?_⟩⟩
  rw [nI_clamp (n := r d) (by omega)]
  refine br_c (fun z => ⟨i8, ?_⟩) (fun z => k0 ?_)
  · have z' := ho.mpr z
    have q := h3 z'
    refine pk_le 64 (h d) (fun y => absurd y (by omega)) (fun y => ⟨i8, ?_⟩)
    rw [kn_i64, nI_clamp (n := d * 64 + h d) (by omega)]
    exact ⟨vp_in_nI (by omega) (by omega), nm_e ⟨i8, i8, nm_r (kn_upd' (v := h d + 1) rfl (nI_1 _)) (k1 z')⟩⟩
  · rcases Nat.eq_zero_or_pos (c d) with y | y
    · exact y
    · exact absurd (ho.mp y) z
theorem ky_write {post : SY → Prop} {d B : Nat} {x : Int32} (hd : d < 8) (hw : wt d ≤ B) (hB : B < 2 ^ 30) (hr : r d < 6) (h1 : c d ≤ 64) (ho : 0 < c d ↔ hl (r d) = 0) (h3 : 0 < c d → h d < c d)
  (k0 : c d = 0 → post (nI np, nI na, nI ng, sd, nI nc, kn_F on, aa, ab, kn_F cn, rg, kn_F po, hl, kn_F w, kn_F r, kn_F c, kn_F h, kn_F (kn_U wt d (wt d + 1)), upd dg d (31 * dg d + x), tk, kn_hi hi d (wt d) x))
  (k1 : 0 < c d → post (nI np, nI na, nI ng, sd, nI nc, kn_F on, aa, ab, kn_F cn, rg, kn_F po, hl, kn_F w, kn_F r, kn_F c, kn_F (kn_U h d (h d + 1)), kn_F (kn_U wt d (wt d + 1)), upd dg d (31 * dg d + x), upd tk (d * 64 + h d) x, kn_hi hi d (wt d) x)) : wpY_write post (nI np, nI na, nI ng, sd, nI nc, kn_F on, aa, ab, kn_F cn, rg, kn_F po, hl, kn_F w, kn_F r, kn_F c, kn_F h, kn_F wt, dg, tk, hi) (nI d) x := by
  have i8 : vp_in (nI d) 8 := vp_in_nI hd (by omega)
  have cd : (nI d).toNatClampNeg = d := nI_clamp (by omega)
  unfold kn_hi at k0 k1
  unfold wpY_write
  simp only [cd, kn_ap]
  refine ⟨i8, i8, nm_e ⟨i8, br_f (nI_pos (by omega)) ⟨i8, pk_le 16 (wt d) (fun z => ?_) (fun z => ⟨i8, ?_⟩)⟩⟩⟩
  · rw [if_neg (by omega)] at k0 k1
    exact ky_w54 hd hw hB hr h1 ho h3 k0 k1
  · rw [if_pos (by omega)] at k0 k1
    rw [kn_i16, nI_clamp (n := d * 16 + wt d) (by omega)]
    exact ⟨vp_in_nI (by omega) (by omega), nm_e (ky_w54 hd hw hB hr h1 ho h3 k0 k1)⟩
theorem ky_7 {post : SY → Prop} {p d a B : Nat} (hp : p < 6) (ha : a ≤ 3) (hd : d < 8) (hw : wt d ≤ B) (hB : B < 2 ^ 30) (hr : r d < 6) (h1 : c d ≤ 64) (ho : 0 < c d ↔ hl (r d) = 0) (h3 : 0 < c d → h d < c d)
  (k0 : c d = 0 → post (nI np, nI na, nI ng, sd, nI nc, kn_F on, aa, ab, kn_F cn, rg, kn_F po, hl, kn_F w, kn_F r, kn_F c, kn_F h, kn_F (kn_U wt d (wt d + 1)), upd dg d (31 * dg d + rg (p * 4 + a)), tk, kn_hi hi d (wt d) (rg (p * 4 + a))))
  (k1 : 0 < c d → post (nI np, nI na, nI ng, sd, nI nc, kn_F on, aa, ab, kn_F cn, rg, kn_F po, hl, kn_F w, kn_F r, kn_F c, kn_F (kn_U h d (h d + 1)), kn_F (kn_U wt d (wt d + 1)), upd dg d (31 * dg d + rg (p * 4 + a)), upd tk (d * 64 + h d) (rg (p * 4 + a)), kn_hi hi d (wt d) (rg (p * 4 + a)))) : wY_carryOut_147 post (nI p) (nI 7) (nI a) (nI d) (nI (p * 4)) (nI np) (nI na) (nI ng) sd (nI nc) (kn_F on) aa ab (kn_F cn) rg (kn_F po) hl (kn_F w) (kn_F r) (kn_F c) (kn_F h) (kn_F wt) dg tk hi := by
  refine br_f (by decide) (br_f (by decide) (br_f (by decide) (br_f (by decide) (br_f (by decide) ?_))))
  unfold wY_carryOut_366
  rw [nI_add, nI_clamp (n := p * 4 + a) (by omega)]
  refine br_t rfl ⟨vp_in_nI (by omega) (by omega), ?_⟩
  exact ky_write hd hw hB hr h1 ho h3 (fun z => br_f (by decide) (br_f (by decide) (br_f (by decide) (k0 z)))) (fun z => br_f (by decide) (br_f (by decide) (br_f (by decide) (k1 z))))
theorem ky_8 {post : SY → Prop} {p q : Nat} {a y : Int32} (hp : p < 6) (o : Nat) (ho : 8 ≤ o ∧ o ≤ 10) (ha : o ≠ 8 → ∃ x : Nat, x ≤ 3 ∧ a = nI x) (v : Nat) (hv : kn_jm o a y (rg (p * 4 + a.toNatClampNeg)) (nI q) = nI v) (hq : po p = q) (hq1 : q ≤ 17) (hv1 : v ≤ 17) (k : post (nI np, nI na, nI ng, sd, nI nc, kn_F on, aa, ab, kn_F cn, rg, kn_F (kn_U po p v), hl, kn_F w, kn_F r, kn_F c, kn_F h, kn_F wt, dg, tk, hi)) : wY_carryOut_147 post (nI p) (nI o) a y (nI (p * 4)) (nI np) (nI na) (nI ng) sd (nI nc) (kn_F on) aa ab (kn_F cn) rg (kn_F po) hl (kn_F w) (kn_F r) (kn_F c) (kn_F h) (kn_F wt) dg tk hi := by
  have i6 : vp_in (nI p) 6 := vp_in_nI hp (by omega)
  have cp : (nI p).toNatClampNeg = p := nI_clamp (by omega)
  have eq0 : kn_U po p q = po := by
    funext j
    unfold kn_U
    by_cases z : j = p
    · rw [if_pos z, z, hq]
    · rw [if_neg z]
  have o2 : o = 8 ∨ o = 9 ∨ o = 10 := by omega
  unfold kn_jm at hv
  rcases o2 with rfl | rfl | rfl
  · rw [if_pos rfl] at hv
    refine br_f (by decide) (br_f (by decide) (br_f (by decide) (br_f (by decide) (br_f (by decide) (br_f (by decide) ?_)))))
    exact br_t rfl ⟨i6, nm_r (kn_upd' cp hv) (br_f (by decide) (br_f (by decide) k))⟩
  · obtain ⟨x, hx, rfl⟩ := ha (by decide)
    rw [if_neg (by decide), if_pos rfl, nI_clamp (by omega)] at hv
    refine br_f (by decide) (br_f (by decide) (br_f (by decide) (br_f (by decide) (br_f (by decide) (br_f (by decide) (br_f (by decide) ?_))))))
    unfold wY_carryOut_402
    rw [nI_add, nI_clamp (n := p * 4 + x) (by omega)]
    refine br_t rfl ⟨vp_in_nI (by omega) (by omega), br_c (fun z => ⟨i6, ?_⟩) (fun z => ?_)⟩
    · rw [if_pos z] at hv
      exact nm_r (kn_upd' cp hv) (br_f (by decide) k)
    · rw [if_neg z] at hv
      have qv : q = v := (nI_eq (by omega) (by omega)).mp hv
      rw [← qv, eq0] at k
      exact br_f (by decide) k
  · obtain ⟨x, hx, rfl⟩ := ha (by decide)
    rw [if_neg (by decide), if_neg (by decide), nI_clamp (by omega)] at hv
    refine br_f (by decide) (br_f (by decide) (br_f (by decide) (br_f (by decide) (br_f (by decide) (br_f (by decide) (br_f (by decide) (br_f (by decide) ?_)))))))
    unfold wY_carryOut_429
    rw [nI_add, nI_clamp (n := p * 4 + x) (by omega)]
    refine br_t rfl ⟨vp_in_nI (by omega) (by omega), br_c (fun z => ?_) (fun z => ⟨i6, ?_⟩)⟩
    · rw [if_pos z] at hv
      have qv : q = v := (nI_eq (by omega) (by omega)).mp hv
      rw [← qv, eq0] at k
      exact k
    · rw [if_neg z] at hv
      exact nm_r (kn_upd' cp hv) k
theorem ky_47 {post : SY → Prop} {p : Nat} (hn : nc ≤ 8) (hp : p < 6) (hr : ∀ j, r j < 6) (k : post (nI np, nI na, nI ng, sd, nI nc, kn_F on, aa, ab, kn_F cn, rg, kn_F po, hl, kn_F w, kn_F r, kn_F (kn_Z r p nc c), kn_F (kn_Z r p nc h), kn_F wt, dg, tk, hi)) : ∀ (d m n : Nat), m + d = nc → d < n → wY_carryOut_47 post (nI p) (nI np) (nI na) (nI ng) sd (nI nc) n (nI m) (kn_F on) aa ab (kn_F cn) rg (kn_F po) hl (kn_F w) (kn_F r) (kn_F (kn_Z r p m c)) (kn_F (kn_Z r p m h)) (kn_F wt) dg tk hi := by
  intro d
  induction d with
  | zero =>
    intro m n hm hn
    obtain ⟨n, rfl⟩ : ∃ n', n = n' + 1 := ⟨n - 1, by omega⟩
    have ee : m = nc := by omega
    subst ee
    exact br_t (nI_le (by omega) (by omega)) k
  | succ d ih =>
    intro m n hm hn
    obtain ⟨n, rfl⟩ : ∃ n', n = n' + 1 := ⟨n - 1, by omega⟩
    have i8 : vp_in (nI m) 8 := vp_in_nI (by omega) (by omega)
    have cm : (nI m).toNatClampNeg = m := nI_clamp (by omega)
    have q := hr m
    have I := ih (m + 1) n (by omega) (by omega)
    refine br_f (nI_ge (by omega) (by omega)) ⟨i8, ?_⟩
    rw [kn_rd (by omega)]
    refine pk_eq (r m) p (fun z => ?_) (fun z => ?_)
    · rw [← kn_Z_t (f := h) z, ← kn_Z_t (f := c) z] at I
      exact ⟨i8, nm_r (kn_upd' cm rfl) ⟨i8, nm_r (kn_upd' cm rfl) (nm_r (nI_1 m) I)⟩⟩
    · rw [← kn_Z_f (f := h) z, ← kn_Z_f (f := c) z] at I
      exact nm_r (nI_1 m) I
theorem ky_halt {post : SY → Prop} {p : Nat} (hn : nc ≤ 8) (hp : p < 6) (hr : ∀ j, r j < 6) (k : post (nI np, nI na, nI ng, sd, nI nc, kn_F on, aa, ab, kn_F cn, rg, kn_F po, upd hl p 1, kn_F w, kn_F r, kn_F (kn_Z r p nc c), kn_F (kn_Z r p nc h), kn_F wt, dg, tk, hi)) : wY_carryOut_32 post (nI p) (nI (po p)) (nI 0) (nI np) (nI na) (nI ng) sd (nI nc) (kn_F on) aa ab (kn_F cn) rg (kn_F po) hl (kn_F w) (kn_F r) (kn_F c) (kn_F h) (kn_F wt) dg tk hi := by
  have e1 : upd hl (nI p).toNatClampNeg (vp_nar .boolean 1) = upd hl p 1 := by
    rw [nI_clamp (by omega)]; rfl
  have K := ky_47 (hl := upd hl p 1) hn hp hr k nc 0 (nc + 1) (by omega) (by omega)
  rw [kn_Z_0, kn_Z_0] at K
  unfold wY_carryOut_32
  exact br_t rfl ⟨vp_in_nI hp (by omega), nm_r e1 ⟨nc + 1, K⟩⟩
end
end
section
/-! one step, both sides -/
section
variable {np na ng nc nf : Nat} {sd : Int32} {on cn po w r c h wt b e : Nat → Nat} {aa ab rg hl dg hi ar tk : Nat → Int32}
theorem kx_s0 {post : SX → Prop} {p : Nat} (hn : nc ≤ 8) (hp : p < 6) (h1 : po p ≤ 16) (h2 : cn p ≤ 16) (eo : kn_op on cn po p = 0) (hr : ∀ j, r j < 6) (hs : nf + kn_S c nc = na) (hna : na ≤ 64) (k : post (0, 1, 2, 3, 4, 5, 6, 7, 8, 9, 10, nI np, nI na, nI ng, sd, nI nc, nI (na - kn_S (kn_Z r p nc c) nc), kn_F on, aa, ab, kn_F cn, rg, kn_F po, upd hl p 1, kn_F w, kn_F r, kn_F (kn_Z r p nc c), kn_F (kn_Z r p nc h), kn_F wt, dg, hi, ar, kn_F b, kn_F (kn_Z r p nc e))) : wpX_step post (0, 1, 2, 3, 4, 5, 6, 7, 8, 9, 10, nI np, nI na, nI ng, sd, nI nc, nI nf, kn_F on, aa, ab, kn_F cn, rg, kn_F po, hl, kn_F w, kn_F r, kn_F c, kn_F h, kn_F wt, dg, hi, ar, kn_F b, kn_F e) (nI p) := by
  unfold wpX_step; refine kx_nextOp hp (by omega) h2 ?_; rw [eo]
  refine br_t rfl ?_
  exact kx_halt hn hp hr hs hna k
theorem kx_s1 {post : SX → Prop} {p a : Nat} (hp : p < 6) (h1 : po p < cn p) (h2 : cn p ≤ 16) (eo : kn_op on cn po p = 1) (ea : aa (p * 16 + po p) = nI a) (ha : a ≤ 3) (k : post (0, 1, 2, 3, 4, 5, 6, 7, 8, 9, 10, nI np, nI na, nI ng, sd, nI nc, nI nf, kn_F on, aa, ab, kn_F cn, upd rg (p * 4 + a) (ab (p * 16 + po p)), kn_F (kn_U po p (po p + 1)), hl, kn_F w, kn_F r, kn_F c, kn_F h, kn_F wt, dg, hi, ar, kn_F b, kn_F e)) : wpX_step post (0, 1, 2, 3, 4, 5, 6, 7, 8, 9, 10, nI np, nI na, nI ng, sd, nI nc, nI nf, kn_F on, aa, ab, kn_F cn, rg, kn_F po, hl, kn_F w, kn_F r, kn_F c, kn_F h, kn_F wt, dg, hi, ar, kn_F b, kn_F e) (nI p) := by
  have i6 : vp_in (nI p) 6 := vp_in_nI hp (by omega)
  have i96 : vp_in (nI (p * 16 + po p)) 96 := vp_in_nI (by omega) (by omega)
  unfold wpX_step; refine kx_nextOp hp (by omega) h2 ?_; rw [eo]
  refine br_f (by decide) ⟨i6, nm_r (e' := nI (p * 16 + po p)) (by rw [kn_rd (by omega), kn_i16]) ⟨i96, nm_r (e' := nI a) (by rw [nI_clamp (by omega), ea]) ⟨i96, nm_r (e' := ab (p * 16 + po p)) (by rw [nI_clamp (by omega)]) ?_⟩⟩⟩
  refine br_t (by decide) (br_f (by decide) (br_f (by decide) ?_))
  refine kx_cmp1 hp ha ?_
  exact kx_129 hp k
theorem kx_s25 {post : SX → Prop} {p a y o : Nat} (hp : p < 6) (h1 : po p < cn p) (h2 : cn p ≤ 16) (eo : kn_op on cn po p = o) (ea : aa (p * 16 + po p) = nI a) (ey : ab (p * 16 + po p) = nI y) (ha : a ≤ 3) (hy : y ≤ 3) (ho : 2 ≤ o ∧ o ≤ 5) (x : Int32) (hx : x = if o = 2 then rg (p * 4 + y) else if o = 3 then rg (p * 4 + a) + rg (p * 4 + y) else if o = 4 then rg (p * 4 + a) - rg (p * 4 + y) else rg (p * 4 + a) * rg (p * 4 + y)) (k : post (0, 1, 2, 3, 4, 5, 6, 7, 8, 9, 10, nI np, nI na, nI ng, sd, nI nc, nI nf, kn_F on, aa, ab, kn_F cn, upd rg (p * 4 + a) x, kn_F (kn_U po p (po p + 1)), hl, kn_F w, kn_F r, kn_F c, kn_F h, kn_F wt, dg, hi, ar, kn_F b, kn_F e)) : wpX_step post (0, 1, 2, 3, 4, 5, 6, 7, 8, 9, 10, nI np, nI na, nI ng, sd, nI nc, nI nf, kn_F on, aa, ab, kn_F cn, rg, kn_F po, hl, kn_F w, kn_F r, kn_F c, kn_F h, kn_F wt, dg, hi, ar, kn_F b, kn_F e) (nI p) := by
  have i6 : vp_in (nI p) 6 := vp_in_nI hp (by omega)
  have i96 : vp_in (nI (p * 16 + po p)) 96 := vp_in_nI (by omega) (by omega)
  unfold wpX_step; refine kx_nextOp hp (by omega) h2 ?_; rw [eo]
  refine br_f (nI_ne0 (by omega) (by omega)) ⟨i6, nm_r (e' := nI (p * 16 + po p)) (by rw [kn_rd (by omega), kn_i16]) ⟨i96, nm_r (e' := nI a) (by rw [nI_clamp (by omega), ea]) ⟨i96, nm_r (e' := nI y) (by rw [nI_clamp (by omega), ey]) ?_⟩⟩⟩
  refine pk_lt o 8 (fun _ => pk_eq o 6 (fun z => absurd z (by omega)) (fun _ => pk_eq o 7 (fun z => absurd z (by omega)) (fun _ => ?_))) (fun z => absurd z (by omega))
  refine kx_cmp hp ha hy ho x hx ?_
  exact kx_129 hp k
theorem kx_s6 {post : SX → Prop} {p a d : Nat} (hp : p < 6) (h1 : po p < cn p) (h2 : cn p ≤ 16) (eo : kn_op on cn po p = 6) (ea : aa (p * 16 + po p) = nI a) (ey : ab (p * 16 + po p) = nI d) (ha : a ≤ 3) (hd : d < 8) (q1 : b d + e d < 64) (q2 : c d ≤ 64) (q3 : 0 < h d) (q4 : h d ≤ 64) (k : post (0, 1, 2, 3, 4, 5, 6, 7, 8, 9, 10, nI np, nI na, nI ng, sd, nI nc, nI nf, kn_F on, aa, ab, kn_F cn, upd rg (p * 4 + a) (ar (b d + e d)), kn_F (kn_U po p (po p + 1)), hl, kn_F w, kn_F r, kn_F c, kn_F (kn_U h d (h d - 1)), kn_F wt, dg, hi, ar, kn_F b, kn_F (kn_U e d (kn_nx (e d) (c d))))) : wpX_step post (0, 1, 2, 3, 4, 5, 6, 7, 8, 9, 10, nI np, nI na, nI ng, sd, nI nc, nI nf, kn_F on, aa, ab, kn_F cn, rg, kn_F po, hl, kn_F w, kn_F r, kn_F c, kn_F h, kn_F wt, dg, hi, ar, kn_F b, kn_F e) (nI p) := by
  have i6 : vp_in (nI p) 6 := vp_in_nI hp (by omega)
  have i96 : vp_in (nI (p * 16 + po p)) 96 := vp_in_nI (by omega) (by omega)
  unfold wpX_step; refine kx_nextOp hp (by omega) h2 ?_; rw [eo]
  refine br_f (by decide) ⟨i6, nm_r (e' := nI (p * 16 + po p)) (by rw [kn_rd (by omega), kn_i16]) ⟨i96, nm_r (e' := nI a) (by rw [nI_clamp (by omega), ea]) ⟨i96, nm_r (e' := nI d) (by rw [nI_clamp (by omega), ey]) ?_⟩⟩⟩
  rw [kn_i4 p a, nI_clamp (n := p * 4 + a) (by omega)]
  refine br_t (by decide) (br_t rfl ?_)
  refine kx_take hd q1 q2 q3 q4 ?_
  exact ⟨vp_in_nI (by omega) (by omega), nm_e (kx_129 hp k)⟩
theorem kx_s7 {post : SX → Prop} {p a d B : Nat} (hp : p < 6) (h1 : po p < cn p) (h2 : cn p ≤ 16) (eo : kn_op on cn po p = 7) (ea : aa (p * 16 + po p) = nI a) (ey : ab (p * 16 + po p) = nI d) (ha : a ≤ 3) (hd : d < 8) (hw : wt d ≤ B) (hB : B < 2 ^ 30) (q1 : c d ≤ 64) (q2 : e d < c d ∨ c d = 0) (q3 : 0 < c d → h d < c d) (q4 : 0 < c d → b d + c d ≤ 64)
  (k0 : c d = 0 → post (0, 1, 2, 3, 4, 5, 6, 7, 8, 9, 10, nI np, nI na, nI ng, sd, nI nc, nI nf, kn_F on, aa, ab, kn_F cn, rg, kn_F (kn_U po p (po p + 1)), hl, kn_F w, kn_F r, kn_F c, kn_F h, kn_F (kn_U wt d (wt d + 1)), upd dg d (31 * dg d + rg (p * 4 + a)), kn_hi hi d (wt d) (rg (p * 4 + a)), ar, kn_F b, kn_F e))
  (k1 : 0 < c d → post (0, 1, 2, 3, 4, 5, 6, 7, 8, 9, 10, nI np, nI na, nI ng, sd, nI nc, nI nf, kn_F on, aa, ab, kn_F cn, rg, kn_F (kn_U po p (po p + 1)), hl, kn_F w, kn_F r, kn_F c, kn_F (kn_U h d (h d + 1)), kn_F (kn_U wt d (wt d + 1)), upd dg d (31 * dg d + rg (p * 4 + a)), kn_hi hi d (wt d) (rg (p * 4 + a)), upd ar (kn_cell (b d) (e d) (c d) (h d)) (rg (p * 4 + a)), kn_F b, kn_F e)) : wpX_step post (0, 1, 2, 3, 4, 5, 6, 7, 8, 9, 10, nI np, nI na, nI ng, sd, nI nc, nI nf, kn_F on, aa, ab, kn_F cn, rg, kn_F po, hl, kn_F w, kn_F r, kn_F c, kn_F h, kn_F wt, dg, hi, ar, kn_F b, kn_F e) (nI p) := by
  have i6 : vp_in (nI p) 6 := vp_in_nI hp (by omega)
  have i96 : vp_in (nI (p * 16 + po p)) 96 := vp_in_nI (by omega) (by omega)
  unfold wpX_step; refine kx_nextOp hp (by omega) h2 ?_; rw [eo]
  refine br_f (by decide) ⟨i6, nm_r (e' := nI (p * 16 + po p)) (by rw [kn_rd (by omega), kn_i16]) ⟨i96, nm_r (e' := nI a) (by rw [nI_clamp (by omega), ea]) ⟨i96, nm_r (e' := nI d) (by rw [nI_clamp (by omega), ey]) ?_⟩⟩⟩
  rw [kn_i4 p a, nI_clamp (n := p * 4 + a) (by omega)]
  refine br_t (by decide) (br_f (by decide) (br_t rfl ⟨vp_in_nI (by omega) (by omega), ?_⟩))
  refine kx_write hd hw hB q1 q2 q3 q4 (fun z => ?_) (fun z => ?_)
  · exact kx_129 hp (k0 z)
  · exact kx_129 hp (k1 z)
theorem kx_s8 {post : SX → Prop} {p o v : Nat} (hp : p < 6) (h1 : po p < cn p) (h2 : cn p ≤ 16) (eo : kn_op on cn po p = o) (ho : 8 ≤ o ∧ o ≤ 10) (ha : o ≠ 8 → ∃ x : Nat, x ≤ 3 ∧ aa (p * 16 + po p) = nI x) (hv : kn_jm o (aa (p * 16 + po p)) (ab (p * 16 + po p)) (rg (p * 4 + (aa (p * 16 + po p)).toNatClampNeg)) (nI (po p + 1)) = nI v) (k : post (0, 1, 2, 3, 4, 5, 6, 7, 8, 9, 10, nI np, nI na, nI ng, sd, nI nc, nI nf, kn_F on, aa, ab, kn_F cn, rg, kn_F (kn_U po p v), hl, kn_F w, kn_F r, kn_F c, kn_F h, kn_F wt, dg, hi, ar, kn_F b, kn_F e)) : wpX_step post (0, 1, 2, 3, 4, 5, 6, 7, 8, 9, 10, nI np, nI na, nI ng, sd, nI nc, nI nf, kn_F on, aa, ab, kn_F cn, rg, kn_F po, hl, kn_F w, kn_F r, kn_F c, kn_F h, kn_F wt, dg, hi, ar, kn_F b, kn_F e) (nI p) := by
  have i6 : vp_in (nI p) 6 := vp_in_nI hp (by omega)
  have i96 : vp_in (nI (p * 16 + po p)) 96 := vp_in_nI (by omega) (by omega)
  unfold wpX_step; refine kx_nextOp hp (by omega) h2 ?_; rw [eo]
  refine br_f (nI_ne0 (by omega) (by omega)) ⟨i6, nm_r (e' := nI (p * 16 + po p)) (by rw [kn_rd (by omega), kn_i16]) ⟨i96, nm_r (e' := aa (p * 16 + po p)) (by rw [nI_clamp (by omega)]) ⟨i96, nm_r (e' := ab (p * 16 + po p)) (by rw [nI_clamp (by omega)]) ?_⟩⟩⟩
  refine pk_lt o 8 (fun z => absurd z (by omega)) (fun _ => ?_)
  refine kx_succ hp ho ha ?_
  exact ⟨i6, nm_r (kn_upd' (nI_clamp (by omega)) hv) k⟩
theorem kn_jm_ex {o : Nat} {a y x : Int32} {q : Nat} (ho : (o = 8 ∧ ∃ t : Nat, t ≤ 15 ∧ a = nI t) ∨ (9 ≤ o ∧ o ≤ 10 ∧ ∃ t : Nat, t ≤ 15 ∧ y = nI t)) (hq : q ≤ 16) : ∃ v : Nat, v ≤ 16 ∧ kn_jm o a y x (nI q) = nI v := by
  unfold kn_jm
  rcases ho with ⟨h8, t, ht, rfl⟩ | ⟨h9, h10, t, ht, rfl⟩
  · exact ⟨t, by omega, if_pos h8⟩
  · rw [if_neg (by omega)]
    by_cases z9 : o = 9
    · rw [if_pos z9]
      by_cases z : x = 0
      · exact ⟨t, by omega, if_pos z⟩
      · exact ⟨q, by omega, if_neg z⟩
    · rw [if_neg z9]
      by_cases z : 0 ≤ x
      · exact ⟨q, by omega, if_pos z⟩
      · exact ⟨t, by omega, if_neg z⟩
theorem kn_step {B p : Nat} (I : kn_I B np na ng nc nf sd on cn po w r c h wt b e aa ab hl ar tk) (hp : p < np) (hs : kn_st on cn po c h ab hl p = 1) (hsd : ¬ sd = 0) (hB : B < 2 ^ 30) : ∃ (u' : SX) (v' : SY), kn_R (B + 1) np na ng nc sd u' v' ∧ (∀ post : SX → Prop, post u' → wpX_step post (0, 1, 2, 3, 4, 5, 6, 7, 8, 9, 10, nI np, nI na, nI ng, sd, nI nc, nI nf, kn_F on, aa, ab, kn_F cn, rg, kn_F po, hl, kn_F w, kn_F r, kn_F c, kn_F h, kn_F wt, dg, hi, ar, kn_F b, kn_F e) (nI p)) ∧ (∀ post : SY → Prop, post v' → wpY_carryOut post (nI np, nI na, nI ng, sd, nI nc, kn_F on, aa, ab, kn_F cn, rg, kn_F po, hl, kn_F w, kn_F r, kn_F c, kn_F h, kn_F wt, dg, tk, hi) (nI p)) := by
  obtain ⟨V, M, P, N, W, Hw⟩ := I
  have V' := V
  obtain ⟨v1, v2, v3, v4, v5, v6, v7, v8, v9, v10, v11⟩ := V'
  have M' := M
  obtain ⟨m1, m2, m3, m4, m5, m6, m7, m8⟩ := M'
  have hP : ∀ (nf : Nat) (c b : Nat → Nat) (hl : Nat → Int32), kn_P na nf sd c b hl := fun _ _ _ _ z => absurd z hsd
  have W' : ∀ j, wt j ≤ B + 1 := fun j => Nat.le_succ_of_le (W j)
  have p6 : p < 6 := by omega
  have r6 : ∀ j, r j < 6 := fun j => by have := v7 j; omega
  have q1 := v3 p
  have q2 := v4 p
  have na64 : na ≤ 64 := N.2.2.1
  have hl0 : hl p = 0 := by
    by_cases z : hl p = 0
    · exact z
    · unfold kn_st at hs; rw [if_neg z] at hs; omega
  have hP1 : ∀ v, v ≤ 16 → ∀ j, kn_U po p v j ≤ 16 := fun v hv => kn_U_le v3 hv
  by_cases o0 : kn_op on cn po p = 0
  · refine ⟨(0, 1, 2, 3, 4, 5, 6, 7, 8, 9, 10, nI np, nI na, nI ng, sd, nI nc, nI (na - kn_S (kn_Z r p nc c) nc), kn_F on, aa, ab, kn_F cn, rg, kn_F po, upd hl p 1, kn_F w, kn_F r, kn_F (kn_Z r p nc c), kn_F (kn_Z r p nc h), kn_F wt, dg, hi, ar, kn_F b, kn_F (kn_Z r p nc e)), (nI np, nI na, nI ng, sd, nI nc, kn_F on, aa, ab, kn_F cn, rg, kn_F po, upd hl p 1, kn_F w, kn_F r, kn_F (kn_Z r p nc c), kn_F (kn_Z r p nc h), kn_F wt, dg, tk, hi), kn_mk ⟨kn_V_halt V m2, kn_M_halt M, hP _ _ _ _, N, W', fun j => ?_⟩, fun post k => ?_, fun post k => ?_⟩
    · have := Hw j
      rcases kn_Z_c r p nc h j with ⟨_, z⟩ | ⟨_, z⟩ <;> omega
    · exact kx_s0 v2 p6 q1 q2 o0 r6 m1 na64 k
    · exact ky_pre p6 q1 q2 o0 (ky_halt v2 p6 r6 k)
  have h1 : po p < cn p := by
    by_cases z : po p < cn p
    · exact z
    · exact absurd (if_neg z) o0
  have eo : kn_op on cn po p = on (p * 16 + po p) := if_pos h1
  have hf := v10 p (po p) hp h1
  rw [← eo] at hf
  have q1' : po p < 16 := by omega
  have jmp : (8 ≤ kn_op on cn po p ∧ kn_op on cn po p ≤ 10) → ((kn_op on cn po p = 8 ∧ ∃ t : Nat, t ≤ 15 ∧ aa (p * 16 + po p) = nI t) ∨ (9 ≤ kn_op on cn po p ∧ kn_op on cn po p ≤ 10 ∧ ∃ t : Nat, t ≤ 15 ∧ ab (p * 16 + po p) = nI t)) → (kn_op on cn po p ≠ 8 → ∃ x : Nat, x ≤ 3 ∧ aa (p * 16 + po p) = nI x) → ∃ (u' : SX) (v' : SY), kn_R (B + 1) np na ng nc sd u' v' ∧ (∀ post : SX → Prop, post u' → wpX_step post (0, 1, 2, 3, 4, 5, 6, 7, 8, 9, 10, nI np, nI na, nI ng, sd, nI nc, nI nf, kn_F on, aa, ab, kn_F cn, rg, kn_F po, hl, kn_F w, kn_F r, kn_F c, kn_F h, kn_F wt, dg, hi, ar, kn_F b, kn_F e) (nI p)) ∧ (∀ post : SY → Prop, post v' → wpY_carryOut post (nI np, nI na, nI ng, sd, nI nc, kn_F on, aa, ab, kn_F cn, rg, kn_F po, hl, kn_F w, kn_F r, kn_F c, kn_F h, kn_F wt, dg, tk, hi) (nI p)) := by
    intro ho hx ha
    obtain ⟨v, hv, ev⟩ := kn_jm_ex (x := rg (p * 4 + (aa (p * 16 + po p)).toNatClampNeg)) (q := po p + 1) hx (by omega)
    refine ⟨(0, 1, 2, 3, 4, 5, 6, 7, 8, 9, 10, nI np, nI na, nI ng, sd, nI nc, nI nf, kn_F on, aa, ab, kn_F cn, rg, kn_F (kn_U po p v), hl, kn_F w, kn_F r, kn_F c, kn_F h, kn_F wt, dg, hi, ar, kn_F b, kn_F e), (nI np, nI na, nI ng, sd, nI nc, kn_F on, aa, ab, kn_F cn, rg, kn_F (kn_U po p v), hl, kn_F w, kn_F r, kn_F c, kn_F h, kn_F wt, dg, tk, hi), kn_mk ⟨kn_V_po V (hP1 v hv), M, P, N, W', Hw⟩, fun post k => ?_, fun post k => ?_⟩
    · exact kx_s8 p6 h1 q2 rfl ho ha ev k
    · refine ky_pre p6 q1 q2 rfl (ky_32 p6 q1' (by omega) ?_)
      refine ky_8 (q := po p + 1) p6 _ ho ha v ev kn_us (by omega) (by omega) ?_
      rw [kn_uu]
      exact k
  rcases hf with hf | ⟨hf, hx⟩ | ⟨⟨a, ha, ea⟩, hf | ⟨hf, hf2, y, hy, ey⟩ | ⟨hf, d, hd, ey, hr⟩ | ⟨hf, d, hd, ey, hr⟩ | ⟨hf, hf2, hx⟩⟩
  · exact absurd hf o0
  · exact jmp (by omega) (Or.inl ⟨hf, hx⟩) (fun z => absurd hf z)
  · refine ⟨(0, 1, 2, 3, 4, 5, 6, 7, 8, 9, 10, nI np, nI na, nI ng, sd, nI nc, nI nf, kn_F on, aa, ab, kn_F cn, upd rg (p * 4 + a) (ab (p * 16 + po p)), kn_F (kn_U po p (po p + 1)), hl, kn_F w, kn_F r, kn_F c, kn_F h, kn_F wt, dg, hi, ar, kn_F b, kn_F e), (nI np, nI na, nI ng, sd, nI nc, kn_F on, aa, ab, kn_F cn, upd rg (p * 4 + a) (ab (p * 16 + po p)), kn_F (kn_U po p (po p + 1)), hl, kn_F w, kn_F r, kn_F c, kn_F h, kn_F wt, dg, tk, hi), kn_mk ⟨kn_V_po V (hP1 _ (by omega)), M, P, N, W', Hw⟩, fun post k => ?_, fun post k => ?_⟩
    · exact kx_s1 p6 h1 q2 hf ea ha k
    · exact ky_pre p6 q1 q2 hf (ky_s1 p6 q1' ea ha k)
  · refine ⟨(0, 1, 2, 3, 4, 5, 6, 7, 8, 9, 10, nI np, nI na, nI ng, sd, nI nc, nI nf, kn_F on, aa, ab, kn_F cn, upd rg (p * 4 + a) (if kn_op on cn po p = 2 then rg (p * 4 + y) else if kn_op on cn po p = 3 then rg (p * 4 + a) + rg (p * 4 + y) else if kn_op on cn po p = 4 then rg (p * 4 + a) - rg (p * 4 + y) else rg (p * 4 + a) * rg (p * 4 + y)), kn_F (kn_U po p (po p + 1)), hl, kn_F w, kn_F r, kn_F c, kn_F h, kn_F wt, dg, hi, ar, kn_F b, kn_F e), (nI np, nI na, nI ng, sd, nI nc, kn_F on, aa, ab, kn_F cn, upd rg (p * 4 + a) (if kn_op on cn po p = 2 then rg (p * 4 + y) else if kn_op on cn po p = 3 then rg (p * 4 + a) + rg (p * 4 + y) else if kn_op on cn po p = 4 then rg (p * 4 + a) - rg (p * 4 + y) else rg (p * 4 + a) * rg (p * 4 + y)), kn_F (kn_U po p (po p + 1)), hl, kn_F w, kn_F r, kn_F c, kn_F h, kn_F wt, dg, tk, hi), kn_mk ⟨kn_V_po V (hP1 _ (by omega)), M, P, N, W', Hw⟩, fun post k => ?_, fun post k => ?_⟩
    · exact kx_s25 p6 h1 q2 rfl ea ey ha hy ⟨hf, hf2⟩ _ rfl k
    · refine ky_pre p6 q1 q2 rfl (ky_32 p6 q1' (by omega) ?_)
      rw [ea, ey]
      exact ky_147 p6 ha hy ⟨hf, hf2⟩ _ rfl k
  · have dd : kn_d po ab p = d := by unfold kn_d; rw [ey, nI_clamp (by omega)]
    have h0 : 0 < h d := by
      unfold kn_st at hs
      rw [if_pos hl0, if_pos hf, dd] at hs
      by_cases z : h d = 0
      · rw [if_pos z] at hs; omega
      · omega
    have a1 := v9 d
    have a2 := v8 d
    have a3 := m4 d (by omega)
    have a4 := m7 d (by omega)
    have tk0 : ar (b d + e d) = tk (d * 64) := by
      have := m8 d 0 h0
      unfold kn_cell at this
      rw [if_pos (by omega)] at this
      exact this
    refine ⟨(0, 1, 2, 3, 4, 5, 6, 7, 8, 9, 10, nI np, nI na, nI ng, sd, nI nc, nI nf, kn_F on, aa, ab, kn_F cn, upd rg (p * 4 + a) (ar (b d + e d)), kn_F (kn_U po p (po p + 1)), hl, kn_F w, kn_F r, kn_F c, kn_F (kn_U h d (h d - 1)), kn_F wt, dg, hi, ar, kn_F b, kn_F (kn_U e d (kn_nx (e d) (c d)))), (nI np, nI na, nI ng, sd, nI nc, kn_F on, aa, ab, kn_F cn, upd rg (p * 4 + a) (ar (b d + e d)), kn_F (kn_U po p (po p + 1)), hl, kn_F w, kn_F r, kn_F c, kn_F (kn_U h d (h d - 1)), kn_F wt, dg, kn_sh tk d (h d), hi), kn_mk ⟨kn_V_po (kn_V_h V (fun j => ?_)) (hP1 _ (by omega)), kn_M_take M v9 v8 h0, hP _ _ _ _, N, W', fun j => ?_⟩, fun post k => ?_, fun post k => ?_⟩
    · have := v9 j
      rcases kn_uc h d (h d - 1) j with ⟨z, z'⟩ | ⟨_, z'⟩
      · rw [z', z]; omega
      · rw [z']; exact this
    · have := Hw j
      rcases kn_uc h d (h d - 1) j with ⟨z, z'⟩ | ⟨_, z'⟩
      · rw [z', z]; rw [z] at this; omega
      · rw [z']; exact this
    · exact kx_s6 p6 h1 q2 hf ea ey ha (by omega) (by omega) a2 h0 (by omega) k
    · refine ky_pre p6 q1 q2 hf (ky_32 p6 q1' (by omega) ?_)
      rw [ea, ey]
      rw [tk0] at k
      exact ky_6 p6 ha (by omega) (by omega) h0 k
  · have dd : kn_d po ab p = d := by unfold kn_d; rw [ey, nI_clamp (by omega)]
    have a1 := v9 d
    have a2 := v8 d
    have h0 : 0 < c d → h d < c d := by
      intro z
      unfold kn_st at hs
      rw [if_pos hl0, if_neg (by omega), if_pos hf, dd] at hs
      by_cases y : 0 < c d ∧ c d ≤ h d
      · rw [if_pos y] at hs; omega
      · omega
    have a3 : 0 < c d → e d < c d := m4 d
    have a4 : 0 < c d → b d + c d ≤ 64 := fun z => by have := m7 d z; omega
    have a5 : e d < c d ∨ c d = 0 := by
      rcases Nat.eq_zero_or_pos (c d) with z | z
      · exact Or.inr z
      · exact Or.inl (a3 z)
    have WW : ∀ j, kn_U wt d (wt d + 1) j ≤ B + 1 := kn_U_le W' (by have := W d; omega)
    by_cases z : 0 < c d
    · refine ⟨(0, 1, 2, 3, 4, 5, 6, 7, 8, 9, 10, nI np, nI na, nI ng, sd, nI nc, nI nf, kn_F on, aa, ab, kn_F cn, rg, kn_F (kn_U po p (po p + 1)), hl, kn_F w, kn_F r, kn_F c, kn_F (kn_U h d (h d + 1)), kn_F (kn_U wt d (wt d + 1)), upd dg d (31 * dg d + rg (p * 4 + a)), kn_hi hi d (wt d) (rg (p * 4 + a)), upd ar (kn_cell (b d) (e d) (c d) (h d)) (rg (p * 4 + a)), kn_F b, kn_F e), (nI np, nI na, nI ng, sd, nI nc, kn_F on, aa, ab, kn_F cn, rg, kn_F (kn_U po p (po p + 1)), hl, kn_F w, kn_F r, kn_F c, kn_F (kn_U h d (h d + 1)), kn_F (kn_U wt d (wt d + 1)), upd dg d (31 * dg d + rg (p * 4 + a)), upd tk (d * 64 + h d) (rg (p * 4 + a)), kn_hi hi d (wt d) (rg (p * 4 + a))), kn_mk ⟨kn_V_po (kn_V_h V (fun j => ?_)) (hP1 _ (by omega)), kn_M_put M v9 v8 (h0 z), hP _ _ _ _, N, WW, fun j => ?_⟩, fun post k => ?_, fun post k => ?_⟩
      · have := v9 j
        have := h0 z
        rcases kn_uc h d (h d + 1) j with ⟨x, x'⟩ | ⟨_, x'⟩
        · rw [x', x]; omega
        · rw [x']; omega
      · have := Hw j
        rcases kn_uc h d (h d + 1) j with ⟨x, x'⟩ | ⟨x, x'⟩
        · rw [x', x, kn_us]; rw [x] at this; omega
        · rw [x', kn_un x]; exact this
      · exact kx_s7 p6 h1 q2 hf ea ey ha (by omega) (W d) hB a2 a5 h0 a4 (fun x => absurd z (by omega)) (fun _ => k)
      · refine ky_pre p6 q1 q2 hf (ky_32 p6 q1' (by omega) ?_)
        rw [ea, ey]
        exact ky_7 p6 ha (by omega) (W d) hB (r6 d) a2 (v11 d hd) h0 (fun x => absurd z (by omega)) (fun _ => k)
    · refine ⟨(0, 1, 2, 3, 4, 5, 6, 7, 8, 9, 10, nI np, nI na, nI ng, sd, nI nc, nI nf, kn_F on, aa, ab, kn_F cn, rg, kn_F (kn_U po p (po p + 1)), hl, kn_F w, kn_F r, kn_F c, kn_F h, kn_F (kn_U wt d (wt d + 1)), upd dg d (31 * dg d + rg (p * 4 + a)), kn_hi hi d (wt d) (rg (p * 4 + a)), ar, kn_F b, kn_F e), (nI np, nI na, nI ng, sd, nI nc, kn_F on, aa, ab, kn_F cn, rg, kn_F (kn_U po p (po p + 1)), hl, kn_F w, kn_F r, kn_F c, kn_F h, kn_F (kn_U wt d (wt d + 1)), upd dg d (31 * dg d + rg (p * 4 + a)), tk, kn_hi hi d (wt d) (rg (p * 4 + a))), kn_mk ⟨kn_V_po V (hP1 _ (by omega)), M, P, N, WW, fun j => ?_⟩, fun post k => ?_, fun post k => ?_⟩
      · have := Hw j
        rcases kn_uc wt d (wt d + 1) j with ⟨x, x'⟩ | ⟨x, x'⟩
        · rw [x', x]; rw [x] at this; omega
        · rw [x']; exact this
      · exact kx_s7 p6 h1 q2 hf ea ey ha (by omega) (W d) hB a2 a5 h0 a4 (fun _ => k) (fun x => absurd x z)
      · refine ky_pre p6 q1 q2 hf (ky_32 p6 q1' (by omega) ?_)
        rw [ea, ey]
        exact ky_7 p6 ha (by omega) (W d) hB (r6 d) a2 (v11 d hd) h0 (fun _ => k) (fun x => absurd x z)
  · exact jmp (by omega) (Or.inr ⟨hf, hf2, hx⟩) (fun _ => ⟨a, ha, ea⟩)
end
end
section
/-! running a process, both sides -/
theorem kn_sx {P : SX → Prop} (u : SX) (H : ∀ (a1 : Int32) (a2 : Int32) (a3 : Int32) (a4 : Int32) (a5 : Int32) (a6 : Int32) (a7 : Int32) (a8 : Int32) (a9 : Int32) (a10 : Int32) (a11 : Int32) (a12 : Int32) (a13 : Int32) (a14 : Int32) (a15 : Int32) (a16 : Int32) (a17 : Int32) (a18 : Nat → Int32) (a19 : Nat → Int32) (a20 : Nat → Int32) (a21 : Nat → Int32) (a22 : Nat → Int32) (a23 : Nat → Int32) (a24 : Nat → Int32) (a25 : Nat → Int32) (a26 : Nat → Int32) (a27 : Nat → Int32) (a28 : Nat → Int32) (a29 : Nat → Int32) (a30 : Nat → Int32) (a31 : Nat → Int32) (a32 : Nat → Int32) (a33 : Nat → Int32) (a34 : Nat → Int32), P (a1, a2, a3, a4, a5, a6, a7, a8, a9, a10, a11, a12, a13, a14, a15, a16, a17, a18, a19, a20, a21, a22, a23, a24, a25, a26, a27, a28, a29, a30, a31, a32, a33, a34)) : P u := match u with
  | (a1, a2, a3, a4, a5, a6, a7, a8, a9, a10, a11, a12, a13, a14, a15, a16, a17, a18, a19, a20, a21, a22, a23, a24, a25, a26, a27, a28, a29, a30, a31, a32, a33, a34) => H a1 a2 a3 a4 a5 a6 a7 a8 a9 a10 a11 a12 a13 a14 a15 a16 a17 a18 a19 a20 a21 a22 a23 a24 a25 a26 a27 a28 a29 a30 a31 a32 a33 a34
theorem kn_sy {P : SY → Prop} (u : SY) (H : ∀ (a1 : Int32) (a2 : Int32) (a3 : Int32) (a4 : Int32) (a5 : Int32) (a6 : Nat → Int32) (a7 : Nat → Int32) (a8 : Nat → Int32) (a9 : Nat → Int32) (a10 : Nat → Int32) (a11 : Nat → Int32) (a12 : Nat → Int32) (a13 : Nat → Int32) (a14 : Nat → Int32) (a15 : Nat → Int32) (a16 : Nat → Int32) (a17 : Nat → Int32) (a18 : Nat → Int32) (a19 : Nat → Int32) (a20 : Nat → Int32), P (a1, a2, a3, a4, a5, a6, a7, a8, a9, a10, a11, a12, a13, a14, a15, a16, a17, a18, a19, a20)) : P u := match u with
  | (a1, a2, a3, a4, a5, a6, a7, a8, a9, a10, a11, a12, a13, a14, a15, a16, a17, a18, a19, a20) => H a1 a2 a3 a4 a5 a6 a7 a8 a9 a10 a11 a12 a13 a14 a15 a16 a17 a18 a19 a20
theorem kn_sxA {P : SX → Prop} (H : ∀ (a1 : Int32) (a2 : Int32) (a3 : Int32) (a4 : Int32) (a5 : Int32) (a6 : Int32) (a7 : Int32) (a8 : Int32) (a9 : Int32) (a10 : Int32) (a11 : Int32) (a12 : Int32) (a13 : Int32) (a14 : Int32) (a15 : Int32) (a16 : Int32) (a17 : Int32) (a18 : Nat → Int32) (a19 : Nat → Int32) (a20 : Nat → Int32) (a21 : Nat → Int32) (a22 : Nat → Int32) (a23 : Nat → Int32) (a24 : Nat → Int32) (a25 : Nat → Int32) (a26 : Nat → Int32) (a27 : Nat → Int32) (a28 : Nat → Int32) (a29 : Nat → Int32) (a30 : Nat → Int32) (a31 : Nat → Int32) (a32 : Nat → Int32) (a33 : Nat → Int32) (a34 : Nat → Int32), P (a1, a2, a3, a4, a5, a6, a7, a8, a9, a10, a11, a12, a13, a14, a15, a16, a17, a18, a19, a20, a21, a22, a23, a24, a25, a26, a27, a28, a29, a30, a31, a32, a33, a34)) : ∀ u : SX, P u := fun u => kn_sx u H
theorem kn_syA {P : SY → Prop} (H : ∀ (a1 : Int32) (a2 : Int32) (a3 : Int32) (a4 : Int32) (a5 : Int32) (a6 : Nat → Int32) (a7 : Nat → Int32) (a8 : Nat → Int32) (a9 : Nat → Int32) (a10 : Nat → Int32) (a11 : Nat → Int32) (a12 : Nat → Int32) (a13 : Nat → Int32) (a14 : Nat → Int32) (a15 : Nat → Int32) (a16 : Nat → Int32) (a17 : Nat → Int32) (a18 : Nat → Int32) (a19 : Nat → Int32) (a20 : Nat → Int32), P (a1, a2, a3, a4, a5, a6, a7, a8, a9, a10, a11, a12, a13, a14, a15, a16, a17, a18, a19, a20)) : ∀ u : SY, P u := fun u => kn_sy u H
theorem kn_elA {B np na ng nc : Nat} {sd : Int32} {P : SX → SY → Prop} (H : ∀ (nf : Nat) (on cn po w r c h wt b e : Nat → Nat) (aa ab rg hl dg hi ar tk : Nat → Int32), kn_I B np na ng nc nf sd on cn po w r c h wt b e aa ab hl ar tk → P (0, 1, 2, 3, 4, 5, 6, 7, 8, 9, 10, nI np, nI na, nI ng, sd, nI nc, nI nf, kn_F on, aa, ab, kn_F cn, rg, kn_F po, hl, kn_F w, kn_F r, kn_F c, kn_F h, kn_F wt, dg, hi, ar, kn_F b, kn_F e) (nI np, nI na, nI ng, sd, nI nc, kn_F on, aa, ab, kn_F cn, rg, kn_F po, hl, kn_F w, kn_F r, kn_F c, kn_F h, kn_F wt, dg, tk, hi)) : ∀ (u : SX) (v : SY), kn_R B np na ng nc sd u v → P u v := fun u v I => kn_el I H
def kx_W5 (post : Int32 → SX → Prop) (x1 x2 : Int32) (n : Nat) (x3 x4 : Int32) (u : SX) : Prop := match u with
  | (a1, a2, a3, a4, a5, a6, a7, a8, a9, a10, a11, a12, a13, a14, a15, a16, a17, a18, a19, a20, a21, a22, a23, a24, a25, a26, a27, a28, a29, a30, a31, a32, a33, a34) => wX_work_5 post x1 x2 n x3 x4 a1 a2 a3 a4 a5 a6 a7 a8 a9 a10 a11 a12 a13 a14 a15 a16 a17 a18 a19 a20 a21 a22 a23 a24 a25 a26 a27 a28 a29 a30 a31 a32 a33 a34
def ky_W36 (post : Int32 → SY → Prop) (x1 x2 : Int32) (n : Nat) (x3 : Int32) (u : SY) : Prop := match u with
  | (a1, a2, a3, a4, a5, a6, a7, a8, a9, a10, a11, a12, a13, a14, a15, a16, a17, a18, a19, a20) => wY_run_36 post x1 x2 n x3 a1 a2 a3 a4 a5 a6 a7 a8 a9 a10 a11 a12 a13 a14 a15 a16 a17 a18 a19 a20
theorem kn_work {np na ng nc : Nat} {sd : Int32} {t p : Nat} (hp : p < np) (hsd : ¬ sd = 0) (ht : t ≤ 32) : ∀ (d m B : Nat) (u : SX) (v : SY), m + d = t → B + d < 2 ^ 30 → kn_R B np na ng nc sd u v → ∃ (s : Nat) (u' : SX) (v' : SY), s ≤ t ∧ kn_R (B + d) np na ng nc sd u' v' ∧ (∀ (post : Int32 → SX → Prop) (n : Nat), d < n → post (nI s) u' → kx_W5 post (nI p) (nI t) n (nI m) (nI m) u) ∧ (∀ (post : Int32 → SY → Prop) (n : Nat), d < n → post (nI s) v' → ky_W36 post (nI p) (nI t) n (nI m) v) := by
  intro d
  induction d with
  | zero =>
    intro m B u v hm hB I
    have ee : m = t := by omega
    subst ee
    refine ⟨m, u, v, Nat.le_refl _, I, fun post n hn k => ?_, fun post n hn k => ?_⟩
    · obtain ⟨n, rfl⟩ : ∃ n', n = n' + 1 := ⟨n - 1, by omega⟩
      revert k
      refine kn_sx (P := fun u => post (nI m) u → kx_W5 post (nI p) (nI m) (n + 1) (nI m) (nI m) u) u ?_
      intro a1 a2 a3 a4 a5 a6 a7 a8 a9 a10 a11 a12 a13 a14 a15 a16 a17 a18 a19 a20 a21 a22 a23 a24 a25 a26 a27 a28 a29 a30 a31 a32 a33 a34 k
      exact br_t (nI_le (by omega) (by omega)) k
    · obtain ⟨n, rfl⟩ : ∃ n', n = n' + 1 := ⟨n - 1, by omega⟩
      revert k
      refine kn_sy (P := fun u => post (nI m) u → ky_W36 post (nI p) (nI m) (n + 1) (nI m) u) v ?_
      intro a1 a2 a3 a4 a5 a6 a7 a8 a9 a10 a11 a12 a13 a14 a15 a16 a17 a18 a19 a20 k
      exact br_t (nI_le (by omega) (by omega)) k
  | succ d ih =>
    intro m B u v hm hB I
    refine kn_el (P := fun u v => ∃ (s : Nat) (u' : SX) (v' : SY), s ≤ t ∧ kn_R (B + (d + 1)) np na ng nc sd u' v' ∧ (∀ (post : Int32 → SX → Prop) (n : Nat), d + 1 < n → post (nI s) u' → kx_W5 post (nI p) (nI t) n (nI m) (nI m) u) ∧ (∀ (post : Int32 → SY → Prop) (n : Nat), d + 1 < n → post (nI s) v' → ky_W36 post (nI p) (nI t) n (nI m) v)) I ?_
    intro nf on cn po w r c h wt b e aa ab rg hl dg hi ar tk I
    have V := I.1
    have hle := kn_st_le on cn po c h ab hl p
    by_cases hs : kn_st on cn po c h ab hl p = 1
    · obtain ⟨u1, v1, R1, X1, Y1⟩ := kn_step (rg := rg) (dg := dg) (hi := hi) I hp hs hsd (by omega)
      obtain ⟨s, u', v', h1, R2, XW, YW⟩ := ih (m + 1) (B + 1) u1 v1 (by omega) (by omega) R1
      refine ⟨s, u', v', h1, kn_R_B (by omega) R2, fun post n hn k => ?_, fun post n hn k => ?_⟩
      · obtain ⟨n, rfl⟩ : ∃ n', n = n' + 1 := ⟨n - 1, by omega⟩
        refine br_f (nI_ge (by omega) (by omega)) (kx_st V hp ?_)
        rw [hs]
        refine br_t rfl (X1 _ ?_)
        have K := XW post n (by omega) k
        revert K
        clear XW X1 R1
        revert u1
        refine kn_sxA ?_
        intro a1 a2 a3 a4 a5 a6 a7 a8 a9 a10 a11 a12 a13 a14 a15 a16 a17 a18 a19 a20 a21 a22 a23 a24 a25 a26 a27 a28 a29 a30 a31 a32 a33 a34 K
        exact nm_r (nI_1 m) (nm_r (nI_1 m) K)
      · obtain ⟨n, rfl⟩ : ∃ n', n = n' + 1 := ⟨n - 1, by omega⟩
        refine br_f (nI_ge (by omega) (by omega)) (ky_st V hp ?_)
        rw [hs]
        refine br_t rfl (Y1 _ ?_)
        have K := YW post n (by omega) k
        revert K
        clear YW Y1 R1
        revert v1
        refine kn_syA ?_
        intro a1 a2 a3 a4 a5 a6 a7 a8 a9 a10 a11 a12 a13 a14 a15 a16 a17 a18 a19 a20 K
        exact nm_r (nI_1 m) K
    · refine ⟨m, (0, 1, 2, 3, 4, 5, 6, 7, 8, 9, 10, nI np, nI na, nI ng, sd, nI nc, nI nf, kn_F on, aa, ab, kn_F cn, rg, kn_F po, hl, kn_F w, kn_F r, kn_F c, kn_F h, kn_F wt, dg, hi, ar, kn_F b, kn_F e), (nI np, nI na, nI ng, sd, nI nc, kn_F on, aa, ab, kn_F cn, rg, kn_F po, hl, kn_F w, kn_F r, kn_F c, kn_F h, kn_F wt, dg, tk, hi), by omega, kn_R_B (by omega) (kn_mk I), fun post n hn k => ?_, fun post n hn k => ?_⟩
      · obtain ⟨n, rfl⟩ : ∃ n', n = n' + 1 := ⟨n - 1, by omega⟩
        refine br_f (nI_ge (by omega) (by omega)) (kx_st V hp ?_)
        exact pk_eq (kn_st on cn po c h ab hl p) 1 (fun z => absurd z hs) (fun _ => k)
      · obtain ⟨n, rfl⟩ : ∃ n', n = n' + 1 := ⟨n - 1, by omega⟩
        refine br_f (nI_ge (by omega) (by omega)) (ky_st V hp ?_)
        exact pk_eq (kn_st on cn po c h ab hl p) 1 (fun z => absurd z hs) (fun _ => k)
theorem kn_run {B np na ng nc : Nat} {sd : Int32} {t p : Nat} {u : SX} {v : SY} (hp : p < np) (hsd : ¬ sd = 0) (h1 : 1 ≤ t) (ht : t ≤ 32) (hB : B + t < 2 ^ 30) (I : kn_R B np na ng nc sd u v) : ∃ (s : Nat) (u' : SX) (v' : SY), s ≤ t ∧ kn_R (B + t) np na ng nc sd u' v' ∧ (∀ post : Int32 → SX → Prop, post (nI s) u' → wpX_work post u (nI p) (nI t)) ∧ (∀ post : Int32 → SY → Prop, post (nI s) v' → wpY_run post v (nI p) (nI t)) := by
  obtain ⟨s, u', v', hs, R, XW, YW⟩ := kn_work hp hsd ht t 0 B u v (by omega) hB I
  refine ⟨s, u', v', hs, R, fun post k => ?_, fun post k => ?_⟩
  · have K := XW post (t + 1) (by omega) k
    revert K
    refine kn_sx (P := fun u => kx_W5 post (nI p) (nI t) (t + 1) (nI 0) (nI 0) u → wpX_work post u (nI p) (nI t)) u ?_
    intro a1 a2 a3 a4 a5 a6 a7 a8 a9 a10 a11 a12 a13 a14 a15 a16 a17 a18 a19 a20 a21 a22 a23 a24 a25 a26 a27 a28 a29 a30 a31 a32 a33 a34 K
    exact ⟨t + 1, K⟩
  · have K := YW post (t + 1) (by omega) k
    revert K
    refine kn_el (P := fun _ v => ky_W36 post (nI p) (nI t) (t + 1) (nI 0) v → wpY_run post v (nI p) (nI t)) I ?_
    intro nf on cn po w r c h wt b e aa ab rg hl dg hi ar tk I K
    refine br_f hsd (ky_bP0 hp I.1.1 (br_t rfl ?_))
    refine pk_lt t 1 (fun z => absurd z (by omega)) (fun _ => pk_le t 32 (fun _ => ⟨t + 1, K⟩) (fun z => absurd z (by omega)))
end
section
/-! sliding blocks -/
def kn_mv (ar A : Nat → Int32) (fr to lo hi : Nat) : Prop :=
  (∀ m, lo ≤ m → m < hi → A (to + m) = ar (fr + m)) ∧ ∀ x, ¬ (to + lo ≤ x ∧ x < to + hi) → A x = ar x
theorem kn_mv_0 (ar : Nat → Int32) (fr to i : Nat) : kn_mv ar ar fr to i i := ⟨fun m h1 h2 => by omega, fun _ _ => rfl⟩
theorem kn_mv_id (ar : Nat → Int32) (fr n : Nat) : kn_mv ar ar fr fr 0 n := ⟨fun _ _ _ => rfl, fun _ _ => rfl⟩
theorem kn_mv_dn {ar A : Nat → Int32} {fr to i hi : Nat} (h : kn_mv ar A fr to (i + 1) hi) (hf : fr ≤ to) (hi' : i < hi) : kn_mv ar (upd A (to + i) (A (fr + i))) fr to i hi := by
  obtain ⟨h1, h2⟩ := h
  have a : A (fr + i) = ar (fr + i) := h2 _ (by omega)
  rw [a]
  refine ⟨fun m hm hm' => ?_, fun x hx => ?_⟩
  · by_cases z : m = i
    · rw [z, pk_us]
    · rw [pk_un (by omega)]; exact h1 m (by omega) hm'
  · rw [pk_un (by omega)]; exact h2 x (by omega)
theorem kn_mv_up {ar A : Nat → Int32} {fr to i : Nat} (h : kn_mv ar A fr to 0 i) (hf : to ≤ fr) : kn_mv ar (upd A (to + i) (A (fr + i))) fr to 0 (i + 1) := by
  obtain ⟨h1, h2⟩ := h
  have a : A (fr + i) = ar (fr + i) := h2 _ (by omega)
  rw [a]
  refine ⟨fun m hm hm' => ?_, fun x hx => ?_⟩
  · by_cases z : m = i
    · rw [z, pk_us]
    · rw [pk_un (by omega)]; exact h1 m (by omega) (by omega)
  · rw [pk_un (by omega)]; exact h2 x (by omega)
def kn_pk (na : Nat) (c b0 : Nat → Nat) (ar0 : Nat → Int32) (b : Nat → Nat) (ar : Nat → Int32) : Prop :=
  (∀ i j, i < j → 0 < c i → 0 < c j → b i + c i ≤ b j) ∧ (∀ j, 0 < c j → b j + c j ≤ na) ∧ (∀ j, b j ≤ 64) ∧ (∀ j i, i < c j → ar (b j + i) = ar0 (b0 j + i))
theorem kn_pk_mv {na d to : Nat} {c b0 b : Nat → Nat} {ar0 ar A : Nat → Int32} (hna : na ≤ 64) (K : kn_pk na c b0 ar0 b ar) (h0 : 0 < c d) (hA : kn_mv ar A (b d) to 0 (c d)) (h1 : ∀ i, i < d → 0 < c i → b i + c i ≤ to) (h2 : ∀ j, d < j → 0 < c j → to + c d ≤ b j) (h3 : to + c d ≤ na) : kn_pk na c b0 ar0 (kn_U b d to) A := by
  obtain ⟨k1, k2, k3, k4⟩ := K
  obtain ⟨a1, a2⟩ := hA
  refine ⟨fun i j hij hi hj => ?_, fun j hj => ?_, fun j => ?_, fun j i hi => ?_⟩
  · rcases kn_uc b d to i with ⟨y, y'⟩ | ⟨y, y'⟩
    · rcases kn_uc b d to j with ⟨z, z'⟩ | ⟨z, z'⟩
      · omega
      · rw [y', z', y]; exact h2 j (by omega) hj
    · rcases kn_uc b d to j with ⟨z, z'⟩ | ⟨z, z'⟩
      · rw [y', z']; exact h1 i (by omega) hi
      · rw [y', z']; exact k1 i j hij hi hj
  · rcases kn_uc b d to j with ⟨z, z'⟩ | ⟨z, z'⟩
    · rw [z', z]; exact h3
    · rw [z']; exact k2 j hj
  · rcases kn_uc b d to j with ⟨z, z'⟩ | ⟨z, z'⟩
    · rw [z']; omega
    · rw [z']; exact k3 j
  · rcases kn_uc b d to j with ⟨z, z'⟩ | ⟨z, z'⟩
    · rw [z']
      rw [z] at hi ⊢
      rw [a1 i (by omega) hi]
      exact k4 d i hi
    · rw [z']
      have ne : ¬ (to + 0 ≤ b j + i ∧ b j + i < to + c d) := by
        rcases Nat.lt_or_ge j d with y | y
        · have := h1 j y (by omega); omega
        · have := h2 j (by omega) (by omega); omega
      rw [a2 _ ne]
      exact k4 j i hi
section
variable {np na ng nc nf : Nat} {sd : Int32} {on cn po w r c h wt b e : Nat → Nat} {aa ab rg hl dg hi ar tk : Nat → Int32}
theorem kn_pm1 (i : Nat) : nI i + (-1) = nI i - 1 := by
  rw [Int32.sub_eq_add_neg]
theorem kn_neg1 : nI 0 - 1 < 0 := by decide
theorem kx_mv68 {post : SX → Prop} {d fr to : Nat} {ar0 : Nat → Int32} (hd : d < 8) (h1 : fr ≤ to) (h2 : to + c d ≤ 64) (k : ∀ A, kn_mv ar0 A fr to 0 (c d) → post (0, 1, 2, 3, 4, 5, 6, 7, 8, 9, 10, nI np, nI na, nI ng, sd, nI nc, nI nf, kn_F on, aa, ab, kn_F cn, rg, kn_F po, hl, kn_F w, kn_F r, kn_F c, kn_F h, kn_F wt, dg, hi, A, kn_F (kn_U b d to), kn_F e)) : ∀ (i n : Nat) (A : Nat → Int32), i < n → i ≤ c d → kn_mv ar0 A fr to i (c d) → wX_moveBlock_68 post (nI d) (nI to) (nI fr) 0 1 2 3 4 5 6 7 8 9 10 (nI np) (nI na) (nI ng) sd (nI nc) (nI nf) n (nI i - 1) (kn_F on) aa ab (kn_F cn) rg (kn_F po) hl (kn_F w) (kn_F r) (kn_F c) (kn_F h) (kn_F wt) dg hi A (kn_F b) (kn_F e) := by
  have i8 : vp_in (nI d) 8 := vp_in_nI hd (by omega)
  have cd : (nI d).toNatClampNeg = d := nI_clamp (by omega)
  intro i
  induction i with
  | zero =>
    intro n A hn hi hA
    obtain ⟨n, rfl⟩ : ∃ n', n = n' + 1 := ⟨n - 1, by omega⟩
    exact br_t kn_neg1 ⟨i8, nm_r (kn_upd' cd rfl) (k A hA)⟩
  | succ i ih =>
    intro n A hn hi hA
    obtain ⟨n, rfl⟩ : ∃ n', n = n' + 1 := ⟨n - 1, by omega⟩
    have I := ih n _ (by omega) (by omega) (kn_mv_dn hA h1 (by omega))
    rw [nI_pred]
    unfold wX_moveBlock_68
    rw [nI_add, nI_add, kn_pm1, nI_clamp (n := fr + i) (by omega), nI_clamp (n := to + i) (by omega)]
    exact br_f (nI_pos (by omega)) ⟨vp_in_nI (by omega) (by omega), vp_in_nI (by omega) (by omega), nm_e (nm_e I)⟩
theorem kx_mv15 {post : SX → Prop} {d fr to : Nat} {ar0 : Nat → Int32} (hd : d < 8) (h1 : to ≤ fr) (h2 : fr + c d ≤ 64) (k : ∀ A, kn_mv ar0 A fr to 0 (c d) → post (0, 1, 2, 3, 4, 5, 6, 7, 8, 9, 10, nI np, nI na, nI ng, sd, nI nc, nI nf, kn_F on, aa, ab, kn_F cn, rg, kn_F po, hl, kn_F w, kn_F r, kn_F c, kn_F h, kn_F wt, dg, hi, A, kn_F (kn_U b d to), kn_F e)) : ∀ (m i n : Nat) (A : Nat → Int32), i + m = c d → m < n → kn_mv ar0 A fr to 0 i → wX_moveBlock_15 post (nI d) (nI to) (nI fr) 0 1 2 3 4 5 6 7 8 9 10 (nI np) (nI na) (nI ng) sd (nI nc) (nI nf) n (nI i) (kn_F on) aa ab (kn_F cn) rg (kn_F po) hl (kn_F w) (kn_F r) (kn_F c) (kn_F h) (kn_F wt) dg hi A (kn_F b) (kn_F e) := by
  have i8 : vp_in (nI d) 8 := vp_in_nI hd (by omega)
  have cd : (nI d).toNatClampNeg = d := nI_clamp (by omega)
  intro m
  induction m with
  | zero =>
    intro i n A hi hn hA
    obtain ⟨n, rfl⟩ : ∃ n', n = n' + 1 := ⟨n - 1, by omega⟩
    have ee : i = c d := by omega
    subst ee
    unfold wX_moveBlock_15
    rw [kn_rd (by omega)]
    exact ⟨i8, br_t (nI_le (by omega) (by omega)) ⟨i8, nm_r (kn_upd' cd rfl) (k A hA)⟩⟩
  | succ m ih =>
    intro i n A hi hn hA
    obtain ⟨n, rfl⟩ : ∃ n', n = n' + 1 := ⟨n - 1, by omega⟩
    have I := ih (i + 1) n _ (by omega) (by omega) (kn_mv_up hA h1)
    unfold wX_moveBlock_15
    rw [kn_rd (by omega), nI_add, nI_add, nI_clamp (n := fr + i) (by omega), nI_clamp (n := to + i) (by omega)]
    exact ⟨i8, br_f (nI_ge (by omega) (by omega)) ⟨vp_in_nI (by omega) (by omega), vp_in_nI (by omega) (by omega), nm_e (nm_r (nI_1 i) I)⟩⟩
theorem kx_move {post : SX → Prop} {d to : Nat} (hd : d < 8) (h1 : b d + c d ≤ 64) (h2 : to + c d ≤ 64) (k : ∀ A, kn_mv ar A (b d) to 0 (c d) → post (0, 1, 2, 3, 4, 5, 6, 7, 8, 9, 10, nI np, nI na, nI ng, sd, nI nc, nI nf, kn_F on, aa, ab, kn_F cn, rg, kn_F po, hl, kn_F w, kn_F r, kn_F c, kn_F h, kn_F wt, dg, hi, A, kn_F (kn_U b d to), kn_F e)) : wpX_moveBlock post (0, 1, 2, 3, 4, 5, 6, 7, 8, 9, 10, nI np, nI na, nI ng, sd, nI nc, nI nf, kn_F on, aa, ab, kn_F cn, rg, kn_F po, hl, kn_F w, kn_F r, kn_F c, kn_F h, kn_F wt, dg, hi, ar, kn_F b, kn_F e) (nI d) (nI to) := by
  have i8 : vp_in (nI d) 8 := vp_in_nI hd (by omega)
  have cd : (nI d).toNatClampNeg = d := nI_clamp (by omega)
  unfold wpX_moveBlock
  refine ⟨i8, nm_r (kn_rd (by omega)) ?_⟩
  refine pk_le (b d) to (fun z => pk_le to (b d) (fun y => ?_) (fun y => ?_)) (fun z => ?_)
  · have ee : b d = to := by omega
    refine ⟨i8, nm_r (kn_upd' cd rfl) (k ar ?_)⟩
    rw [ee]; exact kn_mv_id ar to (c d)
  · refine ⟨i8, nm_r (e' := nI (c d) - 1) (by rw [kn_rd (by omega)]) ⟨c d + 1, ?_⟩⟩
    exact kx_mv68 hd (by omega) h2 k (c d) (c d + 1) ar (by omega) (by omega) (kn_mv_0 ar (b d) to (c d))
  · exact ⟨c d + 1, kx_mv15 hd (by omega) h1 k (c d) 0 (c d + 1) ar (by omega) (by omega) (kn_mv_0 ar (b d) to 0)⟩
theorem kx_pd4 {post : SX → Prop} {d : Nat} {b0 : Nat → Nat} {ar0 : Nat → Int32} (hd : d < nc) (hn : nc ≤ 8) (hna : na ≤ 64) (h64 : ∀ j, c j ≤ 64) (hS : kn_S c nc ≤ na)
  (k : ∀ b ar, kn_pk na c b0 ar0 b ar → (∀ i, i < d + 1 → 0 < c i → b i + c i ≤ kn_S c (d + 1)) → post (0, 1, 2, 3, 4, 5, 6, 7, 8, 9, 10, nI np, nI na, nI ng, sd, nI nc, nI nf, kn_F on, aa, ab, kn_F cn, rg, kn_F po, hl, kn_F w, kn_F r, kn_F c, kn_F h, kn_F wt, dg, hi, ar, kn_F b, kn_F e)) : ∀ (m i n : Nat) (b : Nat → Nat) (ar : Nat → Int32), i + m = d + 1 → m < n → kn_pk na c b0 ar0 b ar → (∀ j, j < i → 0 < c j → b j + c j ≤ kn_S c i) → (∀ j, i ≤ j → 0 < c j → kn_S c i ≤ b j) → wX_packDown_4 post (nI d) n (nI (kn_S c i)) (nI i) 0 1 2 3 4 5 6 7 8 9 10 (nI np) (nI na) (nI ng) sd (nI nc) (nI nf) (kn_F on) aa ab (kn_F cn) rg (kn_F po) hl (kn_F w) (kn_F r) (kn_F c) (kn_F h) (kn_F wt) dg hi ar (kn_F b) (kn_F e) := by
  intro m
  induction m with
  | zero =>
    intro i n b ar hi hn K h1 h2
    obtain ⟨n, rfl⟩ : ∃ n', n = n' + 1 := ⟨n - 1, by omega⟩
    have ee : i = d + 1 := by omega
    subst ee
    exact br_t (nI_lt (by omega) (by omega)) (k b ar K h1)
  | succ m ih =>
    intro i n b ar hi hn K h1 h2
    obtain ⟨n, rfl⟩ : ∃ n', n = n' + 1 := ⟨n - 1, by omega⟩
    have i8 : vp_in (nI i) 8 := vp_in_nI (by omega) (by omega)
    have q1 := h64 i
    have sS : kn_S c (i + 1) = kn_S c i + c i := rfl
    have s1 := kn_S_mono (f := c) (m := i + 1) (n := nc) (by omega)
    refine br_f (nI_nlt (by omega) (by omega)) ⟨i8, ?_⟩
    rw [kn_rd (by omega)]
    refine pk_le (c i) 0 (fun z => ?_) (fun z => ?_)
    · have I := ih (i + 1) n b ar (by omega) (by omega) K (fun j hj hc => ?_) (fun j hj hc => ?_)
      · rw [sS, show c i = 0 by omega, Nat.add_zero] at I
        exact nm_r (nI_1 i) I
      · rcases Nat.lt_or_ge j i with y | y
        · have := h1 j y hc; omega
        · have : j = i := by omega
          subst this; omega
      · have := h2 j (by omega) hc; omega
    · have k2 := K.2.1 i z
      have k3 := h2 i (Nat.le_refl _) z
      refine kx_move (by omega) (by omega) (by omega) (fun A hA => ?_)
      have a1 : ∀ j, i < j → 0 < c j → kn_S c i + c i ≤ b j := fun j hj hc => by
        have := K.1 i j hj z hc; omega
      have K' := kn_pk_mv hna K z hA h1 a1 (by omega)
      have I := ih (i + 1) n _ _ (by omega) (by omega) K' (fun j hj hc => ?_) (fun j hj hc => ?_)
      · refine ⟨i8, nm_r (e' := nI (kn_S c (i + 1))) ?_ (nm_r (nI_1 i) I)⟩
        rw [kn_rd (by omega), nI_add]; rfl
      · rcases kn_uc b i (kn_S c i) j with ⟨y, y'⟩ | ⟨y, y'⟩
        · rw [y', y, sS]; omega
        · rw [y']
          have := h1 j (by omega) hc; omega
      · rcases kn_uc b i (kn_S c i) j with ⟨y, y'⟩ | ⟨y, y'⟩
        · omega
        · rw [y', sS]; exact a1 j (by omega) hc
theorem kx_pd {post : SX → Prop} {d : Nat} (hd : d < nc) (hn : nc ≤ 8) (hna : na ≤ 64) (h64 : ∀ j, c j ≤ 64) (hS : kn_S c nc ≤ na) (K : kn_pk na c b ar b ar)
  (k : ∀ b' ar', kn_pk na c b ar b' ar' → (∀ i, i < d + 1 → 0 < c i → b' i + c i ≤ kn_S c (d + 1)) → post (0, 1, 2, 3, 4, 5, 6, 7, 8, 9, 10, nI np, nI na, nI ng, sd, nI nc, nI nf, kn_F on, aa, ab, kn_F cn, rg, kn_F po, hl, kn_F w, kn_F r, kn_F c, kn_F h, kn_F wt, dg, hi, ar', kn_F (b'), kn_F e)) : wpX_packDown post (0, 1, 2, 3, 4, 5, 6, 7, 8, 9, 10, nI np, nI na, nI ng, sd, nI nc, nI nf, kn_F on, aa, ab, kn_F cn, rg, kn_F po, hl, kn_F w, kn_F r, kn_F c, kn_F h, kn_F wt, dg, hi, ar, kn_F b, kn_F e) (nI d) := by
  unfold wpX_packDown
  exact ⟨d + 2, kx_pd4 (b0 := b) (ar0 := ar) hd hn hna h64 hS k (d + 1) 0 (d + 2) b ar (by omega) (by omega) K (fun j hj _ => absurd hj (Nat.not_lt_zero j)) (fun j _ _ => Nat.zero_le _)⟩
theorem kx_pu12 {post : SX → Prop} {d : Nat} {b0 : Nat → Nat} {ar0 : Nat → Int32} (hn : nc ≤ 8) (hna : na ≤ 64) (h64 : ∀ j, c j ≤ 64) (hS : nf + kn_S c nc = na)
  (k : ∀ b ar, kn_pk na c b0 ar0 b ar → (∀ j, d < j → 0 < c j → nf + kn_S c (d + 1) ≤ b j) → b d + c d ≤ kn_S c (d + 1) → post (0, 1, 2, 3, 4, 5, 6, 7, 8, 9, 10, nI np, nI na, nI ng, sd, nI nc, nI nf, kn_F on, aa, ab, kn_F cn, rg, kn_F po, hl, kn_F w, kn_F r, kn_F c, kn_F h, kn_F wt, dg, hi, ar, kn_F b, kn_F e)) : ∀ (s n : Nat) (b : Nat → Nat) (ar : Nat → Int32), d + s < nc → s < n → kn_pk na c b0 ar0 b ar → (∀ j, d + s < j → 0 < c j → nf + kn_S c (d + s + 1) ≤ b j) → (∀ i, i ≤ d + s → 0 < c i → b i + c i ≤ nf + kn_S c (d + s + 1)) → b d + c d ≤ kn_S c (d + 1) → wX_packUp_12 post (nI d) n (nI (nf + kn_S c (d + s + 1))) (nI (d + s)) 0 1 2 3 4 5 6 7 8 9 10 (nI np) (nI na) (nI ng) sd (nI nc) (nI nf) (kn_F on) aa ab (kn_F cn) rg (kn_F po) hl (kn_F w) (kn_F r) (kn_F c) (kn_F h) (kn_F wt) dg hi ar (kn_F b) (kn_F e) := by
  intro s
  induction s with
  | zero =>
    intro n b ar hs hn K h1 h2 h3
    obtain ⟨n, rfl⟩ : ∃ n', n = n' + 1 := ⟨n - 1, by omega⟩
    exact br_t (nI_le (by omega) (by omega)) (k b ar K h1 h3)
  | succ s ih =>
    intro n b ar hs hn K h1 h2 h3
    obtain ⟨n, rfl⟩ : ∃ n', n = n' + 1 := ⟨n - 1, by omega⟩
    have i8 : vp_in (nI (d + (s + 1))) 8 := vp_in_nI (by omega) (by omega)
    have q1 := h64 (d + s + 1)
    have q1' := h64 (d + (s + 1))
    have sS : kn_S c (d + (s + 1) + 1) = kn_S c (d + s + 1) + c (d + s + 1) := rfl
    have s1 := kn_S_mono (f := c) (m := d + (s + 1) + 1) (n := nc) (by omega)
    have dn : nI (d + (s + 1)) + (-1) = nI (d + s) := pk_m1 (d + s)
    refine br_f (nI_ge (by omega) (by omega)) ⟨i8, ?_⟩
    rw [kn_rd (by omega)]
    refine pk_le (c (d + (s + 1))) 0 (fun z => ?_) (fun z => ?_)
    · have z' : c (d + s + 1) = 0 := by have : c (d + (s + 1)) = c (d + s + 1) := rfl
                                        omega
      have I := ih n b ar (by omega) (by omega) K (fun j hj hc => ?_) (fun j hj hc => ?_) h3
      · rw [sS, z', Nat.add_zero]
        exact nm_r dn I
      · rcases Nat.lt_or_ge (d + (s + 1)) j with y | y
        · have := h1 j y hc; omega
        · have : j = d + s + 1 := by omega
          subst this; omega
      · have := h2 j (by omega) hc; omega
    · have z' : 0 < c (d + s + 1) := z
      have k2 := h2 (d + (s + 1)) (Nat.le_refl _) z
      have k2' : b (d + s + 1) + c (d + s + 1) ≤ nf + kn_S c (d + (s + 1) + 1) := k2
      have e1 : nI (nf + kn_S c (d + (s + 1) + 1)) - nI (c (d + (s + 1))) = nI (nf + kn_S c (d + s + 1)) := by
        rw [pk_sub (by rw [sS]; show c (d + s + 1) ≤ _; omega)]
        exact congrArg nI (by rw [sS]; show nf + (kn_S c (d + s + 1) + c (d + s + 1)) - c (d + s + 1) = _; omega)
      refine ⟨i8, nm_r e1 ?_⟩
      refine kx_move (d := d + (s + 1)) (by omega) (by show b (d + s + 1) + c (d + s + 1) ≤ 64; omega) (by show _ + c (d + s + 1) ≤ 64; omega) (fun A hA => ?_)
      have a1 : ∀ i, i < d + s + 1 → 0 < c i → b i + c i ≤ nf + kn_S c (d + s + 1) := fun i hi hc => by
        have := K.1 i (d + s + 1) hi hc z'; omega
      have K' := kn_pk_mv hna K z hA a1 (fun j hj hc => by have := h1 j hj hc; show _ + c (d + s + 1) ≤ _; omega) (by show _ + c (d + s + 1) ≤ _; omega)
      have I := ih n _ _ (by omega) (by omega) K' (fun j hj hc => ?_) (fun j hj hc => ?_) ?_
      · exact nm_r dn I
      · rcases kn_uc b (d + (s + 1)) (nf + kn_S c (d + s + 1)) j with ⟨y, y'⟩ | ⟨y, y'⟩
        · rw [y']; exact Nat.le_refl _
        · rw [y']
          have := h1 j (by omega) hc; omega
      · rcases kn_uc b (d + (s + 1)) (nf + kn_S c (d + s + 1)) j with ⟨y, y'⟩ | ⟨y, y'⟩
        · omega
        · rw [y']; exact a1 j (by omega) hc
      · rw [kn_un (by omega)]; exact h3
theorem kx_pu {post : SX → Prop} {d : Nat} {b0 : Nat → Nat} {ar0 : Nat → Int32} (hd : d < nc) (hn : nc ≤ 8) (hna : na ≤ 64) (h64 : ∀ j, c j ≤ 64) (hS : nf + kn_S c nc = na) (hz : ∀ j, nc ≤ j → c j = 0) (K : kn_pk na c b0 ar0 b ar) (h3 : b d + c d ≤ kn_S c (d + 1))
  (k : ∀ b' ar', kn_pk na c b0 ar0 b' ar' → (∀ j, d < j → 0 < c j → nf + kn_S c (d + 1) ≤ b' j) → b' d + c d ≤ kn_S c (d + 1) → post (0, 1, 2, 3, 4, 5, 6, 7, 8, 9, 10, nI np, nI na, nI ng, sd, nI nc, nI nf, kn_F on, aa, ab, kn_F cn, rg, kn_F po, hl, kn_F w, kn_F r, kn_F c, kn_F h, kn_F wt, dg, hi, ar', kn_F (b'), kn_F e)) : wpX_packUp post (0, 1, 2, 3, 4, 5, 6, 7, 8, 9, 10, nI np, nI na, nI ng, sd, nI nc, nI nf, kn_F on, aa, ab, kn_F cn, rg, kn_F po, hl, kn_F w, kn_F r, kn_F c, kn_F h, kn_F wt, dg, hi, ar, kn_F b, kn_F e) (nI d) := by
  obtain ⟨s, hs⟩ : ∃ s, nc = d + s + 1 := ⟨nc - d - 1, by omega⟩
  unfold wpX_packUp
  refine nm_r (e' := nI (d + s)) ?_ ⟨s + 1, ?_⟩
  · rw [hs]; exact nI_pred (d + s)
  have I := kx_pu12 (d := d) (b0 := b0) (ar0 := ar0) hn hna h64 hS k s (s + 1) b ar (by omega) (by omega) K (fun j hj hc => by have := hz j (by omega); omega) (fun i hi hc => by rw [← hs, hS]; exact K.2.1 i hc) h3
  rw [← hs, hS] at I
  exact I
end
end
section
/-! growing a channel -/
section
variable {np na ng nc nf : Nat} {sd : Int32} {on cn po w r c h wt b e : Nat → Nat} {aa ab rg hl dg hi ar tk : Nat → Int32}
theorem kx_ga18 {post : Int32 → Prop} {d x : Nat} (hn : nc ≤ 8) (hna : na ≤ 64) (hx : x = b d + c d) (hxna : x ≤ na) (h64 : ∀ j, c j ≤ 64) (h1 : ∀ i j, i < j → 0 < c i → 0 < c j → b i + c i ≤ b j) (h2 : ∀ j, 0 < c j → b j + c j ≤ na) (hz : ∀ j, nc ≤ j → c j = 0) (h0 : 0 < c d)
  (k : ∀ g, g ≤ 64 → (∀ t, t ≤ g → (∀ j, d < j → 0 < c j → b d + c d + t ≤ b j) ∧ b d + c d + t ≤ na) → post (nI g)) : ∀ (s m n : Nat), m + s = nc → s < n → d < m → (∀ j, d < j → j < m → c j = 0) → wX_gapAbove_18 post (nI x) 0 1 2 3 4 5 6 7 8 9 10 (nI np) (nI na) (nI ng) sd (nI nc) (nI nf) (kn_F on) aa ab (kn_F cn) rg (kn_F po) hl (kn_F w) (kn_F r) (kn_F c) (kn_F h) (kn_F wt) dg hi ar (kn_F b) (kn_F e) n (nI m) := by
  intro s
  induction s with
  | zero =>
    intro m n hm hn hd hj
    obtain ⟨n, rfl⟩ : ∃ n', n = n' + 1 := ⟨n - 1, by omega⟩
    refine br_t (nI_le (by omega) (by omega)) ?_
    rw [pk_sub hxna]
    refine k _ (by omega) (fun t ht => ⟨fun j hdj hc => ?_, by omega⟩)
    rcases Nat.lt_or_ge j m with z | z
    · have := hj j hdj z; omega
    · have := hz j (by omega); omega
  | succ s ih =>
    intro m n hm hn hd hj
    obtain ⟨n, rfl⟩ : ∃ n', n = n' + 1 := ⟨n - 1, by omega⟩
    have i8 : vp_in (nI m) 8 := vp_in_nI (by omega) (by omega)
    have q := h64 m
    refine br_f (nI_ge (by omega) (by omega)) ⟨i8, ?_⟩
    rw [kn_rd (by omega), kn_rd (by omega)]
    refine pk_le (c m) 0 (fun z => ?_) (fun z => ⟨i8, ?_⟩)
    · refine nm_r (nI_1 m) (ih (m + 1) n (by omega) (by omega) (by omega) (fun j h1 h2 => ?_))
      rcases Nat.lt_or_ge j m with y | y
      · exact hj j h1 y
      · have : j = m := by omega
        subst this; omega
    · have a := h1 d m hd h0 z
      have a2 := h2 m z
      rw [pk_sub (by omega)]
      refine k _ (by omega) (fun t ht => ⟨fun j hdj hc => ?_, by omega⟩)
      rcases Nat.lt_trichotomy j m with y | y | y
      · have := hj j hdj y; omega
      · rw [y]; omega
      · have := h1 m j y z hc; omega
theorem kx_gap {post : Int32 → Prop} {d : Nat} (hd : d < nc) (hn : nc ≤ 8) (hna : na ≤ 64) (h64 : ∀ j, c j ≤ 64) (h1 : ∀ i j, i < j → 0 < c i → 0 < c j → b i + c i ≤ b j) (h2 : ∀ j, 0 < c j → b j + c j ≤ na) (hz : ∀ j, nc ≤ j → c j = 0) (h0 : 0 < c d)
  (k : ∀ g, g ≤ 64 → (∀ t, t ≤ g → (∀ j, d < j → 0 < c j → b d + c d + t ≤ b j) ∧ b d + c d + t ≤ na) → post (nI g)) : wpX_gapAbove post (0, 1, 2, 3, 4, 5, 6, 7, 8, 9, 10, nI np, nI na, nI ng, sd, nI nc, nI nf, kn_F on, aa, ab, kn_F cn, rg, kn_F po, hl, kn_F w, kn_F r, kn_F c, kn_F h, kn_F wt, dg, hi, ar, kn_F b, kn_F e) (nI d) := by
  have i8 : vp_in (nI d) 8 := vp_in_nI (by omega) (by omega)
  have a2 := h2 d h0
  unfold wpX_gapAbove
  refine ⟨i8, i8, nm_r (e' := nI (b d + c d)) (by rw [kn_rd (by omega), kn_rd (by omega), nI_add]) (nm_r (nI_1 d) ⟨nc + 1, ?_⟩)⟩
  obtain ⟨s, hs⟩ : ∃ s, (d + 1) + s = nc := ⟨nc - d - 1, by omega⟩
  exact kx_ga18 hn hna rfl a2 h64 h1 h2 hz h0 k s (d + 1) (nc + 1) hs (by omega) (by omega) (fun j h1 h2 => by omega)
theorem kn_cell_0 (b e c i : Nat) : kn_cell b e c i = b + kn_cell 0 e c i := by
  unfold kn_cell
  by_cases z : e + i < c
  · rw [if_pos z, if_pos z]; omega
  · rw [if_neg z, if_neg z]; omega
theorem kn_M_pk {b' : Nat → Nat} {ar' : Nat → Int32} (M : kn_M na nc nf c h b e ar tk) (hh : ∀ j, h j ≤ c j) (K : kn_pk na c b ar b' ar') : kn_M na nc nf c h b' e ar' tk := by
  obtain ⟨m1, m2, m3, m4, m5, m6, m7, m8⟩ := M
  obtain ⟨k1, k2, k3, k4⟩ := K
  refine ⟨m1, m2, m3, m4, k3, k1, k2, fun j i hi => ?_⟩
  have a := hh j
  have q := m4 j (by omega)
  have cc := kn_cell_in (b := 0) (e := e j) (c := c j) (i := i) q (by omega)
  rw [kn_cell_0, k4 j _ (by omega), ← kn_cell_0]
  exact m8 j i hi
theorem kn_M_en0 {d g : Nat} (M : kn_M na nc nf c h b e ar tk) (hd : d < nc) (hh : ∀ j, h j ≤ c j) (h0 : 0 < c d) (hg : g ≤ nf) (g1 : ∀ j, d < j → 0 < c j → b d + c d + g ≤ b j) (g2 : b d + c d + g ≤ na)
  (A : Nat → Int32) (e' : Nat) (he : e' < c d + g) (hA : ∀ x, ¬ (b d + e d + g ≤ x ∧ x < b d + c d + g) → A x = ar x) (hc : ∀ i, i < h d → A (kn_cell (b d) e' (c d + g) i) = ar (kn_cell (b d) (e d) (c d) i)) : kn_M na nc (nf - g) (kn_U c d (c d + g)) h b (kn_U e d e') A tk := by
  obtain ⟨m1, m2, m3, m4, m5, m6, m7, m8⟩ := M
  have sS := kn_S_hi (f := c) (k := d) (v := c d + g) (n := nc) hd
  have ed := m4 d h0
  refine ⟨by omega, fun j hj => ?_, fun j => ?_, fun j hj => ?_, m5, fun i j hij hi hj => ?_, fun j hj => ?_, fun j i hi => ?_⟩
  · rw [kn_un (by omega)]; exact m2 j hj
  · rcases kn_uc c d (c d + g) j with ⟨z, z'⟩ | ⟨z, z'⟩
    · rw [z', z, kn_us]; omega
    · rw [z', kn_un z]; exact m3 j
  · rcases kn_uc c d (c d + g) j with ⟨z, z'⟩ | ⟨z, z'⟩
    · rw [z', z, kn_us]; omega
    · rw [z'] at hj ⊢
      rw [kn_un z]; exact m4 j hj
  · rcases kn_uc c d (c d + g) i with ⟨y, y'⟩ | ⟨y, y'⟩
    · rcases kn_uc c d (c d + g) j with ⟨z, z'⟩ | ⟨z, z'⟩
      · omega
      · rw [y', y]; rw [z'] at hj
        have := g1 j (by omega) hj; omega
    · rw [y'] at hi ⊢
      rcases kn_uc c d (c d + g) j with ⟨z, z'⟩ | ⟨z, z'⟩
      · rw [z]; exact m6 i d (by omega) hi h0
      · rw [z'] at hj; exact m6 i j hij hi hj
  · rcases kn_uc c d (c d + g) j with ⟨z, z'⟩ | ⟨z, z'⟩
    · rw [z', z]; omega
    · rw [z'] at hj ⊢; exact m7 j hj
  · by_cases z : j = d
    · subst z
      rw [kn_us, kn_us, hc i hi]
      exact m8 j i hi
    · rw [kn_un z, kn_un z]
      have a := hh j
      have q := m4 j (by omega)
      have cc := kn_cell_in (b := b j) (e := e j) (c := c j) (i := i) q (by omega)
      rw [hA]
      · exact m8 j i hi
      · rcases Nat.lt_or_ge j d with y | y
        · have := m6 j d y (by omega) h0; omega
        · have := g1 j (by omega) (by omega); omega
theorem kx_en110 {post : SX → Prop} {d : Nat} (hd : d < 8) (hg : ng ≤ nf) (k : post (0, 1, 2, 3, 4, 5, 6, 7, 8, 9, 10, nI np, nI na, nI ng, sd, nI nc, nI (nf - ng), kn_F on, aa, ab, kn_F cn, rg, kn_F po, hl, kn_F w, kn_F r, kn_F (kn_U c d (c d + ng)), kn_F h, kn_F wt, dg, hi, ar, kn_F b, kn_F e)) : wX_enlarge_110 post (nI d) (nI (c d)) 0 1 2 3 4 5 6 7 8 9 10 (nI np) (nI na) (nI ng) sd (nI nc) (nI nf) (kn_F on) aa ab (kn_F cn) rg (kn_F po) hl (kn_F w) (kn_F r) (kn_F c) (kn_F h) (kn_F wt) dg hi ar (kn_F b) (kn_F e) := by
  unfold wX_enlarge_110
  exact ⟨vp_in_nI hd (by omega), nm_r (kn_upd' (nI_clamp (by omega)) (nI_add _ _)) (nm_r (pk_sub hg) k)⟩
theorem kx_en50 {post : SX → Prop} {d : Nat} {ar0 : Nat → Int32} (hd : d < 8) (hg : ng ≤ nf) (h1 : b d + c d + ng ≤ 64) (he : 1 ≤ e d) (k : ∀ A, kn_mv ar0 A (b d) (b d + ng) (e d) (c d) → post (0, 1, 2, 3, 4, 5, 6, 7, 8, 9, 10, nI np, nI na, nI ng, sd, nI nc, nI (nf - ng), kn_F on, aa, ab, kn_F cn, rg, kn_F po, hl, kn_F w, kn_F r, kn_F (kn_U c d (c d + ng)), kn_F h, kn_F wt, dg, hi, A, kn_F b, kn_F (kn_U e d (e d + ng)))) : ∀ (s q n : Nat) (A : Nat → Int32), q + 1 = e d + s → q < c d → s < n → kn_mv ar0 A (b d) (b d + ng) (q + 1) (c d) → wX_enlarge_50 post (nI d) (nI (c d)) 0 1 2 3 4 5 6 7 8 9 10 (nI np) (nI na) (nI ng) sd (nI nc) (nI nf) n (nI q) (kn_F on) aa ab (kn_F cn) rg (kn_F po) hl (kn_F w) (kn_F r) (kn_F c) (kn_F h) (kn_F wt) dg hi A (kn_F b) (kn_F e) := by
  have i8 : vp_in (nI d) 8 := vp_in_nI hd (by omega)
  have cd : (nI d).toNatClampNeg = d := nI_clamp (by omega)
  intro s
  induction s with
  | zero =>
    intro q n A hq hq2 hn hA
    obtain ⟨n, rfl⟩ : ∃ n', n = n' + 1 := ⟨n - 1, by omega⟩
    unfold wX_enlarge_50
    simp only [cd, kn_ap]
    refine ⟨i8, br_t (nI_lt (by omega) (by omega)) ⟨i8, i8, nm_r (kn_upd' (v := e d + ng) rfl (nI_add _ _)) ?_⟩⟩
    refine kx_en110 hd hg (k A ?_)
    have ee : q + 1 = e d := by omega
    rw [ee] at hA; exact hA
  | succ s ih =>
    intro q n A hq hq2 hn hA
    obtain ⟨n, rfl⟩ : ∃ n', n = n' + 1 := ⟨n - 1, by omega⟩
    obtain ⟨q, rfl⟩ : ∃ q', q = q' + 1 := ⟨q - 1, by omega⟩
    have I := ih q n _ (by omega) (by omega) (by omega) (kn_mv_dn hA (by omega) hq2)
    have e3 : b d + ng + (q + 1) = b d + (q + 1) + ng := by omega
    rw [e3] at I
    unfold wX_enlarge_50
    simp only [cd, kn_ap]
    rw [nI_add (b d) (q + 1), nI_add (b d + (q + 1)) ng, pk_m1, nI_clamp (n := b d + (q + 1)) (by omega), nI_clamp (n := b d + (q + 1) + ng) (by omega)]
    exact ⟨i8, br_f (nI_nlt (by omega) (by omega)) ⟨i8, i8, vp_in_nI (by omega) (by omega), vp_in_nI (by omega) (by omega), nm_e (nm_e I)⟩⟩
theorem kx_en22 {post : SX → Prop} {d : Nat} (M : kn_M na nc nf c h b e ar tk) (hd : d < nc) (hn : nc ≤ 8) (hna : na ≤ 64) (h64 : ∀ j, c j ≤ 64) (hh : ∀ j, h j ≤ c j) (h0 : 0 < c d) (hg : ng ≤ nf) (g1 : ∀ j, d < j → 0 < c j → b d + c d + ng ≤ b j) (g2 : b d + c d + ng ≤ na)
  (k : ∀ (e' : Nat → Nat) (A : Nat → Int32), kn_M na nc (nf - ng) (kn_U c d (c d + ng)) h b e' A tk → post (0, 1, 2, 3, 4, 5, 6, 7, 8, 9, 10, nI np, nI na, nI ng, sd, nI nc, nI (nf - ng), kn_F on, aa, ab, kn_F cn, rg, kn_F po, hl, kn_F w, kn_F r, kn_F (kn_U c d (c d + ng)), kn_F h, kn_F wt, dg, hi, A, kn_F b, kn_F (e'))) : wX_enlarge_22 post (nI d) 0 1 2 3 4 5 6 7 8 9 10 (nI np) (nI na) (nI ng) sd (nI nc) (nI nf) (kn_F on) aa ab (kn_F cn) rg (kn_F po) hl (kn_F w) (kn_F r) (kn_F c) (kn_F h) (kn_F wt) dg hi ar (kn_F b) (kn_F e) := by
  have M' := M
  obtain ⟨m1, m2, m3, m4, m5, m6, m7, m8⟩ := M'
  have i8 : vp_in (nI d) 8 := vp_in_nI (by omega) (by omega)
  have cd : (nI d).toNatClampNeg = d := nI_clamp (by omega)
  have q1 := m4 d h0
  have q2 := hh d
  have q3 := h64 d
  unfold wX_enlarge_22
  simp only [cd, kn_ap]
  refine ⟨i8, nm_e ⟨i8, i8, ?_⟩⟩
  rw [nI_add]
  refine pk_le (e d + h d) (c d) (fun z => ?_) (fun z => ?_)
  · refine kx_en110 (by omega) hg ?_
    have K := k (kn_U e d (e d)) ar (kn_M_en0 M hd hh h0 hg g1 g2 ar (e d) (by omega) (fun _ _ => rfl) (fun i hi => ?_))
    · have ee : kn_U e d (e d) = e := by
        funext j
        rcases kn_uc e d (e d) j with ⟨y, y'⟩ | ⟨y, y'⟩
        · rw [y', y]
        · exact y'
      rw [ee] at K
      exact K
    · unfold kn_cell
      rw [if_pos (by omega), if_pos (by omega)]
  · refine nm_r (pk_sub (a := c d) (b := 1) (by omega)) ⟨c d + 1, ?_⟩
    obtain ⟨s, hs⟩ : ∃ s, c d - 1 + 1 = e d + s := ⟨c d - e d, by omega⟩
    refine kx_en50 (ar0 := ar) (by omega) hg (by omega) (by omega) (fun A hA => k _ A (kn_M_en0 M hd hh h0 hg g1 g2 A (e d + ng) (by omega) (fun x hx => hA.2 x (by omega)) (fun i hi => ?_))) s (c d - 1) (c d + 1) ar hs (by omega) (by omega) ?_
    · unfold kn_cell
      by_cases y : e d + i < c d
      · rw [if_pos (by omega), if_pos y]
        have := hA.1 (e d + i) (by omega) y
        have e4 : b d + ng + (e d + i) = b d + (e d + ng + i) := by omega
        rw [e4] at this
        exact this
      · rw [if_neg (by omega), if_neg y]
        have e4 : e d + ng + i - (c d + ng) = e d + i - c d := by omega
        rw [e4]
        exact hA.2 _ (by omega)
    · have e5 : c d - 1 + 1 = c d := by omega
      rw [e5]; exact kn_mv_0 ar (b d) (b d + ng) (c d)
theorem kx_enl {post : SX → Prop} {d : Nat} (M : kn_M na nc nf c h b e ar tk) (hd : d < nc) (hn : nc ≤ 8) (hna : na ≤ 64) (hng : ng ≤ 4) (h64 : ∀ j, c j ≤ 64) (hh : ∀ j, h j ≤ c j) (h0 : 0 < c d) (hg : ng ≤ nf)
  (k : ∀ (b' e' : Nat → Nat) (A : Nat → Int32), kn_M na nc (nf - ng) (kn_U c d (c d + ng)) h b' e' A tk → post (0, 1, 2, 3, 4, 5, 6, 7, 8, 9, 10, nI np, nI na, nI ng, sd, nI nc, nI (nf - ng), kn_F on, aa, ab, kn_F cn, rg, kn_F po, hl, kn_F w, kn_F r, kn_F (kn_U c d (c d + ng)), kn_F h, kn_F wt, dg, hi, A, kn_F (b'), kn_F (e'))) : wpX_enlarge post (0, 1, 2, 3, 4, 5, 6, 7, 8, 9, 10, nI np, nI na, nI ng, sd, nI nc, nI nf, kn_F on, aa, ab, kn_F cn, rg, kn_F po, hl, kn_F w, kn_F r, kn_F c, kn_F h, kn_F wt, dg, hi, ar, kn_F b, kn_F e) (nI d) := by
  have M' := M
  obtain ⟨m1, m2, m3, m4, m5, m6, m7, m8⟩ := M'
  unfold wpX_enlarge
  refine kx_gap hd hn hna h64 m6 m7 m2 h0 (fun g g64 hgap => ?_)
  refine pk_le ng g (fun z => ?_) (fun z => ?_)
  · have := hgap ng z
    exact kx_en22 M hd hn hna h64 hh h0 hg this.1 this.2 (fun e' A M' => k b e' A M')
  · refine kx_pd hd hn hna h64 (by omega) ⟨m6, m7, m5, fun _ _ _ => rfl⟩ (fun b1 ar1 K1 hb1 => ?_)
    refine kx_pu hd hn hna h64 m1 m2 K1 (hb1 d (by omega) h0) (fun b2 ar2 K2 hb2 hb3 => ?_)
    have s1 := kn_S_mono (f := c) (m := d + 1) (n := nc) (by omega)
    refine kx_en22 (kn_M_pk M hh K2) hd hn hna h64 hh h0 hg (fun j hj hc => ?_) (by omega) (fun e' A M' => k b2 e' A M')
    have := hb2 j hj hc
    omega
theorem kn_V_c {d g : Nat} (V : kn_V np nc on cn po w r c h aa ab hl) (h0 : 0 < c d) (hg : c d + g ≤ 64) : kn_V np nc on cn po w r (kn_U c d (c d + g)) h aa ab hl := by
  obtain ⟨v1, v2, v3, v4, v5, v6, v7, v8, v9, v10, v11⟩ := V
  refine ⟨v1, v2, v3, v4, v5, v6, v7, kn_U_le v8 hg, fun j => ?_, v10, fun j hj => ?_⟩
  · have := v9 j
    rcases kn_uc c d (c d + g) j with ⟨z, z'⟩ | ⟨z, z'⟩
    · rw [z', z]; rw [z] at this; omega
    · rw [z']; exact this
  · have := v11 j hj
    rcases kn_uc c d (c d + g) j with ⟨z, z'⟩ | ⟨z, z'⟩
    · rw [z', ← this, z]; omega
    · rw [z']; exact this
end
theorem kn_res {B np na ng nc : Nat} {sd : Int32} {u : SX} {v : SY} {postX : Int32 → SX → Prop} (hsd : ¬ sd = 0) (I : kn_R B np na ng nc sd u v) (k : ∀ (x : Int32) (u' : SX) (v' : SY), kn_R B np na ng nc sd u' v' → (∀ post : Int32 → SY → Prop, post x v' → wpY_resolve post v) → postX x u') : wpX_resolve postX u := by
  revert k
  refine kn_el (P := fun u v => (∀ (x : Int32) (u' : SX) (v' : SY), kn_R B np na ng nc sd u' v' → (∀ post : Int32 → SY → Prop, post x v' → wpY_resolve post v) → postX x u') → wpX_resolve postX u) I ?_
  intro nf on cn po w r c h wt b e aa ab rg hl dg hi ar tk I k
  have I0 := I
  obtain ⟨V, M, P, N, W, Hw⟩ := I
  have V' := V
  obtain ⟨v1, v2, v3, v4, v5, v6, v7, v8, v9, v10, v11⟩ := V'
  have M' := M
  obtain ⟨m1, m2, m3, m4, m5, m6, m7, m8⟩ := M'
  obtain ⟨n1, n2, n3, n4, n5⟩ := N
  have TD : ∀ q, q < np → kn_T (kn_st on cn po c h ab hl) (kn_aw on cn po w r c h ab hl) np q → kn_d po ab q < nc := fun q hq hT => (kn_T_d V hq hT).2.1
  have YJ : ∀ (o : Option Nat) (post : Int32 → SY → Prop), kn_best (kn_T (kn_st on cn po c h ab hl) (kn_aw on cn po w r c h ab hl) np) (kn_d po ab) c np o → (∀ n, wY_resolve_14 post (nI np) (nI na) (nI ng) sd (nI nc) (kn_F on) aa ab (kn_F cn) rg (kn_F po) hl (kn_F w) (kn_F r) (kn_F c) (kn_F h) (kn_F wt) dg tk hi (n + 1) (kn_ov o) (nI nc)) → wpY_resolve post (nI np, nI na, nI ng, sd, nI nc, kn_F on, aa, ab, kn_F cn, rg, kn_F po, hl, kn_F w, kn_F r, kn_F c, kn_F h, kn_F wt, dg, tk, hi) := by
    intro o post ho J
    unfold wpY_resolve
    refine br_f hsd ⟨nc + 1, ky_re14 V (fun n o' ho' => ?_) nc 0 (nc + 1) none (by omega) (by omega) kn_bestC_0⟩
    rw [kn_best_u TD ho ho']
    exact J n
  unfold wpX_resolve
  refine br_f hsd (kx_sm V (fun o ho => ?_))
  cases o with
  | none =>
    refine br_f (by decide) ?_
    refine k (-6) (0, 1, 2, 3, 4, 5, 6, 7, 8, 9, 10, nI np, nI na, nI ng, sd, nI nc, nI nf, kn_F on, aa, ab, kn_F cn, rg, kn_F po, hl, kn_F w, kn_F r, kn_F c, kn_F h, kn_F wt, dg, hi, ar, kn_F b, kn_F e) (nI np, nI na, nI ng, sd, nI nc, kn_F on, aa, ab, kn_F cn, rg, kn_F po, hl, kn_F w, kn_F r, kn_F c, kn_F h, kn_F wt, dg, tk, hi) (kn_mk I0) (fun post kY => YJ none post ho (fun n => ?_))
    exact br_t (nI_le (by omega) (by omega)) (br_f (by decide) kY)
  | some d =>
    obtain ⟨q, hq, hT, ed⟩ := ho.1
    obtain ⟨t1, t2, t3, t4⟩ := kn_T_d V hq hT
    rw [ed] at t2 t4
    have c64 := v8 d
    have c1 := kn_S_el (f := c) (i := d) (n := nc) t2
    refine br_t (nI_pos' (by omega)) ?_
    refine pk_le ng nf (fun z => ?_) (fun z => ?_)
    · refine kx_enl M t2 v2 n3 n5 v8 v9 t4 z (fun b' e' A M2 => ?_)
      refine k (nI d) (0, 1, 2, 3, 4, 5, 6, 7, 8, 9, 10, nI np, nI na, nI ng, sd, nI nc, nI (nf - ng), kn_F on, aa, ab, kn_F cn, rg, kn_F po, hl, kn_F w, kn_F r, kn_F (kn_U c d (c d + ng)), kn_F h, kn_F wt, dg, hi, A, kn_F (b'), kn_F (e')) (nI np, nI na, nI ng, sd, nI nc, kn_F on, aa, ab, kn_F cn, rg, kn_F po, hl, kn_F w, kn_F r, kn_F (kn_U c d (c d + ng)), kn_F h, kn_F wt, dg, tk, hi) (kn_mk ⟨kn_V_c V t4 (by omega), M2, fun y => absurd y hsd, ⟨n1, n2, n3, n4, n5⟩, W, Hw⟩) (fun post kY => YJ (some d) post ho (fun n => ?_))
      refine br_t (nI_le (by omega) (by omega)) (br_t (nI_pos' (by omega)) (ky_free v2 m1 n3 ?_))
      have i8 : vp_in (nI d) 8 := vp_in_nI (by omega) (by omega)
      refine br_t (nI_le z (by omega)) ⟨i8, i8, nm_r (kn_upd' (v := c d + ng) (nI_clamp (by omega)) ?_) kY⟩
      rw [kn_ov_s, kn_rd (by omega), nI_add]
    · refine k (-5) (0, 1, 2, 3, 4, 5, 6, 7, 8, 9, 10, nI np, nI na, nI ng, sd, nI nc, nI nf, kn_F on, aa, ab, kn_F cn, rg, kn_F po, hl, kn_F w, kn_F r, kn_F c, kn_F h, kn_F wt, dg, hi, ar, kn_F b, kn_F e) (nI np, nI na, nI ng, sd, nI nc, kn_F on, aa, ab, kn_F cn, rg, kn_F po, hl, kn_F w, kn_F r, kn_F c, kn_F h, kn_F wt, dg, tk, hi) (kn_mk I0) (fun post kY => YJ (some d) post ho (fun n => ?_))
      refine br_t (nI_le (by omega) (by omega)) (br_t (nI_pos' (by omega)) (ky_free v2 m1 n3 ?_))
      exact br_f (nI_ge z (by omega)) kY
end
section
/-! settling, both sides -/
def kn_rot (np f m : Nat) : Nat := if f + m < np then f + m else f + m - np
def kx_W8 (post : Int32 → SX → Prop) (x2 : Int32) (n : Nat) (x3 x4 x5 : Int32) (u : SX) : Prop := match u with
  | (a1, a2, a3, a4, a5, a6, a7, a8, a9, a10, a11, a12, a13, a14, a15, a16, a17, a18, a19, a20, a21, a22, a23, a24, a25, a26, a27, a28, a29, a30, a31, a32, a33, a34) => wX_playRound_8 post x2 n x3 x4 x5 a1 a2 a3 a4 a5 a6 a7 a8 a9 a10 a11 a12 a13 a14 a15 a16 a17 a18 a19 a20 a21 a22 a23 a24 a25 a26 a27 a28 a29 a30 a31 a32 a33 a34
def ky_J (J : Int32 → Int32 → Int32 → Int32 → Int32 → Int32 → (Nat → Int32) → (Nat → Int32) → (Nat → Int32) → (Nat → Int32) → (Nat → Int32) → (Nat → Int32) → (Nat → Int32) → (Nat → Int32) → (Nat → Int32) → (Nat → Int32) → (Nat → Int32) → (Nat → Int32) → (Nat → Int32) → (Nat → Int32) → (Nat → Int32) → Prop) (x : Int32) (v : SY) : Prop := match v with
  | (a1, a2, a3, a4, a5, a6, a7, a8, a9, a10, a11, a12, a13, a14, a15, a16, a17, a18, a19, a20) => J x a1 a2 a3 a4 a5 a6 a7 a8 a9 a10 a11 a12 a13 a14 a15 a16 a17 a18 a19 a20
def ky_W60 (post : Int32 → SY → Prop) (J : Int32 → Int32 → Int32 → Int32 → Int32 → Int32 → (Nat → Int32) → (Nat → Int32) → (Nat → Int32) → (Nat → Int32) → (Nat → Int32) → (Nat → Int32) → (Nat → Int32) → (Nat → Int32) → (Nat → Int32) → (Nat → Int32) → (Nat → Int32) → (Nat → Int32) → (Nat → Int32) → (Nat → Int32) → (Nat → Int32) → Prop) (x1 x2 x3 x4 : Int32) (n : Nat) (x5 x6 : Int32) (v : SY) : Prop := match v with
  | (a1, a2, a3, a4, a5, a6, a7, a8, a9, a10, a11, a12, a13, a14, a15, a16, a17, a18, a19, a20) => wY_settle_60 post J x1 x2 x3 x4 n x5 x6 a1 a2 a3 a4 a5 a6 a7 a8 a9 a10 a11 a12 a13 a14 a15 a16 a17 a18 a19 a20
def kx_W51 (post : Int32 → SX → Prop) (x1 x2 x3 : Int32) (n : Nat) (x4 x5 : Int32) (u : SX) : Prop := match u with
  | (a1, a2, a3, a4, a5, a6, a7, a8, a9, a10, a11, a12, a13, a14, a15, a16, a17, a18, a19, a20, a21, a22, a23, a24, a25, a26, a27, a28, a29, a30, a31, a32, a33, a34) => wX_settle_51 post x1 x2 x3 n x4 x5 a1 a2 a3 a4 a5 a6 a7 a8 a9 a10 a11 a12 a13 a14 a15 a16 a17 a18 a19 a20 a21 a22 a23 a24 a25 a26 a27 a28 a29 a30 a31 a32 a33 a34
def ky_W48 (post : Int32 → SY → Prop) (x1 x2 x3 : Int32) (n : Nat) (x4 : Int32) (v : SY) : Prop := match v with
  | (a1, a2, a3, a4, a5, a6, a7, a8, a9, a10, a11, a12, a13, a14, a15, a16, a17, a18, a19, a20) => wY_settle_48 post x1 x2 x3 n x4 a1 a2 a3 a4 a5 a6 a7 a8 a9 a10 a11 a12 a13 a14 a15 a16 a17 a18 a19 a20
theorem kn_round {np na ng nc : Nat} {sd : Int32} {t f : Nat} (hf : f < np) (hnp : np ≤ 6) (hsd : ¬ sd = 0) (h1 : 1 ≤ t) (ht : t ≤ 32) : ∀ (d m B acc : Nat) (u : SX) (v : SY), m + d = np → B + d * 32 < 2 ^ 30 → acc ≤ m * 32 → kn_R B np na ng nc sd u v → ∃ (acc' : Nat) (u' : SX) (v' : SY), acc' ≤ np * 32 ∧ kn_R (B + d * 32) np na ng nc sd u' v' ∧ (∀ (post : Int32 → SX → Prop) (n : Nat), d < n → (∀ (n' : Nat) (q' : Int32), kx_W8 post (nI t) (n' + 1) (nI acc') q' (nI np) u') → ∀ q : Int32, (m < np → q = nI (kn_rot np f m)) → kx_W8 post (nI t) n (nI acc) q (nI m) u) ∧ (∀ (post : Int32 → SY → Prop) (J : Int32 → Int32 → Int32 → Int32 → Int32 → Int32 → (Nat → Int32) → (Nat → Int32) → (Nat → Int32) → (Nat → Int32) → (Nat → Int32) → (Nat → Int32) → (Nat → Int32) → (Nat → Int32) → (Nat → Int32) → (Nat → Int32) → (Nat → Int32) → (Nat → Int32) → (Nat → Int32) → (Nat → Int32) → (Nat → Int32) → Prop) (x3 x4 : Int32) (n : Nat), d < n → (∀ n' : Nat, ky_W60 post J (nI f) (nI t) x3 x4 (n' + 1) (nI acc') (nI np) v') → ky_W60 post J (nI f) (nI t) x3 x4 n (nI acc) (nI m) v) := by
  intro d
  induction d with
  | zero =>
    intro m B acc u v hm hB ha I
    have ee : m = np := by omega
    subst ee
    refine ⟨acc, u, v, ha, I, fun post n hn k q _ => ?_, fun post J x3 x4 n hn k => ?_⟩
    · obtain ⟨n, rfl⟩ : ∃ n', n = n' + 1 := ⟨n - 1, by omega⟩
      exact k n q
    · obtain ⟨n, rfl⟩ : ∃ n', n = n' + 1 := ⟨n - 1, by omega⟩
      exact k n
  | succ d ih =>
    intro m B acc u v hm hB ha I
    have hrot : kn_rot np f m < np := by
      unfold kn_rot
      by_cases z : f + m < np
      · rw [if_pos z]; exact z
      · rw [if_neg z]; omega
    obtain ⟨s, u1, v1, hs, R1, X1, Y1⟩ := kn_run hrot hsd h1 ht (by omega) I
    obtain ⟨acc', u', v', ha', R2, XR, YR⟩ := ih (m + 1) (B + t) (acc + s) u1 v1 (by omega) (by omega) (by omega) R1
    refine ⟨acc', u', v', ha', kn_R_B (by omega) R2, fun post n hn k q hq => ?_, fun post J x3 x4 n hn k => ?_⟩
    · obtain ⟨n, rfl⟩ : ∃ n', n = n' + 1 := ⟨n - 1, by omega⟩
      have hq' := hq (by omega)
      subst hq'
      have K := XR post n (by omega) k
      revert X1
      refine kn_el (P := fun u _ => (∀ post : Int32 → SX → Prop, post (nI s) u1 → wpX_work post u (nI (kn_rot np f m)) (nI t)) → kx_W8 post (nI t) (n + 1) (nI acc) (nI (kn_rot np f m)) (nI m) u) I ?_
      intro nf on cn po w r c h wt b e aa ab rg hl dg hi ar tk I X1
      refine br_f (nI_ge (by omega) (by omega)) (X1 _ ?_)
      revert K
      clear XR YR X1 Y1
      revert u1 v1
      refine kn_elA ?_
      intro nf on cn po w r c h wt b e aa ab rg hl dg hi ar tk I1 K
      refine nm_r (nI_add acc s) (pk_eq (kn_rot np f m + 1) np (fun z => ?_) (fun z => ?_) (nI_1 _))
      · refine nm_r (nI_1 m) (K 0 (fun hm1 => ?_))
        have e0 : kn_rot np f (m + 1) = 0 := by
          unfold kn_rot at z ⊢
          by_cases y : f + m < np
          · rw [if_pos y] at z
            rw [if_neg (by omega)]; omega
          · rw [if_neg y] at z; omega
        rw [e0]; rfl
      · refine nm_r (nI_1 _) (nm_r (nI_1 m) (K _ (fun hm1 => ?_)))
        have e0 : kn_rot np f (m + 1) = kn_rot np f m + 1 := by
          unfold kn_rot at z ⊢
          by_cases y : f + m < np
          · rw [if_pos y] at z ⊢
            rw [if_pos (by omega)]; omega
          · rw [if_neg y] at z ⊢
            rw [if_neg (by omega)]; omega
        rw [e0]
    · obtain ⟨n, rfl⟩ : ∃ n', n = n' + 1 := ⟨n - 1, by omega⟩
      have K := YR post J x3 x4 n (by omega) k
      revert Y1
      refine kn_el (P := fun _ v => (∀ post : Int32 → SY → Prop, post (nI s) v1 → wpY_run post v (nI (kn_rot np f m)) (nI t)) → ky_W60 post J (nI f) (nI t) x3 x4 (n + 1) (nI acc) (nI m) v) I ?_
      intro nf on cn po w r c h wt b e aa ab rg hl dg hi ar tk I Y1
      refine br_f (nI_ge (by omega) (by omega)) (nm_r (nI_add f m) (pk_lt (f + m) np (fun z => ?_) (fun z => nm_r (pk_sub z) ?_)))
      · have e0 : kn_rot np f m = f + m := if_pos z
        rw [e0] at Y1
        refine Y1 _ ?_
        revert K
        clear XR YR X1 Y1 R1
        revert v1
        refine kn_syA ?_
        intro a1 a2 a3 a4 a5 a6 a7 a8 a9 a10 a11 a12 a13 a14 a15 a16 a17 a18 a19 a20 K
        exact nm_r (nI_add acc s) (nm_r (nI_1 m) K)
      · have e0 : kn_rot np f m = f + m - np := if_neg (by omega)
        rw [e0] at Y1
        refine Y1 _ ?_
        revert K
        clear XR YR X1 Y1 R1
        revert v1
        refine kn_syA ?_
        intro a1 a2 a3 a4 a5 a6 a7 a8 a9 a10 a11 a12 a13 a14 a15 a16 a17 a18 a19 a20 K
        exact nm_r (nI_add acc s) (nm_r (nI_1 m) K)
theorem kn_vd {B np na ng nc : Nat} {sd : Int32} {u : SX} {v : SY} {postX : Int32 → Prop} (hsd : ¬ sd = 0) (I : kn_R B np na ng nc sd u v) (k : ∀ a : Nat, (∀ postY : Int32 → Prop, postY (nI a) → wpY_verdict postY v) → postX (nI a)) : wpX_verdict postX u := by
  revert k
  refine kn_el (P := fun u v => (∀ a : Nat, (∀ postY : Int32 → Prop, postY (nI a) → wpY_verdict postY v) → postX (nI a)) → wpX_verdict postX u) I ?_
  intro nf on cn po w r c h wt b e aa ab rg hl dg hi ar tk I k
  obtain ⟨V, M, P, N, W, Hw⟩ := I
  obtain ⟨n1, n2, n3, n4, n5⟩ := N
  have m1 := M.1
  refine kx_vd V (by omega) n5 hsd (fun a ha => k a (fun postY kY => ?_))
  refine ky_vd V m1 n3 n5 hsd (fun a' ha' => ?_)
  rw [kn_vr_u n1 ha ha']
  exact kY
theorem kn_play {B np na ng nc : Nat} {sd : Int32} {t f : Nat} {u : SX} {v : SY} {postX : Int32 → SX → Prop} (hf : f < np) (hnp : np ≤ 6) (hsd : ¬ sd = 0) (h1 : 1 ≤ t) (ht : t ≤ 32) (hB : B + 192 < 2 ^ 30) (I : kn_R B np na ng nc sd u v)
  (k1 : ∀ (u' : SX) (v' : SY), kn_R (B + 192) np na ng nc sd u' v' → (∀ (postY : Int32 → SY → Prop) (J : Int32 → Int32 → Int32 → Int32 → Int32 → Int32 → (Nat → Int32) → (Nat → Int32) → (Nat → Int32) → (Nat → Int32) → (Nat → Int32) → (Nat → Int32) → (Nat → Int32) → (Nat → Int32) → (Nat → Int32) → (Nat → Int32) → (Nat → Int32) → (Nat → Int32) → (Nat → Int32) → (Nat → Int32) → (Nat → Int32) → Prop) (x3 : Int32) (m : Nat), ky_J J (nI (m + 1)) v' → ∃ n, ky_W60 postY J (nI f) (nI t) x3 (nI m) n (nI 0) (nI 0) v) → postX 1 u')
  (k0 : ∀ (u' : SX) (v' : SY), kn_R (B + 192) np na ng nc sd u' v' → (∀ (postY : Int32 → SY → Prop) (J : Int32 → Int32 → Int32 → Int32 → Int32 → Int32 → (Nat → Int32) → (Nat → Int32) → (Nat → Int32) → (Nat → Int32) → (Nat → Int32) → (Nat → Int32) → (Nat → Int32) → (Nat → Int32) → (Nat → Int32) → (Nat → Int32) → (Nat → Int32) → (Nat → Int32) → (Nat → Int32) → (Nat → Int32) → (Nat → Int32) → Prop) (x3 : Int32) (m : Nat), wpY_verdict (fun a => postY a v') v' → ∃ n, ky_W60 postY J (nI f) (nI t) x3 (nI m) n (nI 0) (nI 0) v) → postX 0 u') : wpX_playRound postX u (nI f) (nI t) := by
  obtain ⟨acc, u1, v1, ha, R1, XR, YR⟩ := kn_round hf hnp hsd h1 ht np 0 B 0 u v (by omega) (by omega) (by omega) I
  have e0 : nI f = nI (kn_rot np f 0) := congrArg nI (if_pos hf).symm
  have main : ∀ (n' : Nat) (q' : Int32), kx_W8 postX (nI t) (n' + 1) (nI acc) q' (nI np) u1 := by
    intro n' q'
    have R1' := R1
    clear XR
    revert YR R1'
    revert u1 v1
    refine kn_elA ?_
    intro nf on cn po w r c h wt b e aa ab rg hl dg hi ar tk I1 YR R1'
    refine br_t (nI_le (by omega) (by omega)) ?_
    refine kn_res hsd R1' (fun x u2 v2 R2 Y2 => ?_)
    have R2' := kn_R_B (B' := B + 192) (by omega) R2
    have K1 : (¬ acc = 0 ∨ 0 ≤ x) → postX 1 u2 := by
      intro hx
      refine k1 u2 v2 R2' (fun postY J x3 m kJ => ⟨np + 1, YR postY J x3 (nI m) (np + 1) (by omega) (fun n'' => ?_)⟩)
      refine br_t (nI_le (by omega) (by omega)) (Y2 _ ?_)
      revert kJ
      clear R2' Y2 R2
      revert v2
      refine kn_syA ?_
      intro a1 a2 a3 a4 a5 a6 a7 a8 a9 a10 a11 a12 a13 a14 a15 a16 a17 a18 a19 a20 kJ
      refine pk_eq acc 0 (fun z => ?_) (fun z => nm_r (nI_1 m) kJ)
      exact br_t (hx.resolve_left (fun y => y z)) (nm_r (nI_1 m) kJ)
    have K0 : acc = 0 → ¬ 0 ≤ x → postX 0 u2 := by
      intro z hx
      refine k0 u2 v2 R2' (fun postY J x3 m kV => ⟨np + 1, YR postY J x3 (nI m) (np + 1) (by omega) (fun n'' => ?_)⟩)
      refine br_t (nI_le (by omega) (by omega)) (Y2 _ ?_)
      revert kV
      clear R2' Y2 R2 K1
      revert v2
      refine kn_syA ?_
      intro a1 a2 a3 a4 a5 a6 a7 a8 a9 a10 a11 a12 a13 a14 a15 a16 a17 a18 a19 a20 kV
      refine pk_eq acc 0 (fun z => br_f hx kV) (fun y => absurd z y)
    revert K1 K0
    clear R2' Y2 R2
    revert u2
    refine kn_sxA ?_
    intro a1 a2 a3 a4 a5 a6 a7 a8 a9 a10 a11 a12 a13 a14 a15 a16 a17 a18 a19 a20 a21 a22 a23 a24 a25 a26 a27 a28 a29 a30 a31 a32 a33 a34 K1 K0
    refine pk_lt 0 acc (fun z => K1 (Or.inl (by omega))) (fun z => ?_)
    refine br_c (fun y => K0 (by omega) (Int32.not_le.mpr y)) (fun y => K1 (Or.inr (Int32.not_lt.mp y)))
  have X0 := XR postX (np + 1) (by omega) main (nI f) (fun _ => e0)
  exact kn_sx (P := fun u => kx_W8 postX (nI t) (np + 1) (nI 0) (nI f) (nI 0) u → wpX_playRound postX u (nI f) (nI t)) u (fun a1 a2 a3 a4 a5 a6 a7 a8 a9 a10 a11 a12 a13 a14 a15 a16 a17 a18 a19 a20 a21 a22 a23 a24 a25 a26 a27 a28 a29 a30 a31 a32 a33 a34 X0 => ⟨np + 1, X0⟩) X0
theorem kn_settle {np na ng nc : Nat} {sd : Int32} {t f T : Nat} {postX : Int32 → SX → Prop} (hf : f < np) (hnp : np ≤ 6) (hsd : ¬ sd = 0) (h1 : 1 ≤ t) (ht : t ≤ 32) (hT : T ≤ 16) : ∀ (d m B : Nat) (u : SX) (v : SY), m + d = T → B + d * 192 < 2 ^ 30 → kn_R B np na ng nc sd u v → (∀ (a : Nat) (u' : SX) (v' : SY), kn_R (B + d * 192) np na ng nc sd u' v' → (∀ (postY : Int32 → SY → Prop) (n : Nat), d < n → postY (nI a) v' → ky_W48 postY (nI f) (nI t) (nI T) n (nI m) v) → postX (nI a) u') → ∀ n, d < n → kx_W51 postX (nI f) (nI t) (nI T) n 1 (nI m) u := by
  intro d
  induction d with
  | zero =>
    intro m B u v hm hB I k n hn
    have ee : m = T := by omega
    subst ee
    obtain ⟨n, rfl⟩ : ∃ n', n = n' + 1 := ⟨n - 1, by omega⟩
    have I' := I
    revert k I'
    revert u v
    refine kn_elA ?_
    intro nf on cn po w r c h wt b e aa ab rg hl dg hi ar tk I1 k I'
    refine br_t (nI_le (by omega) (by omega)) ?_
    refine kn_vd hsd I' (fun a hY => ?_)
    refine k a _ _ (kn_R_B (by omega) I') (fun postY n hn kY => ?_)
    obtain ⟨n, rfl⟩ : ∃ n', n = n' + 1 := ⟨n - 1, by omega⟩
    exact br_t (nI_le (by omega) (by omega)) (hY _ kY)
  | succ d ih =>
    intro m B u v hm hB I k n hn
    obtain ⟨n, rfl⟩ : ∃ n', n = n' + 1 := ⟨n - 1, by omega⟩
    have I' := I
    revert k I'
    revert u v
    refine kn_elA ?_
    intro nf on cn po w r c h wt b e aa ab rg hl dg hi ar tk I1 k I'
    refine br_f (nI_ge (by omega) (by omega)) (br_f (by decide) ?_)
    refine kn_play hf hnp hsd h1 ht (by omega) I' (fun u2 v2 R2 Y2 => ?_) (fun u2 v2 R2 Y2 => ?_)
    · have K := ih (m + 1) (B + 192) u2 v2 (by omega) (by omega) R2 (fun a u' v' R' hY => ?_) n (by omega)
      · revert K
        clear R2
        revert u2
        refine kn_sxA ?_
        intro a1 a2 a3 a4 a5 a6 a7 a8 a9 a10 a11 a12 a13 a14 a15 a16 a17 a18 a19 a20 a21 a22 a23 a24 a25 a26 a27 a28 a29 a30 a31 a32 a33 a34 K
        exact nm_r (nI_1 m) K
      · refine k a u' v' (kn_R_B (by omega) R') (fun postY n hn kY => ?_)
        obtain ⟨n, rfl⟩ : ∃ n', n = n' + 1 := ⟨n - 1, by omega⟩
        refine br_f (nI_ge (by omega) (by omega)) (Y2 postY (wY_settle_48 postY (nI f) (nI t) (nI T) n) (nI T) m ?_)
        have K := hY postY n (by omega) kY
        revert K
        clear Y2 hY R2
        revert v2
        refine kn_syA ?_
        intro a1 a2 a3 a4 a5 a6 a7 a8 a9 a10 a11 a12 a13 a14 a15 a16 a17 a18 a19 a20 K
        exact K
    · obtain ⟨n, rfl⟩ : ∃ n', n = n' + 1 := ⟨n - 1, by omega⟩
      have S : wpX_verdict (fun a => postX a u2) u2 := by
        refine kn_vd hsd R2 (fun a hY => ?_)
        refine k a u2 v2 (kn_R_B (by omega) R2) (fun postY n hn kY => ?_)
        obtain ⟨n, rfl⟩ : ∃ n', n = n' + 1 := ⟨n - 1, by omega⟩
        exact br_f (nI_ge (by omega) (by omega)) (Y2 postY (wY_settle_48 postY (nI f) (nI t) (nI T) n) (nI T) m (hY _ kY))
      revert S
      clear R2
      revert u2
      refine kn_sxA ?_
      intro a1 a2 a3 a4 a5 a6 a7 a8 a9 a10 a11 a12 a13 a14 a15 a16 a17 a18 a19 a20 a21 a22 a23 a24 a25 a26 a27 a28 a29 a30 a31 a32 a33 a34 S
      refine nm_r (nI_1 m) (br_c (fun _ => S) (fun _ => br_t rfl S))
end
section
/-! the owed relation and the reading calls -/
def i_Rel (k : Nat) (u : SX) (v : SY) : Prop := ∃ (np na ng nc : Nat) (sd : Int32), kn_R (3072 * k) np na ng nc sd u v
theorem i_up {k : Nat} {u : SX} {v : SY} (h : i_Rel k u v) : i_Rel (k + 5) u v := by
  obtain ⟨np, na, ng, nc, sd, I⟩ := h
  exact ⟨np, na, ng, nc, sd, kn_R_B (by omega) I⟩
theorem kn_op5 {k : Nat} {u : SX} {v : SY} {P : SX → SY → Prop} (I : i_Rel k u v) (H : ∀ (np na ng nc : Nat) (sd : Int32) (nf : Nat) (on cn po w r c h wt b e : Nat → Nat) (aa ab rg hl dg hi ar tk : Nat → Int32), kn_I (3072 * k) np na ng nc nf sd on cn po w r c h wt b e aa ab hl ar tk → i_Rel (k + 5) (0, 1, 2, 3, 4, 5, 6, 7, 8, 9, 10, nI np, nI na, nI ng, sd, nI nc, nI nf, kn_F on, aa, ab, kn_F cn, rg, kn_F po, hl, kn_F w, kn_F r, kn_F c, kn_F h, kn_F wt, dg, hi, ar, kn_F b, kn_F e) (nI np, nI na, nI ng, sd, nI nc, kn_F on, aa, ab, kn_F cn, rg, kn_F po, hl, kn_F w, kn_F r, kn_F c, kn_F h, kn_F wt, dg, tk, hi) → P (0, 1, 2, 3, 4, 5, 6, 7, 8, 9, 10, nI np, nI na, nI ng, sd, nI nc, nI nf, kn_F on, aa, ab, kn_F cn, rg, kn_F po, hl, kn_F w, kn_F r, kn_F c, kn_F h, kn_F wt, dg, hi, ar, kn_F b, kn_F e) (nI np, nI na, nI ng, sd, nI nc, kn_F on, aa, ab, kn_F cn, rg, kn_F po, hl, kn_F w, kn_F r, kn_F c, kn_F h, kn_F wt, dg, tk, hi)) : P u v := by
  have J := i_up I
  obtain ⟨np, na, ng, nc, sd, I⟩ := I
  revert J
  refine kn_el (P := fun u v => i_Rel (k + 5) u v → P u v) I ?_
  intro nf on cn po w r c h wt b e aa ab rg hl dg hi ar tk I J
  exact H np na ng nc sd nf on cn po w r c h wt b e aa ab rg hl dg hi ar tk I J
theorem i_vc_start {k : Nat} {u : SX} {v : SY} (I : i_Rel k u v) (hk : k + 5 ≤ 2563) : wpX_start (fun r u' => wpY_start (fun r' v' => r' = r ∧ i_Rel (k + 5) u' v') v) u := by
  refine kn_op5 (P := fun u v => wpX_start (fun r u' => wpY_start (fun r' v' => r' = r ∧ i_Rel (k + 5) u' v') v) u) I ?_
  intro np na ng nc sd nf on cn po w r c h wt b e aa ab rg hl dg hi ar tk I J
  by_cases hs : sd = 0
  · obtain ⟨V, M, P, N, W, Hw⟩ := I
    refine br_t hs (br_t hs ⟨rfl, np, na, ng, nc, 1, kn_mk ⟨V, M, fun z => absurd z (by decide), N, fun j => ?_, Hw⟩⟩)
    have := W j
    omega
  · exact br_f hs (br_f hs ⟨rfl, J⟩)
theorem i_vc_state {k : Nat} {u : SX} {v : SY} (I : i_Rel k u v) (hk : k + 5 ≤ 2563) (v1 : Int32) : wpX_state (fun r => wpY_state (fun r' => r' = r ∧ i_Rel (k + 5) u v) v v1) u v1 := by
  refine kn_op5 (P := fun u v => wpX_state (fun r => wpY_state (fun r' => r' = r ∧ i_Rel (k + 5) u v) v v1) u v1) I ?_
  intro np na ng nc sd nf on cn po w r c h wt b e aa ab rg hl dg hi ar tk I J
  unfold wpX_state
  have V := I.1
  rcases pk_ix v1 (n := np) (by have := V.1; omega) with hx | hx | ⟨p, hp, rfl⟩
  · refine kx_isP0 (Or.inl hx) (br_t rfl ?_)
    unfold wpY_state
    exact ky_bP1 (Or.inl hx) (br_f (by decide) ⟨rfl, J⟩)
  · refine kx_isP0 (Or.inr hx) (br_t rfl ?_)
    unfold wpY_state
    exact ky_bP1 (Or.inr hx) (br_f (by decide) ⟨rfl, J⟩)
  · refine kx_isP1 hp V.1 (br_f (by decide) ?_)
    refine kx_st V hp ?_
    exact ky_st V hp ⟨rfl, J⟩
theorem i_vc_waitsFor {k : Nat} {u : SX} {v : SY} (I : i_Rel k u v) (hk : k + 5 ≤ 2563) (v1 : Int32) : wpX_waitsFor (fun r => wpY_waitsFor (fun r' => r' = r ∧ i_Rel (k + 5) u v) v v1) u v1 := by
  refine kn_op5 (P := fun u v => wpX_waitsFor (fun r => wpY_waitsFor (fun r' => r' = r ∧ i_Rel (k + 5) u v) v v1) u v1) I ?_
  intro np na ng nc sd nf on cn po w r c h wt b e aa ab rg hl dg hi ar tk I J
  unfold wpX_waitsFor
  have V := I.1
  rcases pk_ix v1 (n := np) (by have := V.1; omega) with hx | hx | ⟨p, hp, rfl⟩
  · refine kx_isP0 (Or.inl hx) (br_t rfl ?_)
    unfold wpY_waitsFor
    exact ky_bP1 (Or.inl hx) (br_f (by decide) ⟨rfl, J⟩)
  · refine kx_isP0 (Or.inr hx) (br_t rfl ?_)
    unfold wpY_waitsFor
    exact ky_bP1 (Or.inr hx) (br_f (by decide) ⟨rfl, J⟩)
  · refine kx_isP1 hp V.1 (br_f (by decide) ?_)
    refine kx_aw V hp ?_
    exact ky_aw V hp ⟨rfl, J⟩
theorem i_vc_register {k : Nat} {u : SX} {v : SY} (I : i_Rel k u v) (hk : k + 5 ≤ 2563) (v1 : Int32) (v2 : Int32) : wpX_register (fun r => wpY_register (fun r' => r' = r ∧ i_Rel (k + 5) u v) v v1 v2) u v1 v2 := by
  refine kn_op5 (P := fun u v => wpX_register (fun r => wpY_register (fun r' => r' = r ∧ i_Rel (k + 5) u v) v v1 v2) u v1 v2) I ?_
  intro np na ng nc sd nf on cn po w r c h wt b e aa ab rg hl dg hi ar tk I J
  unfold wpX_register wpY_register
  have V := I.1
  have v6 := V.1
  rcases pk_ix v1 (n := np) (by omega) with hx | hx | ⟨p, hp, rfl⟩
  · refine kx_isP0 (Or.inl hx) (br_t rfl ?_)
    exact ky_bP1 (Or.inl hx) (br_f (by decide) ⟨rfl, J⟩)
  · refine kx_isP0 (Or.inr hx) (br_t rfl ?_)
    exact ky_bP1 (Or.inr hx) (br_f (by decide) ⟨rfl, J⟩)
  · refine kx_isP1 hp V.1 (br_f (by decide) ?_)
    have i6 : vp_in (nI p) 6 := vp_in_nI (by omega) (by omega)
    by_cases h0 : v2 < 0
    · refine br_t h0 ?_
      exact ky_bP0 hp V.1 (br_t rfl (br_t h0 ⟨rfl, J⟩))
    · by_cases h4 : v2 ≤ 4
      · by_cases e4 : v2 = 4
        · refine br_f h0 (br_t h4 (br_t e4 ⟨i6, ?_⟩))
          exact ky_bP0 hp V.1 (br_t rfl (br_f h0 (br_t h4 (br_t e4 ⟨i6, rfl, J⟩))))
        · obtain ⟨j, hj, rfl⟩ := nI_of2 (M := 4) (n := 4) rfl h0 h4
          have j3 : j < 4 := by
            rcases Nat.lt_or_ge j 4 with z | z
            · exact z
            · have : j = 4 := by omega
              subst this; exact absurd rfl e4
          have i24 : vp_in (nI p * 4 + nI j) 24 := by rw [kn_i4]; exact vp_in_nI (by omega) (by omega)
          refine br_f h0 (br_t h4 (br_f e4 ⟨i24, ?_⟩))
          exact ky_bP0 hp V.1 (br_t rfl (br_f h0 (br_t h4 (br_f e4 ⟨i24, rfl, J⟩))))
      · refine br_f h0 (br_f h4 ?_)
        exact ky_bP0 hp V.1 (br_t rfl (br_f h0 (br_f h4 ⟨rfl, J⟩)))
theorem i_vc_free {k : Nat} {u : SX} {v : SY} (I : i_Rel k u v) (hk : k + 5 ≤ 2563) : wpX_free (fun r => wpY_free (fun r' => r' = r ∧ i_Rel (k + 5) u v) v) u := by
  refine kn_op5 (P := fun u v => wpX_free (fun r => wpY_free (fun r' => r' = r ∧ i_Rel (k + 5) u v) v) u) I ?_
  intro np na ng nc sd nf on cn po w r c h wt b e aa ab rg hl dg hi ar tk I J
  unfold wpX_free
  exact ky_free I.1.2.1 I.2.1.1 I.2.2.2.1.2.2.1 ⟨rfl, J⟩
theorem i_vc_capacity {k : Nat} {u : SX} {v : SY} (I : i_Rel k u v) (hk : k + 5 ≤ 2563) (v1 : Int32) : wpX_capacity (fun r => wpY_capacity (fun r' => r' = r ∧ i_Rel (k + 5) u v) v v1) u v1 := by
  refine kn_op5 (P := fun u v => wpX_capacity (fun r => wpY_capacity (fun r' => r' = r ∧ i_Rel (k + 5) u v) v v1) u v1) I ?_
  intro np na ng nc sd nf on cn po w r c h wt b e aa ab rg hl dg hi ar tk I J
  unfold wpX_capacity wpY_capacity
  have V := I.1
  rcases pk_ix v1 (n := nc) (by have := V.2.1; omega) with hx | hx | ⟨p, hp, rfl⟩
  · refine kx_isC0 (Or.inl hx) (br_t rfl ?_)
    exact ky_bC1 (Or.inl hx) (br_f (by decide) ⟨rfl, J⟩)
  · refine kx_isC0 (Or.inr hx) (br_t rfl ?_)
    exact ky_bC1 (Or.inr hx) (br_f (by decide) ⟨rfl, J⟩)
  · have v8 := V.2.1
    have i8 : vp_in (nI p) 8 := vp_in_nI (by omega) (by omega)
    refine kx_isC1 hp V.2.1 (br_f (by decide) ⟨i8, ?_⟩)
    exact ky_bC0 hp V.2.1 (br_t rfl ⟨i8, rfl, J⟩)
theorem i_vc_held {k : Nat} {u : SX} {v : SY} (I : i_Rel k u v) (hk : k + 5 ≤ 2563) (v1 : Int32) : wpX_held (fun r => wpY_held (fun r' => r' = r ∧ i_Rel (k + 5) u v) v v1) u v1 := by
  refine kn_op5 (P := fun u v => wpX_held (fun r => wpY_held (fun r' => r' = r ∧ i_Rel (k + 5) u v) v v1) u v1) I ?_
  intro np na ng nc sd nf on cn po w r c h wt b e aa ab rg hl dg hi ar tk I J
  unfold wpX_held wpY_held
  have V := I.1
  rcases pk_ix v1 (n := nc) (by have := V.2.1; omega) with hx | hx | ⟨p, hp, rfl⟩
  · refine kx_isC0 (Or.inl hx) (br_t rfl ?_)
    exact ky_bC1 (Or.inl hx) (br_f (by decide) ⟨rfl, J⟩)
  · refine kx_isC0 (Or.inr hx) (br_t rfl ?_)
    exact ky_bC1 (Or.inr hx) (br_f (by decide) ⟨rfl, J⟩)
  · have v8 := V.2.1
    have i8 : vp_in (nI p) 8 := vp_in_nI (by omega) (by omega)
    refine kx_isC1 hp V.2.1 (br_f (by decide) ⟨i8, ?_⟩)
    exact ky_bC0 hp V.2.1 (br_t rfl ⟨i8, rfl, J⟩)
theorem i_vc_written {k : Nat} {u : SX} {v : SY} (I : i_Rel k u v) (hk : k + 5 ≤ 2563) (v1 : Int32) : wpX_written (fun r => wpY_written (fun r' => r' = r ∧ i_Rel (k + 5) u v) v v1) u v1 := by
  refine kn_op5 (P := fun u v => wpX_written (fun r => wpY_written (fun r' => r' = r ∧ i_Rel (k + 5) u v) v v1) u v1) I ?_
  intro np na ng nc sd nf on cn po w r c h wt b e aa ab rg hl dg hi ar tk I J
  unfold wpX_written wpY_written
  have V := I.1
  rcases pk_ix v1 (n := nc) (by have := V.2.1; omega) with hx | hx | ⟨p, hp, rfl⟩
  · refine kx_isC0 (Or.inl hx) (br_t rfl ?_)
    exact ky_bC1 (Or.inl hx) (br_f (by decide) ⟨rfl, J⟩)
  · refine kx_isC0 (Or.inr hx) (br_t rfl ?_)
    exact ky_bC1 (Or.inr hx) (br_f (by decide) ⟨rfl, J⟩)
  · have v8 := V.2.1
    have i8 : vp_in (nI p) 8 := vp_in_nI (by omega) (by omega)
    refine kx_isC1 hp V.2.1 (br_f (by decide) ⟨i8, ?_⟩)
    exact ky_bC0 hp V.2.1 (br_t rfl ⟨i8, rfl, J⟩)
theorem i_vc_digest {k : Nat} {u : SX} {v : SY} (I : i_Rel k u v) (hk : k + 5 ≤ 2563) (v1 : Int32) : wpX_digest (fun r => wpY_digest (fun r' => r' = r ∧ i_Rel (k + 5) u v) v v1) u v1 := by
  refine kn_op5 (P := fun u v => wpX_digest (fun r => wpY_digest (fun r' => r' = r ∧ i_Rel (k + 5) u v) v v1) u v1) I ?_
  intro np na ng nc sd nf on cn po w r c h wt b e aa ab rg hl dg hi ar tk I J
  unfold wpX_digest wpY_digest
  have V := I.1
  rcases pk_ix v1 (n := nc) (by have := V.2.1; omega) with hx | hx | ⟨p, hp, rfl⟩
  · refine kx_isC0 (Or.inl hx) (br_t rfl ?_)
    exact ky_bC1 (Or.inl hx) (br_f (by decide) ⟨rfl, J⟩)
  · refine kx_isC0 (Or.inr hx) (br_t rfl ?_)
    exact ky_bC1 (Or.inr hx) (br_f (by decide) ⟨rfl, J⟩)
  · have v8 := V.2.1
    have i8 : vp_in (nI p) 8 := vp_in_nI (by omega) (by omega)
    refine kx_isC1 hp V.2.1 (br_f (by decide) ⟨i8, ?_⟩)
    exact ky_bC0 hp V.2.1 (br_t rfl ⟨i8, rfl, J⟩)
section
variable {np na ng nc nf : Nat} {sd : Int32} {on cn po w r c h wt b e : Nat → Nat} {aa ab rg hl dg hi ar tk : Nat → Int32}
theorem kx_tok {post : Int32 → Prop} {p : Nat} {x : Int32} (hp : p < nc) (hn : nc ≤ 8) (h0 : ¬ x < 0) (k : (¬ x < nI (wt p) → post 0) ∧ (x < nI (wt p) → ((¬ 16 ≤ x → (vp_in (nI p * 16 + x) 128 ∧ post (hi (nI p * 16 + x).toNatClampNeg))) ∧ (16 ≤ x → (∀ x3, x3 = x - (nI (wt p) - nI (h p)) → ((0 ≤ x3 → wpX_cellOf (fun q => vp_in q 64 ∧ post (ar q.toNatClampNeg)) (0, 1, 2, 3, 4, 5, 6, 7, 8, 9, 10, nI np, nI na, nI ng, sd, nI nc, nI nf, kn_F on, aa, ab, kn_F cn, rg, kn_F po, hl, kn_F w, kn_F r, kn_F c, kn_F h, kn_F wt, dg, hi, ar, kn_F b, kn_F e) (nI p) x3) ∧ (¬ 0 ≤ x3 → post 0))))))) : wpX_token post (0, 1, 2, 3, 4, 5, 6, 7, 8, 9, 10, nI np, nI na, nI ng, sd, nI nc, nI nf, kn_F on, aa, ab, kn_F cn, rg, kn_F po, hl, kn_F w, kn_F r, kn_F c, kn_F h, kn_F wt, dg, hi, ar, kn_F b, kn_F e) (nI p) x := by
  have i8 : vp_in (nI p) 8 := vp_in_nI (by omega) (by omega)
  unfold wpX_token
  refine kx_isC1 hp hn (br_f (by decide) (br_f h0 ⟨i8, ?_⟩))
  rw [kn_rd (by omega), kn_rd (by omega)]
  refine br_c (fun z => br_c (fun y => ⟨i8, i8, (k.2 z).2 y⟩) (fun y => (k.2 z).1 y)) k.1
theorem ky_tok {post : Int32 → Prop} {p : Nat} {x : Int32} (hp : p < nc) (hn : nc ≤ 8) (h0 : ¬ x < 0) (k : (¬ x < nI (wt p) → post 0) ∧ (x < nI (wt p) → ((¬ 16 ≤ x → (vp_in (nI p * 16 + x) 128 ∧ post (hi (nI p * 16 + x).toNatClampNeg))) ∧ (16 ≤ x → (∀ x3, x3 = nI (wt p) - nI (h p) → ((x < x3 → post 0) ∧ (¬ x < x3 → (vp_in (nI p * 64 + (x - x3)) 512 ∧ post (tk (nI p * 64 + (x - x3)).toNatClampNeg)))))))) ) : wpY_token post (nI np, nI na, nI ng, sd, nI nc, kn_F on, aa, ab, kn_F cn, rg, kn_F po, hl, kn_F w, kn_F r, kn_F c, kn_F h, kn_F wt, dg, tk, hi) (nI p) x := by
  have i8 : vp_in (nI p) 8 := vp_in_nI (by omega) (by omega)
  unfold wpY_token
  refine ky_bC0 hp hn (br_t rfl (br_f h0 ⟨i8, ?_⟩))
  rw [kn_rd (by omega), kn_rd (by omega)]
  refine br_c (fun z => br_c (fun y => ⟨i8, i8, (k.2 z).2 y⟩) (fun y => (k.2 z).1 y)) k.1
end
theorem i_vc_token {k : Nat} {u : SX} {v : SY} (I : i_Rel k u v) (hk : k + 5 ≤ 2563) (v1 : Int32) (v2 : Int32) : wpX_token (fun r => wpY_token (fun r' => r' = r ∧ i_Rel (k + 5) u v) v v1 v2) u v1 v2 := by
  refine kn_op5 (P := fun u v => wpX_token (fun r => wpY_token (fun r' => r' = r ∧ i_Rel (k + 5) u v) v v1 v2) u v1 v2) I ?_
  intro np na ng nc sd nf on cn po w r c h wt b e aa ab rg hl dg hi ar tk I J
  have V := I.1
  rcases pk_ix v1 (n := nc) (by have := V.2.1; omega) with hx | hx | ⟨p, hp, rfl⟩
  · unfold wpX_token wpY_token
    refine kx_isC0 (Or.inl hx) (br_t rfl ?_)
    exact ky_bC1 (Or.inl hx) (br_f (by decide) ⟨rfl, J⟩)
  · unfold wpX_token wpY_token
    refine kx_isC0 (Or.inr hx) (br_t rfl ?_)
    exact ky_bC1 (Or.inr hx) (br_f (by decide) ⟨rfl, J⟩)
  · have v2' := V.2.1
    by_cases h0 : v2 < 0
    · unfold wpX_token wpY_token
      refine kx_isC1 hp V.2.1 (br_f (by decide) (br_t h0 ?_))
      exact ky_bC0 hp V.2.1 (br_t rfl (br_t h0 ⟨rfl, J⟩))
    · obtain ⟨V, M, P, N, W, Hw⟩ := I
      obtain ⟨w1, w2, w3, w4, w5, w6, w7, w8, w9, w10, w11⟩ := V
      obtain ⟨m1, m2, m3, m4, m5, m6, m7, m8⟩ := M
      obtain ⟨i, hi31, rfl⟩ := nI_of h0
      have a1 := W p
      have a2 := Hw p
      have a3 := w8 p
      have a4 := w9 p
      have a5 := N.2.2.1
      have eS : nI (wt p) - nI (h p) = nI (wt p - h p) := pk_sub a2
      refine kx_tok hp v2' h0 ⟨fun z => ?_, fun z => ⟨fun y => ?_, fun y x3 e3 => ?_⟩⟩
      · exact ky_tok hp v2' h0 ⟨fun _ => ⟨rfl, J⟩, fun z' => absurd z' z⟩
      · have y' : i < 16 := by
          rcases Nat.lt_or_ge i 16 with q | q
          · exact q
          · exact absurd (nI_le (a := 16) q hi31) y
        have iv : vp_in (nI p * 16 + nI i) 128 := by rw [kn_i16]; exact vp_in_nI (by omega) (by omega)
        refine ⟨iv, ?_⟩
        exact ky_tok hp v2' h0 ⟨fun z' => absurd z z', fun _ => ⟨fun _ => ⟨iv, rfl, J⟩, fun y' => absurd y' y⟩⟩
      · have z' : i < wt p := (nI_ltI hi31 (by omega)).mp z
        rcases Nat.lt_or_ge i (wt p - h p) with q | q
        · have hneg : x3 < 0 := by rw [e3, eS]; exact pk_sneg (by omega) q
          refine br_f (Int32.not_le.mpr hneg) ?_
          refine ky_tok hp v2' h0 ⟨fun z' => absurd z z', fun _ => ⟨fun y' => absurd y y', fun _ y3 f3 => ?_⟩⟩
          refine br_t ?_ ⟨rfl, J⟩
          rw [f3, eS]; exact nI_lt q (by omega)
        · have ex : x3 = nI (i - (wt p - h p)) := by rw [e3, eS, pk_sub q]
          subst ex
          refine br_t (nI_pos' (by omega)) ?_
          have e1 := m4 p (by omega)
          have cc := kn_cell_in (b := b p) (e := e p) (c := c p) (i := i - (wt p - h p)) e1 (by omega)
          have b1 := m7 p (by omega)
          refine kx_cell (by omega) a3 (by omega) (by omega) ⟨vp_in_nI (by omega) (by omega), ?_⟩
          refine ky_tok hp v2' h0 ⟨fun z' => absurd z z', fun _ => ⟨fun y' => absurd y y', fun _ y3 f3 => ?_⟩⟩
          rw [f3, eS]
          refine br_f (nI_nlt q (by omega)) ?_
          rw [pk_sub q, kn_i64, nI_clamp (n := p * 64 + (i - (wt p - h p))) (by omega), nI_clamp (n := kn_cell (b p) (e p) (c p) (i - (wt p - h p))) (by omega)]
          exact ⟨vp_in_nI (by omega) (by omega), (m8 p _ (by omega)).symm, J⟩
end
section
/-! linking, emitting -/
section
variable {np na ng nc nf : Nat} {sd : Int32} {on cn po w r c h wt b e : Nat → Nat} {aa ab rg hl dg hi ar tk : Nat → Int32}
theorem kn_V_link {w1 r1 q : Nat} (V : kn_V np nc on cn po w r c h aa ab hl) (hn : nc < 8) (hw1 : w1 < np) (hr1 : r1 < np) (hq : 0 < q) (hq2 : q ≤ 64) (hz : c nc = 0) (hl0 : hl r1 = 0) : kn_V np (nc + 1) on cn po (kn_U w nc w1) (kn_U r nc r1) (kn_U c nc q) h aa ab hl := by
  obtain ⟨v1, v2, v3, v4, v5, v6, v7, v8, v9, v10, v11⟩ := V
  refine ⟨v1, by omega, v3, v4, v5, fun j => ?_, fun j => ?_, kn_U_le v8 hq2, fun j => ?_, fun p i hp hi => ?_, fun j hj => ?_⟩
  · have := v6 j
    rcases kn_uc w nc w1 j with ⟨z, z'⟩ | ⟨z, z'⟩ <;> omega
  · have := v7 j
    rcases kn_uc r nc r1 j with ⟨z, z'⟩ | ⟨z, z'⟩ <;> omega
  · have := v9 j
    rcases kn_uc c nc q j with ⟨z, z'⟩ | ⟨z, z'⟩
    · rw [z', z]; rw [z] at this; omega
    · rw [z']; exact this
  · rcases v10 p i hp hi with hf | hf | ⟨ha, hf | hf | ⟨hf, y, hy, e, hr⟩ | ⟨hf, y, hy, e, hr⟩ | hf⟩
    · exact Or.inl hf
    · exact Or.inr (Or.inl hf)
    · exact Or.inr (Or.inr ⟨ha, Or.inl hf⟩)
    · exact Or.inr (Or.inr ⟨ha, Or.inr (Or.inl hf)⟩)
    · exact Or.inr (Or.inr ⟨ha, Or.inr (Or.inr (Or.inl ⟨hf, y, by omega, e, by rw [kn_un (by omega)]; exact hr⟩))⟩)
    · exact Or.inr (Or.inr ⟨ha, Or.inr (Or.inr (Or.inr (Or.inl ⟨hf, y, by omega, e, by rw [kn_un (by omega)]; exact hr⟩)))⟩)
    · exact Or.inr (Or.inr ⟨ha, Or.inr (Or.inr (Or.inr (Or.inr hf)))⟩)
  · rcases kn_uc c nc q j with ⟨z, z'⟩ | ⟨z, z'⟩
    · rw [z', z, kn_us]; exact ⟨fun _ => hl0, fun _ => hq⟩
    · rw [z', kn_un z]; exact v11 j (by omega)
theorem kn_M_link {q : Nat} (M : kn_M na nc nf c h b e ar tk) (hna : na ≤ 64) (hh : ∀ j, h j ≤ c j) (hq : 0 < q) (hq2 : q ≤ nf) (hP : ∀ j, 0 < c j → b j + c j + nf ≤ na) : kn_M na (nc + 1) (nf - q) (kn_U c nc q) h (kn_U b nc (na - nf)) e ar tk := by
  obtain ⟨m1, m2, m3, m4, m5, m6, m7, m8⟩ := M
  have c0 := m2 nc (Nat.le_refl _)
  have h0 := hh nc
  have e0 := m3 nc
  have sS : kn_S (kn_U c nc q) (nc + 1) = kn_S c nc + q := by
    show kn_S (kn_U c nc q) nc + kn_U c nc q nc = _
    rw [kn_us, kn_S_lo (Nat.le_refl _)]
  refine ⟨by omega, fun j hj => ?_, fun j => ?_, fun j hj => ?_, kn_U_le m5 (by omega), fun i j hij hi hj => ?_, fun j hj => ?_, fun j i hi => ?_⟩
  · rw [kn_un (by omega)]; exact m2 j (by omega)
  · have := m3 j
    rcases kn_uc c nc q j with ⟨z, z'⟩ | ⟨z, z'⟩
    · rw [z', z]; omega
    · rw [z']; exact this
  · rcases kn_uc c nc q j with ⟨z, z'⟩ | ⟨z, z'⟩
    · rw [z', z]; omega
    · rw [z'] at hj ⊢; exact m4 j hj
  · rcases kn_uc c nc q i with ⟨y, y'⟩ | ⟨y, y'⟩
    · rw [kn_un (by omega)] at hj
      have := m2 j (by omega)
      omega
    · rw [y'] at hi ⊢
      rw [kn_un (f := b) y]
      rcases kn_uc c nc q j with ⟨z, z'⟩ | ⟨z, z'⟩
      · rw [z, kn_us]
        have := hP i hi; omega
      · rw [kn_un z]; rw [z'] at hj; exact m6 i j hij hi hj
  · rcases kn_uc c nc q j with ⟨z, z'⟩ | ⟨z, z'⟩
    · rw [z', z, kn_us]; omega
    · rw [z'] at hj ⊢
      rw [kn_un z]; exact m7 j hj
  · have z : j ≠ nc := fun z => by rw [z] at hi; omega
    rw [kn_un z, kn_un z]; exact m8 j i hi
theorem kn_P_link {q : Nat} (P : kn_P na nf sd c b hl) (hq2 : q ≤ nf) (hf : nf ≤ na) : kn_P na (nf - q) sd (kn_U c nc q) (kn_U b nc (na - nf)) hl := by
  intro hs
  obtain ⟨p1, p2⟩ := P hs
  refine ⟨p1, fun j hj => ?_⟩
  rcases kn_uc c nc q j with ⟨z, z'⟩ | ⟨z, z'⟩
  · rw [z', z, kn_us]; omega
  · rw [z'] at hj ⊢
    rw [kn_un z]
    have := p2 j hj; omega
end
theorem i_vc_link {k : Nat} {u : SX} {v : SY} (I : i_Rel k u v) (hk : k + 5 ≤ 2563) (v1 : Int32) (v2 : Int32) (v3 : Int32) : wpX_link (fun r u' => wpY_link (fun r' v' => r' = r ∧ i_Rel (k + 5) u' v') v v1 v2 v3) u v1 v2 v3 := by
  refine kn_op5 (P := fun u v => wpX_link (fun r u' => wpY_link (fun r' v' => r' = r ∧ i_Rel (k + 5) u' v') v v1 v2 v3) u v1 v2 v3) I ?_
  intro np na ng nc sd nf on cn po w r c h wt b e aa ab rg hl dg hi ar tk I J
  unfold wpX_link wpY_link
  have V := I.1
  have v6 := V.1
  have v8 := V.2.1
  by_cases hs : sd = 0
  · refine br_t hs ?_
    rcases pk_ix v1 (n := np) (by omega) with hx | hx | ⟨w1, hw1, rfl⟩
    · refine kx_isP0 (Or.inl hx) (br_t rfl ?_)
      exact br_t hs (ky_bP1 (Or.inl hx) (br_f (by decide) ⟨rfl, J⟩))
    · refine kx_isP0 (Or.inr hx) (br_t rfl ?_)
      exact br_t hs (ky_bP1 (Or.inr hx) (br_f (by decide) ⟨rfl, J⟩))
    refine kx_isP1 hw1 v6 (br_f (by decide) ?_)
    rcases pk_ix v2 (n := np) (by omega) with hx | hx | ⟨r1, hr1, rfl⟩
    · refine kx_isP0 (Or.inl hx) (br_t rfl ?_)
      exact br_t hs (ky_bP0 hw1 v6 (br_t rfl (ky_bP1 (Or.inl hx) (br_f (by decide) ⟨rfl, J⟩))))
    · refine kx_isP0 (Or.inr hx) (br_t rfl ?_)
      exact br_t hs (ky_bP0 hw1 v6 (br_t rfl (ky_bP1 (Or.inr hx) (br_f (by decide) ⟨rfl, J⟩))))
    refine kx_isP1 hr1 v6 (br_f (by decide) ?_)
    refine pk_lt nc 8 (fun h8 => ?_) (fun h8 => ?_)
    · have l8 : nI nc < 8 := nI_lt (b := 8) h8 (by decide)
      by_cases h1 : 1 ≤ v3
      · obtain ⟨V, M, P, N, W, Hw⟩ := I
        have m1 := M.1
        have n3 := N.2.2.1
        have i8 : vp_in (nI nc) 8 := vp_in_nI h8 (by omega)
        have cn8 : (nI nc).toNatClampNeg = nc := nI_clamp (by omega)
        refine br_t h1 ?_
        by_cases h2 : v3 ≤ nI nf
        · obtain ⟨q, hq, rfl⟩ := nI_of (x := v3) (fun z => absurd (Int32.lt_of_lt_of_le z (Int32.le_trans (show (0 : Int32) ≤ 1 by decide) h1)) (Int32.lt_irrefl))
          have q1 : 1 ≤ q := (nI_leI (a := 1) (by omega) hq).mp h1
          have q2 : q ≤ nf := (nI_leI hq (by omega)).mp h2
          obtain ⟨P1, P2⟩ := P hs
          have c0 := M.2.1 nc (Nat.le_refl _)
          have eb : nI na - nI nf = nI (na - nf) := pk_sub (by omega)
          refine br_t h2 (nm_r (nI_1 nc) ⟨i8, nm_r (kn_upd' cn8 rfl) ⟨i8, nm_r (kn_upd' cn8 rfl) ⟨i8, nm_r (kn_upd' cn8 rfl) ⟨i8, nm_r (kn_upd' cn8 eb) (nm_r (pk_sub q2) ?_)⟩⟩⟩⟩)
          refine br_t hs (ky_bP0 hw1 v6 (br_t rfl (ky_bP0 hr1 v6 (br_t rfl (br_t l8 (br_t h1 ?_))))))
          refine ky_free v8 m1 n3 (br_t h2 ⟨i8, nm_r (kn_upd' cn8 rfl) ⟨i8, nm_r (kn_upd' cn8 rfl) ⟨i8, nm_r (kn_upd' cn8 rfl) (nm_r (nI_1 nc) ⟨rfl, ?_⟩)⟩⟩⟩)
          refine ⟨np, na, ng, nc + 1, sd, kn_mk ⟨kn_V_link V h8 hw1 hr1 (by omega) (by omega) c0 (P1 r1), kn_M_link M n3 V.2.2.2.2.2.2.2.2.1 (by omega) q2 P2, kn_P_link P q2 (by omega), N, fun j => ?_, Hw⟩⟩
          have := W j
          omega
        · refine br_f h2 ?_
          refine br_t hs (ky_bP0 hw1 v6 (br_t rfl (ky_bP0 hr1 v6 (br_t rfl (br_t l8 (br_t h1 ?_))))))
          exact ky_free v8 m1 n3 (br_f h2 ⟨rfl, J⟩)
      · refine br_f h1 ?_
        exact br_t hs (ky_bP0 hw1 v6 (br_t rfl (ky_bP0 hr1 v6 (br_t rfl (br_t l8 (br_f h1 ⟨rfl, J⟩))))))
    · have l8 : ¬ nI nc < 8 := nI_nlt (b := 8) h8 (by omega)
      exact br_t hs (ky_bP0 hw1 v6 (br_t rfl (ky_bP0 hr1 v6 (br_t rfl (br_f l8 ⟨rfl, J⟩)))))
  · exact br_f hs (br_f hs ⟨rfl, J⟩)
def kn_in (m : Nat) (x : Int32) : Prop := ∃ n : Nat, n ≤ m ∧ x = nI n
def kn_ch (nc : Nat) (f : Nat → Nat) (p : Nat) (x : Int32) : Prop := ∃ y : Nat, y < nc ∧ x = nI y ∧ f y = p
def kn_zo (Q : Prop) (z : Int32) : Prop := (z = 1 ∧ Q) ∨ (z = 0 ∧ ¬ Q)
theorem kn_in_n {m : Nat} {x : Int32} (hm : m < 2 ^ 31) (h : x < 0 ∨ nI m < x) : ¬ kn_in m x := by
  intro ⟨n, hn, e⟩
  subst e
  rcases h with h | h
  · exact nI_pos (by omega) h
  · rw [nI_ltI hm (by omega)] at h; omega
theorem kn_in_t {m : Nat} {x : Int32} (hm : m < 2 ^ 31) (h0 : ¬ x < 0) (h : ¬ nI m < x) : kn_in m x := by
  obtain ⟨j, hj, rfl⟩ := nI_of h0
  rw [nI_ltI hm hj] at h
  exact ⟨j, by omega, rfl⟩
theorem kn_fit_0 {nc : Nat} {w r : Nat → Nat} {p : Nat} {a b : Int32} : kn_fit nc w r p 0 a b := Or.inl rfl
theorem kn_fit_8 {nc : Nat} {w r : Nat → Nat} {p : Nat} {a b : Int32} : kn_fit nc w r p 8 a b ↔ kn_in 15 a := by
  constructor
  · rintro (hf | ⟨_, hf⟩ | ⟨_, hf | ⟨_, hf, _⟩ | ⟨hf, _⟩ | ⟨hf, _⟩ | ⟨hf, _⟩⟩)
    · omega
    · exact hf
    · omega
    · omega
    · omega
    · omega
    · omega
  · exact fun h => Or.inr (Or.inl ⟨rfl, h⟩)
theorem kn_fit_1 {nc : Nat} {w r : Nat → Nat} {p : Nat} {a b : Int32} : kn_fit nc w r p 1 a b ↔ kn_in 3 a := by
  constructor
  · rintro (hf | ⟨hf, _⟩ | ⟨hf, _⟩)
    · omega
    · omega
    · exact hf
  · exact fun h => Or.inr (Or.inr ⟨h, Or.inl rfl⟩)
theorem kn_fit_25 {nc : Nat} {w r : Nat → Nat} {p o : Nat} {a b : Int32} (h1 : 2 ≤ o) (h2 : o ≤ 5) : kn_fit nc w r p o a b ↔ (kn_in 3 a ∧ kn_in 3 b) := by
  constructor
  · rintro (hf | ⟨hf, _⟩ | ⟨ha, hf | ⟨_, _, hf⟩ | ⟨hf, _⟩ | ⟨hf, _⟩ | ⟨hf, _⟩⟩)
    · omega
    · omega
    · omega
    · exact ⟨ha, hf⟩
    · omega
    · omega
    · omega
  · exact fun h => Or.inr (Or.inr ⟨h.1, Or.inr (Or.inl ⟨h1, h2, h.2⟩)⟩)
theorem kn_fit_6 {nc : Nat} {w r : Nat → Nat} {p : Nat} {a b : Int32} : kn_fit nc w r p 6 a b ↔ (kn_in 3 a ∧ kn_ch nc r p b) := by
  constructor
  · rintro (hf | ⟨hf, _⟩ | ⟨ha, hf | ⟨_, hf, _⟩ | ⟨_, hf⟩ | ⟨hf, _⟩ | ⟨hf, _⟩⟩)
    · omega
    · omega
    · omega
    · omega
    · exact ⟨ha, hf⟩
    · omega
    · omega
  · exact fun h => Or.inr (Or.inr ⟨h.1, Or.inr (Or.inr (Or.inl ⟨rfl, h.2⟩))⟩)
theorem kn_fit_7 {nc : Nat} {w r : Nat → Nat} {p : Nat} {a b : Int32} : kn_fit nc w r p 7 a b ↔ (kn_in 3 a ∧ kn_ch nc w p b) := by
  constructor
  · rintro (hf | ⟨hf, _⟩ | ⟨ha, hf | ⟨_, hf, _⟩ | ⟨hf, _⟩ | ⟨_, hf⟩ | ⟨hf, _⟩⟩)
    · omega
    · omega
    · omega
    · omega
    · omega
    · exact ⟨ha, hf⟩
    · omega
  · exact fun h => Or.inr (Or.inr ⟨h.1, Or.inr (Or.inr (Or.inr (Or.inl ⟨rfl, h.2⟩)))⟩)
theorem kn_fit_9 {nc : Nat} {w r : Nat → Nat} {p o : Nat} {a b : Int32} (h1 : 9 ≤ o) (h2 : o ≤ 10) : kn_fit nc w r p o a b ↔ (kn_in 3 a ∧ kn_in 15 b) := by
  constructor
  · rintro (hf | ⟨hf, _⟩ | ⟨ha, hf | ⟨_, hf, _⟩ | ⟨hf, _⟩ | ⟨hf, _⟩ | ⟨_, _, hf⟩⟩)
    · omega
    · omega
    · omega
    · omega
    · omega
    · omega
    · exact ⟨ha, hf⟩
  · exact fun h => Or.inr (Or.inr ⟨h.1, Or.inr (Or.inr (Or.inr (Or.inr ⟨h1, h2, h.2⟩)))⟩)
section
variable {np na ng nc nf : Nat} {sd : Int32} {on cn po w r c h wt b e : Nat → Nat} {aa ab rg hl dg hi ar tk : Nat → Int32}
theorem kx_reg {post : Int32 → Prop} {x : Int32} (k1 : kn_in 3 x → post 1) (k0 : ¬ kn_in 3 x → post 0) : wpX_isRegister post (0, 1, 2, 3, 4, 5, 6, 7, 8, 9, 10, nI np, nI na, nI ng, sd, nI nc, nI nf, kn_F on, aa, ab, kn_F cn, rg, kn_F po, hl, kn_F w, kn_F r, kn_F c, kn_F h, kn_F wt, dg, hi, ar, kn_F b, kn_F e) x := by
  unfold wpX_isRegister
  refine br_c (fun z => k0 (kn_in_n (by decide) (Or.inl z))) (fun z => br_c (fun y => k0 (kn_in_n (m := 3) (by decide) (Or.inr y))) (fun y => k1 (kn_in_t (m := 3) (by decide) z y)))
theorem kx_tar {post : Int32 → Prop} {x : Int32} (k1 : kn_in 15 x → post 1) (k0 : ¬ kn_in 15 x → post 0) : wpX_isTarget post (0, 1, 2, 3, 4, 5, 6, 7, 8, 9, 10, nI np, nI na, nI ng, sd, nI nc, nI nf, kn_F on, aa, ab, kn_F cn, rg, kn_F po, hl, kn_F w, kn_F r, kn_F c, kn_F h, kn_F wt, dg, hi, ar, kn_F b, kn_F e) x := by
  unfold wpX_isTarget
  refine br_c (fun z => k0 (kn_in_n (by decide) (Or.inl z))) (fun z => br_c (fun y => k0 (kn_in_n (m := 15) (by decide) (Or.inr y))) (fun y => k1 (kn_in_t (m := 15) (by decide) z y)))
theorem kx_165 {post : Int32 → Prop} {x y : Int32} (k : ∀ z, kn_zo (kn_in 3 x ∧ kn_in 3 y) z → post z) : wX_operandsFit_165 post x y 0 1 2 3 4 5 6 7 8 9 10 (nI np) (nI na) (nI ng) sd (nI nc) (nI nf) (kn_F on) aa ab (kn_F cn) rg (kn_F po) hl (kn_F w) (kn_F r) (kn_F c) (kn_F h) (kn_F wt) dg hi ar (kn_F b) (kn_F e) := by
  unfold wX_operandsFit_165
  refine kx_reg (fun h1 => br_f (by decide) ?_) (fun h1 => br_t rfl (k 0 (Or.inr ⟨rfl, fun z => h1 z.1⟩)))
  exact kx_reg (fun h2 => br_f (by decide) (k 1 (Or.inl ⟨rfl, h1, h2⟩))) (fun h2 => br_t rfl (k 0 (Or.inr ⟨rfl, fun z => h2 z.2⟩)))
theorem kx_142 {post : Int32 → Prop} {x y : Int32} (k : ∀ z, kn_zo (kn_in 3 x ∧ kn_in 15 y) z → post z) : wX_operandsFit_142 post x y 0 1 2 3 4 5 6 7 8 9 10 (nI np) (nI na) (nI ng) sd (nI nc) (nI nf) (kn_F on) aa ab (kn_F cn) rg (kn_F po) hl (kn_F w) (kn_F r) (kn_F c) (kn_F h) (kn_F wt) dg hi ar (kn_F b) (kn_F e) := by
  unfold wX_operandsFit_142
  refine kx_reg (fun h1 => br_f (by decide) ?_) (fun h1 => br_t rfl (k 0 (Or.inr ⟨rfl, fun z => h1 z.1⟩)))
  exact kx_tar (fun h2 => br_f (by decide) (k 1 (Or.inl ⟨rfl, h1, h2⟩))) (fun h2 => br_t rfl (k 0 (Or.inr ⟨rfl, fun z => h2 z.2⟩)))
theorem kx_of {post : Int32 → Prop} {p o : Nat} {x y : Int32} (hn : nc ≤ 8) (ho : o ≤ 10) (hp : p < 6) (hr : ∀ j, r j < 6) (hw : ∀ j, w j < 6) (k : ∀ z, kn_zo (kn_fit nc w r p o x y) z → post z) : wpX_operandsFit post (0, 1, 2, 3, 4, 5, 6, 7, 8, 9, 10, nI np, nI na, nI ng, sd, nI nc, nI nf, kn_F on, aa, ab, kn_F cn, rg, kn_F po, hl, kn_F w, kn_F r, kn_F c, kn_F h, kn_F wt, dg, hi, ar, kn_F b, kn_F e) (nI p) (nI o) x y := by
  unfold wpX_operandsFit
  refine br_f (nI_pos (by omega)) ?_
  refine pk_lt 10 o (fun z => absurd z (by omega)) (fun _ => ?_)
  refine pk_eq o 0 (fun e => ?_) (fun e0 => ?_)
  · subst e; exact k 1 (Or.inl ⟨rfl, kn_fit_0⟩)
  refine pk_eq o 1 (fun e => ?_) (fun e1 => ?_)
  · subst e
    exact kx_reg (fun h => ⟨rfl, k 1 (Or.inl ⟨rfl, kn_fit_1.mpr h⟩)⟩) (fun h => ⟨rfl, k 0 (Or.inr ⟨rfl, fun z => h (kn_fit_1.mp z)⟩)⟩)
  have K25 : 2 ≤ o → o ≤ 5 → wX_operandsFit_165 post x y 0 1 2 3 4 5 6 7 8 9 10 (nI np) (nI na) (nI ng) sd (nI nc) (nI nf) (kn_F on) aa ab (kn_F cn) rg (kn_F po) hl (kn_F w) (kn_F r) (kn_F c) (kn_F h) (kn_F wt) dg hi ar (kn_F b) (kn_F e) := fun h1 h2 => kx_165 (fun z hz => k z (by
    unfold kn_zo at hz ⊢; rw [kn_fit_25 h1 h2]; exact hz))
  refine pk_eq o 2 (fun e => K25 (by omega) (by omega)) (fun e2 => ?_)
  refine pk_eq o 3 (fun e => K25 (by omega) (by omega)) (fun e3 => ?_)
  refine pk_eq o 4 (fun e => K25 (by omega) (by omega)) (fun e4 => ?_)
  refine pk_eq o 5 (fun e => K25 (by omega) (by omega)) (fun e5 => ?_)
  refine pk_eq o 6 (fun e => ?_) (fun e6 => ?_)
  · subst e
    refine kx_reg (fun h1 => br_f (by decide) ?_) (fun h1 => br_t rfl (k 0 (Or.inr ⟨rfl, fun z => h1 (kn_fit_6.mp z).1⟩)))
    rcases pk_ix y (n := nc) (by omega) with hx | hx | ⟨q, hq, rfl⟩
    · exact kx_isC0 (Or.inl hx) (br_t rfl (k 0 (Or.inr ⟨rfl, fun z => by
        obtain ⟨q, hq, e, _⟩ := (kn_fit_6.mp z).2
        subst e; exact nI_pos (by omega) hx⟩)))
    · exact kx_isC0 (Or.inr hx) (br_t rfl (k 0 (Or.inr ⟨rfl, fun z => by
        obtain ⟨q, hq, e, _⟩ := (kn_fit_6.mp z).2
        subst e; exact nI_ge hq (by omega) hx⟩)))
    · refine kx_isC1 hq hn (br_f (by decide) ⟨vp_in_nI (by omega) (by omega), ?_⟩)
      rw [kn_rd (by omega)]
      have := hr q
      refine pk_eq (r q) p (fun e => k 1 (Or.inl ⟨rfl, kn_fit_6.mpr ⟨h1, q, hq, rfl, e⟩⟩)) (fun e => k 0 (Or.inr ⟨rfl, fun z => ?_⟩))
      obtain ⟨q', hq', e', e''⟩ := (kn_fit_6.mp z).2
      rw [nI_eq (by omega) (by omega)] at e'
      subst e'; exact e e''
  refine pk_eq o 7 (fun e => ?_) (fun e7 => ?_)
  · subst e
    refine kx_reg (fun h1 => br_f (by decide) ?_) (fun h1 => br_t rfl (k 0 (Or.inr ⟨rfl, fun z => h1 (kn_fit_7.mp z).1⟩)))
    rcases pk_ix y (n := nc) (by omega) with hx | hx | ⟨q, hq, rfl⟩
    · exact kx_isC0 (Or.inl hx) (br_t rfl (k 0 (Or.inr ⟨rfl, fun z => by
        obtain ⟨q, hq, e, _⟩ := (kn_fit_7.mp z).2
        subst e; exact nI_pos (by omega) hx⟩)))
    · exact kx_isC0 (Or.inr hx) (br_t rfl (k 0 (Or.inr ⟨rfl, fun z => by
        obtain ⟨q, hq, e, _⟩ := (kn_fit_7.mp z).2
        subst e; exact nI_ge hq (by omega) hx⟩)))
    · refine kx_isC1 hq hn (br_f (by decide) ⟨vp_in_nI (by omega) (by omega), ?_⟩)
      rw [kn_rd (by omega)]
      have := hw q
      refine pk_eq (w q) p (fun e => k 1 (Or.inl ⟨rfl, kn_fit_7.mpr ⟨h1, q, hq, rfl, e⟩⟩)) (fun e => k 0 (Or.inr ⟨rfl, fun z => ?_⟩))
      obtain ⟨q', hq', e', e''⟩ := (kn_fit_7.mp z).2
      rw [nI_eq (by omega) (by omega)] at e'
      subst e'; exact e e''
  refine pk_eq o 8 (fun e => ?_) (fun e8 => ?_)
  · subst e
    exact kx_tar (fun h => ⟨rfl, k 1 (Or.inl ⟨rfl, kn_fit_8.mpr h⟩)⟩) (fun h => ⟨rfl, k 0 (Or.inr ⟨rfl, fun z => h (kn_fit_8.mp z)⟩)⟩)
  have K9 : wX_operandsFit_142 post x y 0 1 2 3 4 5 6 7 8 9 10 (nI np) (nI na) (nI ng) sd (nI nc) (nI nf) (kn_F on) aa ab (kn_F cn) rg (kn_F po) hl (kn_F w) (kn_F r) (kn_F c) (kn_F h) (kn_F wt) dg hi ar (kn_F b) (kn_F e) := kx_142 (fun z hz => k z (by
    unfold kn_zo at hz ⊢; rw [kn_fit_9 (by omega) ho]; exact hz))
  exact pk_eq o 9 (fun _ => K9) (fun _ => pk_eq o 10 (fun _ => K9) (fun _ => by trivial))
theorem ky_of {post : Int32 → Prop} {p o : Nat} {x y : Int32} (hn : nc ≤ 8) (ho : o ≤ 10) (hp : p < 6) (hr : ∀ j, r j < 6) (hw : ∀ j, w j < 6) (k : ∀ z, kn_zo (kn_fit nc w r p o x y) z → post z) : wpY_operandsFit post (nI np, nI na, nI ng, sd, nI nc, kn_F on, aa, ab, kn_F cn, rg, kn_F po, hl, kn_F w, kn_F r, kn_F c, kn_F h, kn_F wt, dg, tk, hi) (nI p) (nI o) x y := by
  unfold wpY_operandsFit
  refine pk_eq o 0 (fun e => ?_) (fun e0 => ?_)
  · subst e; exact k 1 (Or.inl ⟨rfl, kn_fit_0⟩)
  refine pk_eq o 8 (fun e => ?_) (fun e8 => ?_)
  · subst e
    refine br_c (fun z => k 0 (Or.inr ⟨rfl, fun y => kn_in_n (by decide) (Or.inl z) (kn_fit_8.mp y)⟩)) (fun z => br_c (fun q => k 0 (Or.inr ⟨rfl, fun y => kn_in_n (m := 15) (by decide) (Or.inr q) (kn_fit_8.mp y)⟩)) (fun q => k 1 (Or.inl ⟨rfl, kn_fit_8.mpr (kn_in_t (m := 15) (by decide) z q)⟩)))
  have NA : ¬ kn_in 3 x → post 0 := fun h => k 0 (Or.inr ⟨rfl, fun z => by
    rcases z with hf | ⟨hf, _⟩ | ⟨hf, _⟩
    · exact e0 hf
    · exact e8 hf
    · exact h hf⟩)
  refine br_c (fun z => NA (kn_in_n (by decide) (Or.inl z))) (fun z => ?_)
  refine br_c (fun q => ?_) (fun q => NA (kn_in_n (m := 3) (by decide) (Or.inr (Int32.not_le.mp q))))
  have ha : kn_in 3 x := kn_in_t (m := 3) (by decide) z (Int32.not_lt.mpr q)
  refine pk_eq o 1 (fun e => ?_) (fun e1 => ?_)
  · subst e; exact k 1 (Or.inl ⟨rfl, kn_fit_1.mpr ha⟩)
  refine pk_lt 5 o (fun h5 => ?_) (fun h5 => ?_)
  · refine pk_eq o 6 (fun e => ?_) (fun e6 => ?_)
    · subst e
      rcases pk_ix y (n := nc) (by omega) with hx | hx | ⟨q, hq, rfl⟩
      · exact ky_bC1 (Or.inl hx) (br_f (by decide) (k 0 (Or.inr ⟨rfl, fun z => by
          obtain ⟨q, hq, e, _⟩ := (kn_fit_6.mp z).2
          subst e; exact nI_pos (by omega) hx⟩)))
      · exact ky_bC1 (Or.inr hx) (br_f (by decide) (k 0 (Or.inr ⟨rfl, fun z => by
          obtain ⟨q, hq, e, _⟩ := (kn_fit_6.mp z).2
          subst e; exact nI_ge hq (by omega) hx⟩)))
      · refine ky_bC0 hq hn (br_t rfl ⟨vp_in_nI (by omega) (by omega), ?_⟩)
        rw [kn_rd (by omega)]
        have := hr q
        refine pk_eq (r q) p (fun e => k 1 (Or.inl ⟨rfl, kn_fit_6.mpr ⟨ha, q, hq, rfl, e⟩⟩)) (fun e => k 0 (Or.inr ⟨rfl, fun z => ?_⟩))
        obtain ⟨q', hq', e', e''⟩ := (kn_fit_6.mp z).2
        rw [nI_eq (by omega) (by omega)] at e'
        subst e'; exact e e''
    refine pk_eq o 7 (fun e => ?_) (fun e7 => ?_)
    · subst e
      rcases pk_ix y (n := nc) (by omega) with hx | hx | ⟨q, hq, rfl⟩
      · exact ky_bC1 (Or.inl hx) (br_f (by decide) (k 0 (Or.inr ⟨rfl, fun z => by
          obtain ⟨q, hq, e, _⟩ := (kn_fit_7.mp z).2
          subst e; exact nI_pos (by omega) hx⟩)))
      · exact ky_bC1 (Or.inr hx) (br_f (by decide) (k 0 (Or.inr ⟨rfl, fun z => by
          obtain ⟨q, hq, e, _⟩ := (kn_fit_7.mp z).2
          subst e; exact nI_ge hq (by omega) hx⟩)))
      · refine ky_bC0 hq hn (br_t rfl ⟨vp_in_nI (by omega) (by omega), ?_⟩)
        rw [kn_rd (by omega)]
        have := hw q
        refine pk_eq (w q) p (fun e => k 1 (Or.inl ⟨rfl, kn_fit_7.mpr ⟨ha, q, hq, rfl, e⟩⟩)) (fun e => k 0 (Or.inr ⟨rfl, fun z => ?_⟩))
        obtain ⟨q', hq', e', e''⟩ := (kn_fit_7.mp z).2
        rw [nI_eq (by omega) (by omega)] at e'
        subst e'; exact e e''
    have F := kn_fit_9 (nc := nc) (w := w) (r := r) (p := p) (a := x) (b := y) (show 9 ≤ o by omega) ho
    refine br_c (fun z => k 0 (Or.inr ⟨rfl, fun q => kn_in_n (by decide) (Or.inl z) (F.mp q).2⟩)) (fun z => br_c (fun t => k 0 (Or.inr ⟨rfl, fun q => kn_in_n (m := 15) (by decide) (Or.inr t) (F.mp q).2⟩)) (fun t => k 1 (Or.inl ⟨rfl, F.mpr ⟨ha, kn_in_t (m := 15) (by decide) z t⟩⟩)))
  · have F := kn_fit_25 (nc := nc) (w := w) (r := r) (p := p) (a := x) (b := y) (show 2 ≤ o by omega) h5
    refine br_c (fun z => k 0 (Or.inr ⟨rfl, fun q => kn_in_n (by decide) (Or.inl z) (F.mp q).2⟩)) (fun z => br_c (fun t => k 0 (Or.inr ⟨rfl, fun q => kn_in_n (m := 3) (by decide) (Or.inr t) (F.mp q).2⟩)) (fun t => k 1 (Or.inl ⟨rfl, F.mpr ⟨ha, kn_in_t (m := 3) (by decide) z t⟩⟩)))
theorem kn_V_emit {p o : Nat} {x y : Int32} (V : kn_V np nc on cn po w r c h aa ab hl) (hp : p < np) (hc : cn p < 16) (ho : o ≤ 10) (hf : kn_fit nc w r p o x y) : kn_V np nc (kn_U on (p * 16 + cn p) o) (kn_U cn p (cn p + 1)) po w r c h (upd aa (p * 16 + cn p) x) (upd ab (p * 16 + cn p) y) hl := by
  obtain ⟨v1, v2, v3, v4, v5, v6, v7, v8, v9, v10, v11⟩ := V
  refine ⟨v1, v2, v3, kn_U_le v4 (by omega), kn_U_le v5 ho, v6, v7, v8, v9, fun p' i hp' hi => ?_, v11⟩
  by_cases z : p' * 16 + i = p * 16 + cn p
  · have q : i < 16 := by
      have := kn_U_le (k := p) (v := cn p + 1) v4 (by omega) p'
      omega
    have e1 : p' = p := by omega
    have e2 : i = cn p := by omega
    rw [z, kn_us, pk_us, pk_us, e1]
    exact hf
  · rw [kn_un z, pk_un z, pk_un z]
    refine v10 p' i hp' ?_
    rcases kn_uc cn p (cn p + 1) p' with ⟨y, y'⟩ | ⟨y, y'⟩
    · rw [y'] at hi
      rw [y] at z ⊢
      omega
    · rw [y'] at hi; exact hi
end
theorem i_vc_emit {k : Nat} {u : SX} {v : SY} (I : i_Rel k u v) (hk : k + 5 ≤ 2563) (v1 : Int32) (v2 : Int32) (v3 : Int32) (v4 : Int32) : wpX_emit (fun r u' => wpY_emit (fun r' v' => r' = r ∧ i_Rel (k + 5) u' v') v v1 v2 v3 v4) u v1 v2 v3 v4 := by
  refine kn_op5 (P := fun u v => wpX_emit (fun r u' => wpY_emit (fun r' v' => r' = r ∧ i_Rel (k + 5) u' v') v v1 v2 v3 v4) u v1 v2 v3 v4) I ?_
  intro np na ng nc sd nf on cn po w r c h wt b e aa ab rg hl dg hi ar tk I J
  unfold wpX_emit wpY_emit
  obtain ⟨V, M, P, N, W, Hw⟩ := I
  have V' := V
  obtain ⟨w1, w2, w3, w4, w5, w6, w7, w8, w9, w10, w11⟩ := V'
  by_cases hs : sd = 0
  · refine br_t hs ?_
    rcases pk_ix v1 (n := np) (by omega) with hx | hx | ⟨p, hp, rfl⟩
    · refine kx_isP0 (Or.inl hx) (br_t rfl ?_)
      exact br_t hs (ky_bP1 (Or.inl hx) (br_f (by decide) ⟨rfl, J⟩))
    · refine kx_isP0 (Or.inr hx) (br_t rfl ?_)
      exact br_t hs (ky_bP1 (Or.inr hx) (br_f (by decide) ⟨rfl, J⟩))
    refine kx_isP1 hp w1 (br_f (by decide) ?_)
    by_cases h0 : v2 < 0
    · refine br_t h0 ?_
      exact br_t hs (ky_bP0 hp w1 (br_t rfl (br_t h0 ⟨rfl, J⟩)))
    by_cases h10 : v2 ≤ 10
    · obtain ⟨o, ho, rfl⟩ := nI_of2 (M := 10) (n := 10) rfl h0 h10
      have i6 : vp_in (nI p) 6 := vp_in_nI (by omega) (by omega)
      have cp : (nI p).toNatClampNeg = p := nI_clamp (by omega)
      have q1 := w4 p
      have r6 : ∀ j, r j < 6 := fun j => by have := w7 j; omega
      have ww6 : ∀ j, w j < 6 := fun j => by have := w6 j; omega
      refine br_f h0 (br_t h10 ⟨i6, nm_r (kn_rd (by omega)) ?_⟩)
      refine pk_lt (cn p) 16 (fun h16 => ?_) (fun h16 => ?_)
      · have l16 : kn_F cn (nI p).toNatClampNeg < 16 := by rw [kn_rd (by omega)]; exact nI_lt (b := 16) h16 (by decide)
        have i96 : vp_in (nI p * 16 + nI (cn p)) 96 := by rw [kn_i16]; exact vp_in_nI (by omega) (by omega)
        have c96 : (nI p * 16 + nI (cn p)).toNatClampNeg = p * 16 + cn p := by rw [kn_i16]; exact nI_clamp (by omega)
        refine kx_of w2 ho (by omega) r6 ww6 (fun z hz => ?_)
        rcases hz with ⟨ez, hf⟩ | ⟨ez, hf⟩
        · subst ez
          refine br_f (by decide) ?_
          rw [c96, cp]
          refine ⟨i96, nm_r (kn_upd _ _ _) ⟨i96, nm_e ⟨i96, nm_e ⟨i6, nm_r (kn_upd' rfl (nI_1 _)) ?_⟩⟩⟩⟩
          refine br_t hs (ky_bP0 hp w1 (br_t rfl (br_f h0 (br_t h10 ⟨i6, br_t (nI_lt (b := 16) h16 (by decide)) ?_⟩))))
          refine ky_of w2 ho (by omega) r6 ww6 (fun z hz => ?_)
          rcases hz with ⟨ez, _⟩ | ⟨_, hn⟩
          · subst ez
            refine br_f (by decide) ⟨i6, nm_r (e' := nI (cn p)) rfl ?_⟩
            rw [c96]
            refine ⟨i96, nm_r (kn_upd _ _ _) ⟨i96, nm_e ⟨i96, nm_e ⟨i6, nm_r (kn_upd' rfl (nI_1 _)) ⟨rfl, ?_⟩⟩⟩⟩⟩
            refine ⟨np, na, ng, nc, sd, kn_mk ⟨kn_V_emit V hp h16 ho hf, M, P, N, fun j => ?_, Hw⟩⟩
            have := W j
            omega
          · exact absurd hf hn
        · subst ez
          refine br_t rfl ?_
          refine br_t hs (ky_bP0 hp w1 (br_t rfl (br_f h0 (br_t h10 ⟨i6, br_t l16 ?_⟩))))
          refine ky_of w2 ho (by omega) r6 ww6 (fun z hz => ?_)
          rcases hz with ⟨_, hn⟩ | ⟨ez, _⟩
          · exact absurd hn hf
          · subst ez; exact br_t rfl ⟨rfl, J⟩
      · have l16 : ¬ kn_F cn (nI p).toNatClampNeg < 16 := by rw [kn_rd (by omega)]; exact nI_nlt (b := 16) h16 (by omega)
        exact br_t hs (ky_bP0 hp w1 (br_t rfl (br_f h0 (br_t h10 ⟨i6, br_f l16 ⟨rfl, J⟩⟩))))
    · refine br_f h0 (br_f h10 ?_)
      exact br_t hs (ky_bP0 hp w1 (br_t rfl (br_f h0 (br_f h10 ⟨rfl, J⟩))))
  · exact br_f hs (br_f hs ⟨rfl, J⟩)
end
section
/-! the constructors, and the calls that run -/
def kn_cp (x : Int32) (lo hi n : Nat) : Prop := (nI lo ≤ x ∧ x ≤ nI hi ∧ x = nI n) ∨ (nI lo ≤ x ∧ ¬ x ≤ nI hi ∧ n = hi) ∨ (¬ nI lo ≤ x ∧ n = lo)
theorem kn_cp_ex (x : Int32) (lo hi : Nat) (h : lo ≤ hi) (hb : hi < 2 ^ 31) : ∃ n, kn_cp x lo hi n ∧ lo ≤ n ∧ n ≤ hi := by
  by_cases h1 : nI lo ≤ x
  · by_cases h2 : x ≤ nI hi
    · have h0 : ¬ x < 0 := Int32.not_lt.mpr (Int32.le_trans (nI_pos' (by omega)) h1)
      obtain ⟨j, hj, rfl⟩ := nI_of h0
      rw [nI_leI (by omega) hj] at h1
      rw [nI_leI hj hb] at h2
      exact ⟨j, Or.inl ⟨nI_le h1 hj, nI_le h2 hb, rfl⟩, h1, h2⟩
    · exact ⟨hi, Or.inr (Or.inl ⟨h1, h2, rfl⟩), h, Nat.le_refl _⟩
  · exact ⟨lo, Or.inr (Or.inr ⟨h1, rfl⟩), Nat.le_refl _, h⟩
theorem kx_clamp {post : Int32 → Prop} (u : SX) {x : Int32} {n : Nat} (lo hi : Nat) (h : kn_cp x lo hi n) (k : post (nI n)) : wpX_clamp post u x (nI lo) (nI hi) := by
  revert u
  refine kn_sxA ?_
  intro a1 a2 a3 a4 a5 a6 a7 a8 a9 a10 a11 a12 a13 a14 a15 a16 a17 a18 a19 a20 a21 a22 a23 a24 a25 a26 a27 a28 a29 a30 a31 a32 a33 a34
  rcases h with ⟨h1, h2, rfl⟩ | ⟨h1, h2, rfl⟩ | ⟨h1, rfl⟩
  · exact br_t h1 (br_t h2 k)
  · exact br_t h1 (br_f h2 k)
  · exact br_f h1 k
theorem kn_init {np na ng : Nat} (h1 : 1 ≤ np) (h2 : np ≤ 6) (h3 : 8 ≤ na) (h4 : na ≤ 64) (h5 : 1 ≤ ng) (h6 : ng ≤ 4) : kn_I (3072 * 3) np na ng 0 na 0 (fun _ => 0) (fun _ => 0) (fun _ => 0) (fun _ => 0) (fun _ => 0) (fun _ => 0) (fun _ => 0) (fun _ => 0) (fun _ => 0) (fun _ => 0) (fun _ => 0) (fun _ => 0) (fun _ => 0) (fun _ => 0) (fun _ => 0) := by
  refine ⟨⟨h2, by omega, fun _ => Nat.zero_le _, fun _ => Nat.zero_le _, fun _ => Nat.zero_le _, fun _ => h1, fun _ => h1, fun _ => Nat.zero_le _, fun _ => Nat.zero_le _, fun p i _ hi => absurd hi (Nat.not_lt_zero i), fun j hj => absurd hj (Nat.not_lt_zero j)⟩, ⟨rfl, fun _ _ => rfl, fun _ => Nat.zero_le _, fun _ hj => absurd hj (Nat.lt_irrefl 0), fun _ => Nat.zero_le _, fun _ _ _ hi _ => absurd hi (Nat.lt_irrefl 0), fun _ hj => absurd hj (Nat.lt_irrefl 0), fun _ i hi => absurd hi (Nat.not_lt_zero i)⟩, fun _ => ⟨fun _ => rfl, fun _ hj => absurd hj (Nat.lt_irrefl 0)⟩, ⟨h1, h3, h4, h5, h6⟩, fun _ => Nat.zero_le _, fun _ => Nat.zero_le _⟩
theorem kx_init {post : SX → Prop} {k0 k1 k2 : Int32} {np na ng : Nat} (h0 : kn_cp k0 1 6 np) (h1 : kn_cp k1 8 64 na) (h2 : kn_cp k2 1 4 ng) (k : post (0, 1, 2, 3, 4, 5, 6, 7, 8, 9, 10, nI np, nI na, nI ng, 0, 0, nI na, (fun _ => 0), (fun _ => 0), (fun _ => 0), (fun _ => 0), (fun _ => 0), (fun _ => 0), (fun _ => 0), (fun _ => 0), (fun _ => 0), (fun _ => 0), (fun _ => 0), (fun _ => 0), (fun _ => 0), (fun _ => 0), (fun _ => 0), (fun _ => 0), (fun _ => 0))) : wpX_init post k0 k1 k2 := by
  unfold wpX_init
  refine kx_clamp _ 1 6 h0 ?_
  refine kx_clamp _ 8 64 h1 ?_
  refine kx_clamp _ 1 4 h2 ?_
  exact k
theorem ky_init {post : SY → Prop} {k0 k1 k2 : Int32} {np na ng : Nat} (h0 : kn_cp k0 1 6 np) (h1 : kn_cp k1 8 64 na) (h2 : kn_cp k2 1 4 ng) (k : post (nI np, nI na, nI ng, 0, 0, (fun _ => 0), (fun _ => 0), (fun _ => 0), (fun _ => 0), (fun _ => 0), (fun _ => 0), (fun _ => 0), (fun _ => 0), (fun _ => 0), (fun _ => 0), (fun _ => 0), (fun _ => 0), (fun _ => 0), (fun _ => 0), (fun _ => 0))) : wpY_init post k0 k1 k2 := by
  have A2 : ∀ x : Int32, x = nI na → ∀ y : Int32, y = nI np → wY_init_175 post k2 x y 0 0 0 0 (fun _ => 0) (fun _ => 0) (fun _ => 0) (fun _ => 0) (fun _ => 0) (fun _ => 0) (fun _ => 0) (fun _ => 0) (fun _ => 0) (fun _ => 0) (fun _ => 0) (fun _ => 0) (fun _ => 0) (fun _ => 0) (fun _ => 0) := by
    intro x ex y ey
    subst ex ey
    unfold wY_init_175
    rcases h2 with ⟨a, b, rfl⟩ | ⟨a, b, rfl⟩ | ⟨a, rfl⟩
    · exact br_t a (br_t b k)
    · exact br_t a (br_f b k)
    · exact br_f a k
  have A1 : ∀ y : Int32, y = nI np → wY_init_148 post k1 k2 y 0 0 0 0 0 (fun _ => 0) (fun _ => 0) (fun _ => 0) (fun _ => 0) (fun _ => 0) (fun _ => 0) (fun _ => 0) (fun _ => 0) (fun _ => 0) (fun _ => 0) (fun _ => 0) (fun _ => 0) (fun _ => 0) (fun _ => 0) (fun _ => 0) := by
    intro y ey
    unfold wY_init_148
    rcases h1 with ⟨a, b, e⟩ | ⟨a, b, rfl⟩ | ⟨a, rfl⟩
    · exact br_t a (br_t b (A2 _ e y ey))
    · exact br_t a (br_f b (A2 _ rfl y ey))
    · exact br_f a (A2 _ rfl y ey)
  unfold wpY_init
  rcases h0 with ⟨a, b, e⟩ | ⟨a, b, rfl⟩ | ⟨a, rfl⟩
  · exact br_t a (br_t b (A1 _ e))
  · exact br_t a (br_f b (A1 _ rfl))
  · exact br_f a (A1 _ rfl)
theorem i_vc0 (k0 : Int32) (k1 : Int32) (k2 : Int32) : wpX_init (fun u => wpY_init (fun v => i_Rel 3 u v) k0 k1 k2) k0 k1 k2 := by
  obtain ⟨np, h0, a1, a2⟩ := kn_cp_ex k0 1 6 (by omega) (by omega)
  obtain ⟨na, h1, a3, a4⟩ := kn_cp_ex k1 8 64 (by omega) (by omega)
  obtain ⟨ng, h2, a5, a6⟩ := kn_cp_ex k2 1 4 (by omega) (by omega)
  refine kx_init h0 h1 h2 ?_
  refine ky_init h0 h1 h2 ?_
  exact ⟨np, na, ng, 0, 0, kn_mk (rg := fun _ => 0) (dg := fun _ => 0) (hi := fun _ => 0) (kn_init a1 a2 a3 a4 a5 a6)⟩
theorem i_vc_run {k : Nat} {u : SX} {v : SY} (I : i_Rel k u v) (hk : k + 5 ≤ 2563) (v1 : Int32) (v2 : Int32) : wpX_run (fun r u' => wpY_run (fun r' v' => r' = r ∧ i_Rel (k + 5) u' v') v v1 v2) u v1 v2 := by
  refine kn_op5 (P := fun u v => wpX_run (fun r u' => wpY_run (fun r' v' => r' = r ∧ i_Rel (k + 5) u' v') v v1 v2) u v1 v2) I ?_
  intro np na ng nc sd nf on cn po w r c h wt b e aa ab rg hl dg hi ar tk I J
  have w1 := I.1.1
  by_cases hs : sd = 0
  · exact br_t hs (br_t hs ⟨rfl, J⟩)
  have X1 : ∀ {post : Int32 → SX → Prop} {x : Int32}, (x < 0 ∨ nI np ≤ x) → post (-2) (0, 1, 2, 3, 4, 5, 6, 7, 8, 9, 10, nI np, nI na, nI ng, sd, nI nc, nI nf, kn_F on, aa, ab, kn_F cn, rg, kn_F po, hl, kn_F w, kn_F r, kn_F c, kn_F h, kn_F wt, dg, hi, ar, kn_F b, kn_F e) → wpX_run post (0, 1, 2, 3, 4, 5, 6, 7, 8, 9, 10, nI np, nI na, nI ng, sd, nI nc, nI nf, kn_F on, aa, ab, kn_F cn, rg, kn_F po, hl, kn_F w, kn_F r, kn_F c, kn_F h, kn_F wt, dg, hi, ar, kn_F b, kn_F e) x v2 := fun hx k => br_f hs (kx_isP0 hx (br_t rfl k))
  have Y1 : ∀ {post : Int32 → SY → Prop} {x : Int32}, (x < 0 ∨ nI np ≤ x) → post (-2) (nI np, nI na, nI ng, sd, nI nc, kn_F on, aa, ab, kn_F cn, rg, kn_F po, hl, kn_F w, kn_F r, kn_F c, kn_F h, kn_F wt, dg, tk, hi) → wpY_run post (nI np, nI na, nI ng, sd, nI nc, kn_F on, aa, ab, kn_F cn, rg, kn_F po, hl, kn_F w, kn_F r, kn_F c, kn_F h, kn_F wt, dg, tk, hi) x v2 := fun hx k => br_f hs (ky_bP1 hx (br_f (by decide) k))
  rcases pk_ix v1 (n := np) (by omega) with hx | hx | ⟨p, hp, rfl⟩
  · exact X1 (Or.inl hx) (Y1 (Or.inl hx) ⟨rfl, J⟩)
  · exact X1 (Or.inr hx) (Y1 (Or.inr hx) ⟨rfl, J⟩)
  by_cases l1 : v2 < 1
  · refine br_f hs (kx_isP1 hp w1 (br_f (by decide) (br_t l1 ?_)))
    exact br_f hs (ky_bP0 hp w1 (br_t rfl (br_t l1 ⟨rfl, J⟩)))
  by_cases l2 : v2 ≤ 32
  · obtain ⟨t, ht, rfl⟩ := nI_of2 (M := 32) (n := 32) rfl (fun z => l1 (Int32.lt_trans z (by decide))) l2
    have t1 : 1 ≤ t := by
      rcases Nat.lt_or_ge t 1 with z | z
      · exact absurd (nI_lt (b := 1) z (by decide)) l1
      · exact z
    obtain ⟨s, u', v', hst, R, XW, YW⟩ := kn_run hp hs t1 ht (B := 3072 * k) (by omega) (kn_mk (rg := rg) (dg := dg) (hi := hi) I)
    refine br_f hs (kx_isP1 hp w1 (br_f (by decide) (br_f l1 (br_t l2 (XW _ ?_)))))
    have R' : i_Rel (k + 5) u' v' := ⟨np, na, ng, nc, sd, kn_R_B (by omega) R⟩
    have K := YW (fun r' v' => r' = nI s ∧ i_Rel (k + 5) u' v') ⟨rfl, R'⟩
    clear XW R R'
    clear YW
    revert K
    revert u'
    refine kn_sxA ?_
    intro a1 a2 a3 a4 a5 a6 a7 a8 a9 a10 a11 a12 a13 a14 a15 a16 a17 a18 a19 a20 a21 a22 a23 a24 a25 a26 a27 a28 a29 a30 a31 a32 a33 a34 K
    exact K
  · refine br_f hs (kx_isP1 hp w1 (br_f (by decide) (br_f l1 (br_f l2 ?_))))
    exact br_f hs (ky_bP0 hp w1 (br_t rfl (br_f l1 (br_f l2 ⟨rfl, J⟩))))
theorem i_vc_resolve {k : Nat} {u : SX} {v : SY} (I : i_Rel k u v) (hk : k + 5 ≤ 2563) : wpX_resolve (fun r u' => wpY_resolve (fun r' v' => r' = r ∧ i_Rel (k + 5) u' v') v) u := by
  have J := i_up I
  obtain ⟨np, na, ng, nc, sd, I⟩ := I
  by_cases hs : sd = 0
  · revert J
    refine kn_el (P := fun u v => i_Rel (k + 5) u v → wpX_resolve (fun r u' => wpY_resolve (fun r' v' => r' = r ∧ i_Rel (k + 5) u' v') v) u) I ?_
    intro nf on cn po w r c h wt b e aa ab rg hl dg hi ar tk I J
    exact br_t hs (br_t hs ⟨rfl, J⟩)
  · exact kn_res hs I (fun x u' v' R Y => Y _ ⟨rfl, np, na, ng, nc, sd, kn_R_B (by omega) R⟩)
theorem i_vc_verdict {k : Nat} {u : SX} {v : SY} (I : i_Rel k u v) (hk : k + 5 ≤ 2563) : wpX_verdict (fun r => wpY_verdict (fun r' => r' = r ∧ i_Rel (k + 5) u v) v) u := by
  have J := i_up I
  obtain ⟨np, na, ng, nc, sd, I⟩ := I
  by_cases hs : sd = 0
  · revert J
    refine kn_el (P := fun u v => i_Rel (k + 5) u v → wpX_verdict (fun r => wpY_verdict (fun r' => r' = r ∧ i_Rel (k + 5) u v) v) u) I ?_
    intro nf on cn po w r c h wt b e aa ab rg hl dg hi ar tk I J
    exact br_t hs (br_t hs ⟨rfl, J⟩)
  · exact kn_vd hs I (fun a Y => Y _ ⟨rfl, J⟩)
theorem i_vc_settle {k : Nat} {u : SX} {v : SY} (I : i_Rel k u v) (hk : k + 5 ≤ 2563) (v1 : Int32) (v2 : Int32) (v3 : Int32) : wpX_settle (fun r u' => wpY_settle (fun r' v' => r' = r ∧ i_Rel (k + 5) u' v') v v1 v2 v3) u v1 v2 v3 := by
  refine kn_op5 (P := fun u v => wpX_settle (fun r u' => wpY_settle (fun r' v' => r' = r ∧ i_Rel (k + 5) u' v') v v1 v2 v3) u v1 v2 v3) I ?_
  intro np na ng nc sd nf on cn po w r c h wt b e aa ab rg hl dg hi ar tk I J
  have w1 := I.1.1
  by_cases hs : sd = 0
  · exact br_t hs (br_t hs ⟨rfl, J⟩)
  have X1 : ∀ {post : Int32 → SX → Prop} {x : Int32}, (x < 0 ∨ nI np ≤ x) → post (-2) (0, 1, 2, 3, 4, 5, 6, 7, 8, 9, 10, nI np, nI na, nI ng, sd, nI nc, nI nf, kn_F on, aa, ab, kn_F cn, rg, kn_F po, hl, kn_F w, kn_F r, kn_F c, kn_F h, kn_F wt, dg, hi, ar, kn_F b, kn_F e) → wpX_settle post (0, 1, 2, 3, 4, 5, 6, 7, 8, 9, 10, nI np, nI na, nI ng, sd, nI nc, nI nf, kn_F on, aa, ab, kn_F cn, rg, kn_F po, hl, kn_F w, kn_F r, kn_F c, kn_F h, kn_F wt, dg, hi, ar, kn_F b, kn_F e) x v2 v3 := fun hx k => br_f hs (kx_isP0 hx (br_t rfl k))
  have Y1 : ∀ {post : Int32 → SY → Prop} {x : Int32}, (x < 0 ∨ nI np ≤ x) → post (-2) (nI np, nI na, nI ng, sd, nI nc, kn_F on, aa, ab, kn_F cn, rg, kn_F po, hl, kn_F w, kn_F r, kn_F c, kn_F h, kn_F wt, dg, tk, hi) → wpY_settle post (nI np, nI na, nI ng, sd, nI nc, kn_F on, aa, ab, kn_F cn, rg, kn_F po, hl, kn_F w, kn_F r, kn_F c, kn_F h, kn_F wt, dg, tk, hi) x v2 v3 := fun hx k => br_f hs (ky_bP1 hx (br_f (by decide) k))
  rcases pk_ix v1 (n := np) (by omega) with hx | hx | ⟨p, hp, rfl⟩
  · exact X1 (Or.inl hx) (Y1 (Or.inl hx) ⟨rfl, J⟩)
  · exact X1 (Or.inr hx) (Y1 (Or.inr hx) ⟨rfl, J⟩)
  by_cases l1 : v2 < 1
  · refine br_f hs (kx_isP1 hp w1 (br_f (by decide) (br_t l1 ?_)))
    exact br_f hs (ky_bP0 hp w1 (br_t rfl (br_t l1 ⟨rfl, J⟩)))
  by_cases l2 : 32 < v2
  · refine br_f hs (kx_isP1 hp w1 (br_f (by decide) (br_f l1 (br_t l2 ?_))))
    exact br_f hs (ky_bP0 hp w1 (br_t rfl (br_f l1 (br_t l2 ⟨rfl, J⟩))))
  by_cases l3 : v3 < 1
  · refine br_f hs (kx_isP1 hp w1 (br_f (by decide) (br_f l1 (br_f l2 (br_t l3 ?_)))))
    exact br_f hs (ky_bP0 hp w1 (br_t rfl (br_f l1 (br_f l2 (br_t l3 ⟨rfl, J⟩)))))
  by_cases l4 : v3 ≤ 16
  · obtain ⟨t, ht, rfl⟩ := nI_of2 (x := v2) (M := 32) (n := 32) rfl (fun z => l1 (Int32.lt_trans z (by decide))) (Int32.not_lt.mp l2)
    have t1 : 1 ≤ t := by
      rcases Nat.lt_or_ge t 1 with z | z
      · exact absurd (nI_lt (b := 1) z (by decide)) l1
      · exact z
    obtain ⟨T, hT, rfl⟩ := nI_of2 (x := v3) (M := 16) (n := 16) rfl (fun z => l3 (Int32.lt_trans z (by decide))) l4
    refine br_f hs (kx_isP1 hp w1 (br_f (by decide) (br_f l1 (br_f l2 (br_f l3 (br_t l4 ⟨T + 1, ?_⟩))))))
    refine kn_settle hp w1 hs t1 ht hT T 0 (3072 * k) _ _ (by omega) (by omega) (kn_mk (tk := tk) I) (fun a u' v' R YW => ?_) (T + 1) (by omega)
    refine br_f hs (ky_bP0 hp w1 (br_t rfl (br_f l1 (br_f l2 (br_f l3 (br_t l4 ⟨T + 1, ?_⟩))))))
    exact YW (fun r' v' => r' = nI a ∧ i_Rel (k + 5) u' v') (T + 1) (by omega) ⟨rfl, np, na, ng, nc, sd, kn_R_B (by omega) R⟩
  · refine br_f hs (kx_isP1 hp w1 (br_f (by decide) (br_f l1 (br_f l2 (br_f l3 (br_f l4 ?_))))))
    exact br_f hs (ky_bP0 hp w1 (br_t rfl (br_f l1 (br_f l2 (br_f l3 (br_f l4 ⟨rfl, J⟩))))))
end
