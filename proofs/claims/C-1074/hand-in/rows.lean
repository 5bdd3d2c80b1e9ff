section
/-! pure rows to paste: stores, nI and lN arithmetic, masks, shifts, narrowing, branches by naturals (pk_le, pk_lt, pk_eq), loops (lp1 .. lp16: the measure of the state; rp1 ..: recursion), negatives. Take what you need -/
theorem pk_us {f : Nat → Int32} {k : Nat} {x : Int32} : upd f k x k = x := if_pos rfl
theorem pk_un {f : Nat → Int32} {k j : Nat} {x : Int32} (h : j ≠ k) : upd f k x j = f j := if_neg h
theorem pk_uLs {f : Nat → Int64} {k : Nat} {x : Int64} : vp_updL f k x k = x := if_pos rfl
theorem pk_uLn {f : Nat → Int64} {k j : Nat} {x : Int64} (h : j ≠ k) : vp_updL f k x j = f j := if_neg h
theorem pk_sub {a b : Nat} (h : b ≤ a) : nI a - nI b = nI (a - b) := by
  obtain ⟨c, rfl⟩ : ∃ c, a = c + b := ⟨a - b, by omega⟩
  rw [← nI_add, Int32.add_sub_cancel, Nat.add_sub_cancel]
theorem pk_m1 (n : Nat) : nI (n + 1) + (-1) = nI n := by
  rw [← nI_1, Int32.add_assoc, show (1 : Int32) + (-1) = 0 from rfl, Int32.add_zero]
theorem pk_mul (a b : Nat) : nI a * nI b = nI (a * b) := (Int32.ofNat_mul a b).symm
theorem pk_div {a d : Nat} (ha : a < 2 ^ 31) (h0 : 0 < d) (hd : d < 2 ^ 31) : nI a / nI d = nI (a / d) := by
  apply Int32.toInt_inj.mp
  rw [lg_idiv_nonneg (by rw [nI_toInt ha]; omega) (by rw [nI_toInt hd]; omega), nI_toInt ha, nI_toInt hd, nI_toInt (Nat.lt_of_le_of_lt (Nat.div_le_self a d) ha)]
  first | rfl | exact (Int.natCast_ediv _ _).symm
theorem pk_rem {a d : Nat} (ha : a < 2 ^ 31) (h0 : 0 < d) (hd : d < 2 ^ 31) : nI a - nI a / nI d * nI d = nI (a % d) := by
  rw [pk_div ha h0 hd, pk_mul, pk_sub (Nat.div_mul_le_self a d)]
  exact congrArg nI (by have := Nat.div_add_mod' a d; omega)
theorem pk_sub_toInt {a b : Nat} (ha : a < 2 ^ 30) (hb : b < 2 ^ 30) : (nI a - nI b).toInt = (a : Int) - b := by
  rw [Int32.toInt_sub, nI_toInt (by omega), nI_toInt (by omega)]
  exact Int.bmod_eq_of_le (by omega) (by omega)
theorem pk_sneg {a b : Nat} (hb : b < 2 ^ 30) (h : a < b) : nI a - nI b < 0 := by
  rw [Int32.lt_iff_toInt_lt, pk_sub_toInt (by omega) hb, show (0 : Int32).toInt = 0 from by decide]
  omega
theorem pk_ix (x : Int32) {n : Nat} (hn : n < 2 ^ 31) : x < 0 ∨ nI n ≤ x ∨ ∃ j : Nat, j < n ∧ x = nI j := by
  by_cases h : x < 0
  · exact Or.inl h
  · obtain ⟨j, hj, rfl⟩ := nI_of h
    by_cases h2 : j < n
    · exact Or.inr (Or.inr ⟨j, h2, rfl⟩)
    · exact Or.inr (Or.inl (nI_le (by omega) hj))
theorem pk_le {x y : Int32} {A B : Prop} (a b : Nat) (f : a ≤ b → A) (g : b < a → B) (hx : x = nI a := by rfl) (hy : y = nI b := by rfl) (ha : a < 2 ^ 31 := by omega) (hb : b < 2 ^ 31 := by omega) : (x ≤ y → A) ∧ (¬ x ≤ y → B) := by
  subst hx hy
  rw [nI_leI ha hb]
  exact ⟨f, fun z => g (by omega)⟩
theorem pk_lt {x y : Int32} {A B : Prop} (a b : Nat) (f : a < b → A) (g : b ≤ a → B) (hx : x = nI a := by rfl) (hy : y = nI b := by rfl) (ha : a < 2 ^ 31 := by omega) (hb : b < 2 ^ 31 := by omega) : (x < y → A) ∧ (¬ x < y → B) := by
  subst hx hy
  rw [nI_ltI ha hb]
  exact ⟨f, fun z => g (by omega)⟩
theorem pk_eq {x y : Int32} {A B : Prop} (a b : Nat) (f : a = b → A) (g : a ≠ b → B) (hx : x = nI a := by rfl) (hy : y = nI b := by rfl) (ha : a < 2 ^ 31 := by omega) (hb : b < 2 ^ 31 := by omega) : (x = y → A) ∧ (¬ x = y → B) := by
  subst hx hy
  rw [nI_eq ha hb]
  exact ⟨f, g⟩
theorem pk_in {x : Int32} (n N : Nat) (h : n < N) (hx : x = nI n := by rfl) (hN : N < 2 ^ 31 := by omega) : vp_in x N := by
  subst hx
  exact vp_in_nI h hN
theorem pk_cl {x : Int32} (n : Nat) (hx : x = nI n := by rfl) (h : n < 2 ^ 31 := by omega) : x.toNatClampNeg = n := by
  subst hx
  exact nI_clamp h
theorem pk_tn {n : Nat} (h : n < 2 ^ 32) : (nI n).toBitVec.toNat = n := Nat.mod_eq_of_lt h
theorem pk_and (x : Int32) {m : Int32} (k : Nat) (hm : m.toBitVec.toNat = 2 ^ k - 1) : x &&& m = nI (x.toBitVec.toNat % 2 ^ k) := by
  apply Int32.toBitVec_inj.mp
  apply BitVec.eq_of_toNat_eq
  rw [Int32.toBitVec_and, BitVec.toNat_and, hm, Nat.and_two_pow_sub_one_eq_mod]
  show _ = (BitVec.ofNat 32 _).toNat
  rw [BitVec.toNat_ofNat]
  exact (Nat.mod_eq_of_lt (Nat.lt_of_le_of_lt (Nat.mod_le _ _) x.toBitVec.isLt)).symm
theorem pk_andN {n : Nat} (h : n < 2 ^ 32) {m : Int32} (k : Nat) (hm : m.toBitVec.toNat = 2 ^ k - 1) : nI n &&& m = nI (n % 2 ^ k) := by
  rw [pk_and _ k hm, pk_tn h]
theorem pk_andE (x : Int32) {m : Int32} (k : Nat) (hm : m.toBitVec.toNat = 2 ^ k - 1) : ∃ j : Nat, j < 2 ^ k ∧ x &&& m = nI j := ⟨_, Nat.mod_lt _ (Nat.two_pow_pos k), pk_and x k hm⟩
theorem pk_andIn (x : Int32) {m : Int32} (k : Nat) (hm : m.toBitVec.toNat = 2 ^ k - 1) (hk : k ≤ 30) : vp_in (x &&& m) (2 ^ k) := by
  obtain ⟨j, hj, e⟩ := pk_andE x k hm
  rw [e]
  exact vp_in_nI hj (Nat.lt_of_le_of_lt (Nat.pow_le_pow_right (by decide) hk) (by decide))
theorem pk_shl (a s : Int32) (k : Nat) (hs : (s.toBitVec.smod 32).toNat = k) : (a <<< s).toBitVec.toNat = a.toBitVec.toNat * 2 ^ k % 2 ^ 32 := by
  show (a.toBitVec <<< (s.toBitVec.smod 32).toNat).toNat = _
  rw [hs, BitVec.toNat_shiftLeft, Nat.shiftLeft_eq]
theorem pk_shlN {n : Nat} (s : Int32) (k : Nat) (hs : (s.toBitVec.smod 32).toNat = k) (h : n * 2 ^ k < 2 ^ 32) : nI n <<< s = nI (n * 2 ^ k) := by
  apply Int32.toBitVec_inj.mp
  apply BitVec.eq_of_toNat_eq
  have hn : n < 2 ^ 32 := Nat.lt_of_le_of_lt (Nat.le_mul_of_pos_right n (Nat.two_pow_pos k)) h
  rw [pk_shl _ _ k hs, pk_tn hn, pk_tn h, Nat.mod_eq_of_lt h]
theorem pk_shr (a s : Int32) (k : Nat) (hs : (s.toBitVec.smod 32).toNat = k) : (a >>> s).toInt = a.toInt >>> k := by
  show (a.toBitVec.sshiftRight (s.toBitVec.smod 32).toNat).toInt = _
  rw [hs, BitVec.toInt_sshiftRight]
  rfl
theorem pk_shrN {n : Nat} (h : n < 2 ^ 31) (s : Int32) (k : Nat) (hs : (s.toBitVec.smod 32).toNat = k) : nI n >>> s = nI (n / 2 ^ k) := by
  apply Int32.toInt_inj.mp
  have h2 : n / 2 ^ k ≤ n := Nat.div_le_self _ _
  rw [pk_shr _ _ k hs, nI_toInt h, nI_toInt (by omega), Int.shiftRight_eq_div_pow]
  rfl
theorem pk_ushr (x s : Int32) (k : Nat) (hs : ((s.toUInt32 &&& Int32.toUInt32 31).toBitVec % 32).toNat = k) : (x.toUInt32 >>> (s.toUInt32 &&& Int32.toUInt32 31)).toInt32.toBitVec.toNat = x.toBitVec.toNat / 2 ^ k := by
  have e : (x.toUInt32 >>> (s.toUInt32 &&& Int32.toUInt32 31)).toInt32.toBitVec = x.toBitVec >>> k := by
    rw [← hs]
    exact UInt32.toBitVec_shiftRight _ _
  rw [e, BitVec.toNat_ushiftRight, Nat.shiftRight_eq_div_pow]
theorem pk_ushrN {n : Nat} (hn : n < 2 ^ 32) (s : Int32) (k : Nat) (hs : ((s.toUInt32 &&& Int32.toUInt32 31).toBitVec % 32).toNat = k) : ((nI n).toUInt32 >>> (s.toUInt32 &&& Int32.toUInt32 31)).toInt32 = nI (n / 2 ^ k) := by
  apply Int32.toBitVec_inj.mp
  apply BitVec.eq_of_toNat_eq
  rw [pk_ushr _ s k hs, pk_tn hn, pk_tn (Nat.lt_of_le_of_lt (Nat.div_le_self _ _) hn)]
theorem pk_nb (z : Int32) : narrow .byte (.int z.toInt8.toInt32) = .int z.toInt8.toInt32 := congrArg Value.int (by simp)
theorem pk_ns (z : Int32) : narrow .short (.int z.toInt16.toInt32) = .int z.toInt16.toInt32 := congrArg Value.int (by simp)
theorem pk_fb (r : Int32) : fits .byte (.int r.toInt8.toInt32) = true := by
  have ⟨a, b⟩ := lg_i2b_range r
  have h1 : (-128 : Int32).toInt = -128 := by decide
  have h2 : (127 : Int32).toInt = 127 := by decide
  simp only [fits, Bool.and_eq_true, decide_eq_true_eq, Int32.le_iff_toInt_le, h1, h2]
  omega
theorem pk_fs (r : Int32) : fits .short (.int r.toInt16.toInt32) = true := by
  have ⟨a, b⟩ := lg_i2s_range r
  have h1 : (-32768 : Int32).toInt = -32768 := by decide
  have h2 : (32767 : Int32).toInt = 32767 := by decide
  simp only [fits, Bool.and_eq_true, decide_eq_true_eq, Int32.le_iff_toInt_le, h1, h2]
  omega
theorem pk_charN {q : Nat} (hq : q < 65536) : narrow .char (.int (nI q)) = .int (nI q) ∧ fits .char (.int (nI q)) = true := by
  constructor
  · have e : (nI q).toUInt32.toUInt16.toUInt32.toInt32 = nI q := by
      apply Int32.toBitVec_inj.mp
      apply BitVec.eq_of_toNat_eq
      show (nI q).toUInt32.toUInt16.toUInt32.toNat = q % 2 ^ 32
      rw [UInt16.toNat_toUInt32, UInt32.toNat_toUInt16, show (nI q).toUInt32.toNat = q % 2 ^ 32 from rfl]
      omega
    exact congrArg Value.int e
  · have a : (0 : Int32) ≤ nI q := nI_pos' (by omega)
    have b : nI q ≤ 65535 := nI_le (b := 65535) (by omega) (by decide)
    show (decide ((0 : Int32) ≤ nI q) && decide (nI q ≤ 65535)) = true
    rw [decide_eq_true a, decide_eq_true b]
    rfl
theorem pk_char (x : Int32) : (x.toUInt32 % 65536).toInt32 = nI (x.toBitVec.toNat % 65536) := by
  apply Int32.toBitVec_inj.mp
  apply BitVec.eq_of_toNat_eq
  rw [pk_tn (by omega)]
  show (x.toUInt32 % 65536).toNat = _
  rw [UInt32.toNat_mod]
  rfl
theorem pk_nc (x : Int32) : narrow .char (.int (x.toUInt32 % 65536).toInt32) = .int (x.toUInt32 % 65536).toInt32 := by
  rw [pk_char]
  exact (pk_charN (Nat.mod_lt _ (by decide))).1
theorem pk_fc (x : Int32) : fits .char (.int (x.toUInt32 % 65536).toInt32) = true := by
  rw [pk_char]
  exact (pk_charN (Nat.mod_lt _ (by decide))).2
theorem pk_vb (z : Int32) : vp_nar .byte z.toInt8.toInt32 = z.toInt8.toInt32 := by rw [vp_nar_byte]; simp
theorem pk_vs (z : Int32) : vp_nar .short z.toInt16.toInt32 = z.toInt16.toInt32 := by rw [vp_nar_short]; simp
theorem pk_vc (z : Int32) : vp_nar .char (z.toUInt32 % 65536).toInt32 = (z.toUInt32 % 65536).toInt32 := Value.int.inj (pk_nc z)
theorem pk_lT {n : Nat} (h : n < 2 ^ 63) : (lN n).toInt = (n : Int) := lg_ofNat_toInt h
theorem pk_lLT {a b : Nat} (ha : a < 2 ^ 63) (hb : b < 2 ^ 63) : lN a < lN b ↔ a < b := by
  rw [Int64.lt_iff_toInt_lt, pk_lT ha, pk_lT hb]; omega
theorem pk_lLE {a b : Nat} (ha : a < 2 ^ 63) (hb : b < 2 ^ 63) : lN a ≤ lN b ↔ a ≤ b := by
  rw [Int64.le_iff_toInt_le, pk_lT ha, pk_lT hb]; omega
theorem pk_lEQ {a b : Nat} (ha : a < 2 ^ 63) (hb : b < 2 ^ 63) : lN a = lN b ↔ a = b := by
  rw [← Int64.toInt_inj, pk_lT ha, pk_lT hb]; omega
theorem pk_lOf {x : Int64} (h : ¬ x < 0) : ∃ k : Nat, k < 2 ^ 63 ∧ x = lN k := by
  rw [Int64.lt_iff_toInt_lt] at h
  have h0 : (0 : Int64).toInt = 0 := by decide
  have hx := Int64.toInt_lt x
  refine ⟨x.toInt.toNat, by omega, Int64.toInt_inj.mp ?_⟩
  rw [pk_lT (by omega)]
  omega
theorem pk_lDiv {a b : Nat} (ha : a < 2 ^ 63) (h0 : 0 < b) (hb : b < 2 ^ 63) : lN a / lN b = lN (a / b) := by
  apply Int64.toInt_inj.mp
  rw [lg_ldiv_nonneg (by rw [pk_lT ha]; omega) (by rw [pk_lT hb]; omega), pk_lT ha, pk_lT hb, pk_lT (Nat.lt_of_le_of_lt (Nat.div_le_self a b) ha)]
  rfl
theorem pk_lRem {a b : Nat} (ha : a < 2 ^ 63) (h0 : 0 < b) (hb : b < 2 ^ 63) : lN a - lN a / lN b * lN b = lN (a % b) := by
  rw [pk_lDiv ha h0 hb, lN_mul, lN_sub (Nat.div_mul_le_self a b)]
  exact congrArg lN (by have := Nat.div_add_mod' a b; omega)
theorem pk_loop {σ : Type} (W : Nat → Nat → σ → Prop) (I : Nat → σ → Prop) (e i0 : Nat) (s : σ) (hi : i0 ≤ e) (h0 : I i0 s) (hx : ∀ n s, I e s → W (n + 1) e s)
    (hs : ∀ n i s, i < e → I i s → (∀ s', I (i + 1) s' → W n (i + 1) s') → W (n + 1) i s) : ∃ n, W n i0 s :=
  ⟨e + 1, loop_i W I e hx hs (e + 1) i0 s hi (by omega) h0⟩
theorem pk_loopD {σ : Type} (W : Nat → Nat → σ → Prop) (I : Nat → σ → Prop) (hx : ∀ n s, I 0 s → W (n + 1) 0 s)
    (hs : ∀ n i s, I (i + 1) s → (∀ s', I i s' → W n i s') → W (n + 1) (i + 1) s) : ∀ (e : Nat) (s : σ), I e s → W (e + 1) e s := by
  intro e
  induction e with
  | zero => exact fun s h => hx 0 s h
  | succ e ih => exact fun s h => hs (e + 1) e s h (fun s' h' => ih s' h')
theorem lp1 {A1 : Type} (W : Nat → A1 → Prop) (I : A1 → Prop) (μ : A1 → Nat) (hs : ∀ (n : Nat) (a1 : A1), I a1 → (∀ (b1 : A1), I b1 → μ b1 < μ a1 → W n b1) → W (n + 1) a1) (a1 : A1) (h : I a1) : ∃ n, W n a1 :=
  loop_m (σ := A1) (fun n s => W n s) (fun s => I s) (fun s => μ s) (fun n s hI hk => hs n s hI (fun b1 h9 hm => hk b1 h9 hm)) a1 h
theorem lp2 {A1 A2 : Type} (W : Nat → A1 → A2 → Prop) (I : A1 → A2 → Prop) (μ : A1 → A2 → Nat) (hs : ∀ (n : Nat) (a1 : A1) (a2 : A2), I a1 a2 → (∀ (b1 : A1) (b2 : A2), I b1 b2 → μ b1 b2 < μ a1 a2 → W n b1 b2) → W (n + 1) a1 a2) (a1 : A1) (a2 : A2) (h : I a1 a2) : ∃ n, W n a1 a2 :=
  loop_m (σ := A1 × A2) (fun n s => W n s.1 s.2) (fun s => I s.1 s.2) (fun s => μ s.1 s.2) (fun n s hI hk => hs n s.1 s.2 hI (fun b1 b2 h9 hm => hk (b1, b2) h9 hm)) (a1, a2) h
theorem lp3 {A1 A2 A3 : Type} (W : Nat → A1 → A2 → A3 → Prop) (I : A1 → A2 → A3 → Prop) (μ : A1 → A2 → A3 → Nat) (hs : ∀ (n : Nat) (a1 : A1) (a2 : A2) (a3 : A3), I a1 a2 a3 → (∀ (b1 : A1) (b2 : A2) (b3 : A3), I b1 b2 b3 → μ b1 b2 b3 < μ a1 a2 a3 → W n b1 b2 b3) → W (n + 1) a1 a2 a3) (a1 : A1) (a2 : A2) (a3 : A3) (h : I a1 a2 a3) : ∃ n, W n a1 a2 a3 :=
  loop_m (σ := A1 × A2 × A3) (fun n s => W n s.1 s.2.1 s.2.2) (fun s => I s.1 s.2.1 s.2.2) (fun s => μ s.1 s.2.1 s.2.2) (fun n s hI hk => hs n s.1 s.2.1 s.2.2 hI (fun b1 b2 b3 h9 hm => hk (b1, b2, b3) h9 hm)) (a1, a2, a3) h
theorem lp4 {A1 A2 A3 A4 : Type} (W : Nat → A1 → A2 → A3 → A4 → Prop) (I : A1 → A2 → A3 → A4 → Prop) (μ : A1 → A2 → A3 → A4 → Nat) (hs : ∀ (n : Nat) (a1 : A1) (a2 : A2) (a3 : A3) (a4 : A4), I a1 a2 a3 a4 → (∀ (b1 : A1) (b2 : A2) (b3 : A3) (b4 : A4), I b1 b2 b3 b4 → μ b1 b2 b3 b4 < μ a1 a2 a3 a4 → W n b1 b2 b3 b4) → W (n + 1) a1 a2 a3 a4) (a1 : A1) (a2 : A2) (a3 : A3) (a4 : A4) (h : I a1 a2 a3 a4) : ∃ n, W n a1 a2 a3 a4 :=
  loop_m (σ := A1 × A2 × A3 × A4) (fun n s => W n s.1 s.2.1 s.2.2.1 s.2.2.2) (fun s => I s.1 s.2.1 s.2.2.1 s.2.2.2) (fun s => μ s.1 s.2.1 s.2.2.1 s.2.2.2) (fun n s hI hk => hs n s.1 s.2.1 s.2.2.1 s.2.2.2 hI (fun b1 b2 b3 b4 h9 hm => hk (b1, b2, b3, b4) h9 hm)) (a1, a2, a3, a4) h
theorem lp5 {A1 A2 A3 A4 A5 : Type} (W : Nat → A1 → A2 → A3 → A4 → A5 → Prop) (I : A1 → A2 → A3 → A4 → A5 → Prop) (μ : A1 → A2 → A3 → A4 → A5 → Nat) (hs : ∀ (n : Nat) (a1 : A1) (a2 : A2) (a3 : A3) (a4 : A4) (a5 : A5), I a1 a2 a3 a4 a5 → (∀ (b1 : A1) (b2 : A2) (b3 : A3) (b4 : A4) (b5 : A5), I b1 b2 b3 b4 b5 → μ b1 b2 b3 b4 b5 < μ a1 a2 a3 a4 a5 → W n b1 b2 b3 b4 b5) → W (n + 1) a1 a2 a3 a4 a5) (a1 : A1) (a2 : A2) (a3 : A3) (a4 : A4) (a5 : A5) (h : I a1 a2 a3 a4 a5) : ∃ n, W n a1 a2 a3 a4 a5 :=
  loop_m (σ := A1 × A2 × A3 × A4 × A5) (fun n s => W n s.1 s.2.1 s.2.2.1 s.2.2.2.1 s.2.2.2.2) (fun s => I s.1 s.2.1 s.2.2.1 s.2.2.2.1 s.2.2.2.2) (fun s => μ s.1 s.2.1 s.2.2.1 s.2.2.2.1 s.2.2.2.2) (fun n s hI hk => hs n s.1 s.2.1 s.2.2.1 s.2.2.2.1 s.2.2.2.2 hI (fun b1 b2 b3 b4 b5 h9 hm => hk (b1, b2, b3, b4, b5) h9 hm)) (a1, a2, a3, a4, a5) h
theorem lp6 {A1 A2 A3 A4 A5 A6 : Type} (W : Nat → A1 → A2 → A3 → A4 → A5 → A6 → Prop) (I : A1 → A2 → A3 → A4 → A5 → A6 → Prop) (μ : A1 → A2 → A3 → A4 → A5 → A6 → Nat) (hs : ∀ (n : Nat) (a1 : A1) (a2 : A2) (a3 : A3) (a4 : A4) (a5 : A5) (a6 : A6), I a1 a2 a3 a4 a5 a6 → (∀ (b1 : A1) (b2 : A2) (b3 : A3) (b4 : A4) (b5 : A5) (b6 : A6), I b1 b2 b3 b4 b5 b6 → μ b1 b2 b3 b4 b5 b6 < μ a1 a2 a3 a4 a5 a6 → W n b1 b2 b3 b4 b5 b6) → W (n + 1) a1 a2 a3 a4 a5 a6) (a1 : A1) (a2 : A2) (a3 : A3) (a4 : A4) (a5 : A5) (a6 : A6) (h : I a1 a2 a3 a4 a5 a6) : ∃ n, W n a1 a2 a3 a4 a5 a6 :=
  loop_m (σ := A1 × A2 × A3 × A4 × A5 × A6) (fun n s => W n s.1 s.2.1 s.2.2.1 s.2.2.2.1 s.2.2.2.2.1 s.2.2.2.2.2) (fun s => I s.1 s.2.1 s.2.2.1 s.2.2.2.1 s.2.2.2.2.1 s.2.2.2.2.2) (fun s => μ s.1 s.2.1 s.2.2.1 s.2.2.2.1 s.2.2.2.2.1 s.2.2.2.2.2) (fun n s hI hk => hs n s.1 s.2.1 s.2.2.1 s.2.2.2.1 s.2.2.2.2.1 s.2.2.2.2.2 hI (fun b1 b2 b3 b4 b5 b6 h9 hm => hk (b1, b2, b3, b4, b5, b6) h9 hm)) (a1, a2, a3, a4, a5, a6) h
theorem lp7 {A1 A2 A3 A4 A5 A6 A7 : Type} (W : Nat → A1 → A2 → A3 → A4 → A5 → A6 → A7 → Prop) (I : A1 → A2 → A3 → A4 → A5 → A6 → A7 → Prop) (μ : A1 → A2 → A3 → A4 → A5 → A6 → A7 → Nat) (hs : ∀ (n : Nat) (a1 : A1) (a2 : A2) (a3 : A3) (a4 : A4) (a5 : A5) (a6 : A6) (a7 : A7), I a1 a2 a3 a4 a5 a6 a7 → (∀ (b1 : A1) (b2 : A2) (b3 : A3) (b4 : A4) (b5 : A5) (b6 : A6) (b7 : A7), I b1 b2 b3 b4 b5 b6 b7 → μ b1 b2 b3 b4 b5 b6 b7 < μ a1 a2 a3 a4 a5 a6 a7 → W n b1 b2 b3 b4 b5 b6 b7) → W (n + 1) a1 a2 a3 a4 a5 a6 a7) (a1 : A1) (a2 : A2) (a3 : A3) (a4 : A4) (a5 : A5) (a6 : A6) (a7 : A7) (h : I a1 a2 a3 a4 a5 a6 a7) : ∃ n, W n a1 a2 a3 a4 a5 a6 a7 :=
  loop_m (σ := A1 × A2 × A3 × A4 × A5 × A6 × A7) (fun n s => W n s.1 s.2.1 s.2.2.1 s.2.2.2.1 s.2.2.2.2.1 s.2.2.2.2.2.1 s.2.2.2.2.2.2) (fun s => I s.1 s.2.1 s.2.2.1 s.2.2.2.1 s.2.2.2.2.1 s.2.2.2.2.2.1 s.2.2.2.2.2.2) (fun s => μ s.1 s.2.1 s.2.2.1 s.2.2.2.1 s.2.2.2.2.1 s.2.2.2.2.2.1 s.2.2.2.2.2.2) (fun n s hI hk => hs n s.1 s.2.1 s.2.2.1 s.2.2.2.1 s.2.2.2.2.1 s.2.2.2.2.2.1 s.2.2.2.2.2.2 hI (fun b1 b2 b3 b4 b5 b6 b7 h9 hm => hk (b1, b2, b3, b4, b5, b6, b7) h9 hm)) (a1, a2, a3, a4, a5, a6, a7) h
theorem lp8 {A1 A2 A3 A4 A5 A6 A7 A8 : Type} (W : Nat → A1 → A2 → A3 → A4 → A5 → A6 → A7 → A8 → Prop) (I : A1 → A2 → A3 → A4 → A5 → A6 → A7 → A8 → Prop) (μ : A1 → A2 → A3 → A4 → A5 → A6 → A7 → A8 → Nat) (hs : ∀ (n : Nat) (a1 : A1) (a2 : A2) (a3 : A3) (a4 : A4) (a5 : A5) (a6 : A6) (a7 : A7) (a8 : A8), I a1 a2 a3 a4 a5 a6 a7 a8 → (∀ (b1 : A1) (b2 : A2) (b3 : A3) (b4 : A4) (b5 : A5) (b6 : A6) (b7 : A7) (b8 : A8), I b1 b2 b3 b4 b5 b6 b7 b8 → μ b1 b2 b3 b4 b5 b6 b7 b8 < μ a1 a2 a3 a4 a5 a6 a7 a8 → W n b1 b2 b3 b4 b5 b6 b7 b8) → W (n + 1) a1 a2 a3 a4 a5 a6 a7 a8) (a1 : A1) (a2 : A2) (a3 : A3) (a4 : A4) (a5 : A5) (a6 : A6) (a7 : A7) (a8 : A8) (h : I a1 a2 a3 a4 a5 a6 a7 a8) : ∃ n, W n a1 a2 a3 a4 a5 a6 a7 a8 :=
  loop_m (σ := A1 × A2 × A3 × A4 × A5 × A6 × A7 × A8) (fun n s => W n s.1 s.2.1 s.2.2.1 s.2.2.2.1 s.2.2.2.2.1 s.2.2.2.2.2.1 s.2.2.2.2.2.2.1 s.2.2.2.2.2.2.2) (fun s => I s.1 s.2.1 s.2.2.1 s.2.2.2.1 s.2.2.2.2.1 s.2.2.2.2.2.1 s.2.2.2.2.2.2.1 s.2.2.2.2.2.2.2) (fun s => μ s.1 s.2.1 s.2.2.1 s.2.2.2.1 s.2.2.2.2.1 s.2.2.2.2.2.1 s.2.2.2.2.2.2.1 s.2.2.2.2.2.2.2) (fun n s hI hk => hs n s.1 s.2.1 s.2.2.1 s.2.2.2.1 s.2.2.2.2.1 s.2.2.2.2.2.1 s.2.2.2.2.2.2.1 s.2.2.2.2.2.2.2 hI (fun b1 b2 b3 b4 b5 b6 b7 b8 h9 hm => hk (b1, b2, b3, b4, b5, b6, b7, b8) h9 hm)) (a1, a2, a3, a4, a5, a6, a7, a8) h
theorem lp9 {A1 A2 A3 A4 A5 A6 A7 A8 A9 : Type} (W : Nat → A1 → A2 → A3 → A4 → A5 → A6 → A7 → A8 → A9 → Prop) (I : A1 → A2 → A3 → A4 → A5 → A6 → A7 → A8 → A9 → Prop) (μ : A1 → A2 → A3 → A4 → A5 → A6 → A7 → A8 → A9 → Nat) (hs : ∀ (n : Nat) (a1 : A1) (a2 : A2) (a3 : A3) (a4 : A4) (a5 : A5) (a6 : A6) (a7 : A7) (a8 : A8) (a9 : A9), I a1 a2 a3 a4 a5 a6 a7 a8 a9 → (∀ (b1 : A1) (b2 : A2) (b3 : A3) (b4 : A4) (b5 : A5) (b6 : A6) (b7 : A7) (b8 : A8) (b9 : A9), I b1 b2 b3 b4 b5 b6 b7 b8 b9 → μ b1 b2 b3 b4 b5 b6 b7 b8 b9 < μ a1 a2 a3 a4 a5 a6 a7 a8 a9 → W n b1 b2 b3 b4 b5 b6 b7 b8 b9) → W (n + 1) a1 a2 a3 a4 a5 a6 a7 a8 a9) (a1 : A1) (a2 : A2) (a3 : A3) (a4 : A4) (a5 : A5) (a6 : A6) (a7 : A7) (a8 : A8) (a9 : A9) (h : I a1 a2 a3 a4 a5 a6 a7 a8 a9) : ∃ n, W n a1 a2 a3 a4 a5 a6 a7 a8 a9 :=
  loop_m (σ := A1 × A2 × A3 × A4 × A5 × A6 × A7 × A8 × A9) (fun n s => W n s.1 s.2.1 s.2.2.1 s.2.2.2.1 s.2.2.2.2.1 s.2.2.2.2.2.1 s.2.2.2.2.2.2.1 s.2.2.2.2.2.2.2.1 s.2.2.2.2.2.2.2.2) (fun s => I s.1 s.2.1 s.2.2.1 s.2.2.2.1 s.2.2.2.2.1 s.2.2.2.2.2.1 s.2.2.2.2.2.2.1 s.2.2.2.2.2.2.2.1 s.2.2.2.2.2.2.2.2) (fun s => μ s.1 s.2.1 s.2.2.1 s.2.2.2.1 s.2.2.2.2.1 s.2.2.2.2.2.1 s.2.2.2.2.2.2.1 s.2.2.2.2.2.2.2.1 s.2.2.2.2.2.2.2.2) (fun n s hI hk => hs n s.1 s.2.1 s.2.2.1 s.2.2.2.1 s.2.2.2.2.1 s.2.2.2.2.2.1 s.2.2.2.2.2.2.1 s.2.2.2.2.2.2.2.1 s.2.2.2.2.2.2.2.2 hI (fun b1 b2 b3 b4 b5 b6 b7 b8 b9 h9 hm => hk (b1, b2, b3, b4, b5, b6, b7, b8, b9) h9 hm)) (a1, a2, a3, a4, a5, a6, a7, a8, a9) h
theorem lp10 {A1 A2 A3 A4 A5 A6 A7 A8 A9 A10 : Type} (W : Nat → A1 → A2 → A3 → A4 → A5 → A6 → A7 → A8 → A9 → A10 → Prop) (I : A1 → A2 → A3 → A4 → A5 → A6 → A7 → A8 → A9 → A10 → Prop) (μ : A1 → A2 → A3 → A4 → A5 → A6 → A7 → A8 → A9 → A10 → Nat) (hs : ∀ (n : Nat) (a1 : A1) (a2 : A2) (a3 : A3) (a4 : A4) (a5 : A5) (a6 : A6) (a7 : A7) (a8 : A8) (a9 : A9) (a10 : A10), I a1 a2 a3 a4 a5 a6 a7 a8 a9 a10 → (∀ (b1 : A1) (b2 : A2) (b3 : A3) (b4 : A4) (b5 : A5) (b6 : A6) (b7 : A7) (b8 : A8) (b9 : A9) (b10 : A10), I b1 b2 b3 b4 b5 b6 b7 b8 b9 b10 → μ b1 b2 b3 b4 b5 b6 b7 b8 b9 b10 < μ a1 a2 a3 a4 a5 a6 a7 a8 a9 a10 → W n b1 b2 b3 b4 b5 b6 b7 b8 b9 b10) → W (n + 1) a1 a2 a3 a4 a5 a6 a7 a8 a9 a10) (a1 : A1) (a2 : A2) (a3 : A3) (a4 : A4) (a5 : A5) (a6 : A6) (a7 : A7) (a8 : A8) (a9 : A9) (a10 : A10) (h : I a1 a2 a3 a4 a5 a6 a7 a8 a9 a10) : ∃ n, W n a1 a2 a3 a4 a5 a6 a7 a8 a9 a10 :=
  loop_m (σ := A1 × A2 × A3 × A4 × A5 × A6 × A7 × A8 × A9 × A10) (fun n s => W n s.1 s.2.1 s.2.2.1 s.2.2.2.1 s.2.2.2.2.1 s.2.2.2.2.2.1 s.2.2.2.2.2.2.1 s.2.2.2.2.2.2.2.1 s.2.2.2.2.2.2.2.2.1 s.2.2.2.2.2.2.2.2.2) (fun s => I s.1 s.2.1 s.2.2.1 s.2.2.2.1 s.2.2.2.2.1 s.2.2.2.2.2.1 s.2.2.2.2.2.2.1 s.2.2.2.2.2.2.2.1 s.2.2.2.2.2.2.2.2.1 s.2.2.2.2.2.2.2.2.2) (fun s => μ s.1 s.2.1 s.2.2.1 s.2.2.2.1 s.2.2.2.2.1 s.2.2.2.2.2.1 s.2.2.2.2.2.2.1 s.2.2.2.2.2.2.2.1 s.2.2.2.2.2.2.2.2.1 s.2.2.2.2.2.2.2.2.2) (fun n s hI hk => hs n s.1 s.2.1 s.2.2.1 s.2.2.2.1 s.2.2.2.2.1 s.2.2.2.2.2.1 s.2.2.2.2.2.2.1 s.2.2.2.2.2.2.2.1 s.2.2.2.2.2.2.2.2.1 s.2.2.2.2.2.2.2.2.2 hI (fun b1 b2 b3 b4 b5 b6 b7 b8 b9 b10 h9 hm => hk (b1, b2, b3, b4, b5, b6, b7, b8, b9, b10) h9 hm)) (a1, a2, a3, a4, a5, a6, a7, a8, a9, a10) h
theorem lp11 {A1 A2 A3 A4 A5 A6 A7 A8 A9 A10 A11 : Type} (W : Nat → A1 → A2 → A3 → A4 → A5 → A6 → A7 → A8 → A9 → A10 → A11 → Prop) (I : A1 → A2 → A3 → A4 → A5 → A6 → A7 → A8 → A9 → A10 → A11 → Prop) (μ : A1 → A2 → A3 → A4 → A5 → A6 → A7 → A8 → A9 → A10 → A11 → Nat) (hs : ∀ (n : Nat) (a1 : A1) (a2 : A2) (a3 : A3) (a4 : A4) (a5 : A5) (a6 : A6) (a7 : A7) (a8 : A8) (a9 : A9) (a10 : A10) (a11 : A11), I a1 a2 a3 a4 a5 a6 a7 a8 a9 a10 a11 → (∀ (b1 : A1) (b2 : A2) (b3 : A3) (b4 : A4) (b5 : A5) (b6 : A6) (b7 : A7) (b8 : A8) (b9 : A9) (b10 : A10) (b11 : A11), I b1 b2 b3 b4 b5 b6 b7 b8 b9 b10 b11 → μ b1 b2 b3 b4 b5 b6 b7 b8 b9 b10 b11 < μ a1 a2 a3 a4 a5 a6 a7 a8 a9 a10 a11 → W n b1 b2 b3 b4 b5 b6 b7 b8 b9 b10 b11) → W (n + 1) a1 a2 a3 a4 a5 a6 a7 a8 a9 a10 a11) (a1 : A1) (a2 : A2) (a3 : A3) (a4 : A4) (a5 : A5) (a6 : A6) (a7 : A7) (a8 : A8) (a9 : A9) (a10 : A10) (a11 : A11) (h : I a1 a2 a3 a4 a5 a6 a7 a8 a9 a10 a11) : ∃ n, W n a1 a2 a3 a4 a5 a6 a7 a8 a9 a10 a11 :=
  loop_m (σ := A1 × A2 × A3 × A4 × A5 × A6 × A7 × A8 × A9 × A10 × A11) (fun n s => W n s.1 s.2.1 s.2.2.1 s.2.2.2.1 s.2.2.2.2.1 s.2.2.2.2.2.1 s.2.2.2.2.2.2.1 s.2.2.2.2.2.2.2.1 s.2.2.2.2.2.2.2.2.1 s.2.2.2.2.2.2.2.2.2.1 s.2.2.2.2.2.2.2.2.2.2) (fun s => I s.1 s.2.1 s.2.2.1 s.2.2.2.1 s.2.2.2.2.1 s.2.2.2.2.2.1 s.2.2.2.2.2.2.1 s.2.2.2.2.2.2.2.1 s.2.2.2.2.2.2.2.2.1 s.2.2.2.2.2.2.2.2.2.1 s.2.2.2.2.2.2.2.2.2.2) (fun s => μ s.1 s.2.1 s.2.2.1 s.2.2.2.1 s.2.2.2.2.1 s.2.2.2.2.2.1 s.2.2.2.2.2.2.1 s.2.2.2.2.2.2.2.1 s.2.2.2.2.2.2.2.2.1 s.2.2.2.2.2.2.2.2.2.1 s.2.2.2.2.2.2.2.2.2.2) (fun n s hI hk => hs n s.1 s.2.1 s.2.2.1 s.2.2.2.1 s.2.2.2.2.1 s.2.2.2.2.2.1 s.2.2.2.2.2.2.1 s.2.2.2.2.2.2.2.1 s.2.2.2.2.2.2.2.2.1 s.2.2.2.2.2.2.2.2.2.1 s.2.2.2.2.2.2.2.2.2.2 hI (fun b1 b2 b3 b4 b5 b6 b7 b8 b9 b10 b11 h9 hm => hk (b1, b2, b3, b4, b5, b6, b7, b8, b9, b10, b11) h9 hm)) (a1, a2, a3, a4, a5, a6, a7, a8, a9, a10, a11) h
theorem lp12 {A1 A2 A3 A4 A5 A6 A7 A8 A9 A10 A11 A12 : Type} (W : Nat → A1 → A2 → A3 → A4 → A5 → A6 → A7 → A8 → A9 → A10 → A11 → A12 → Prop) (I : A1 → A2 → A3 → A4 → A5 → A6 → A7 → A8 → A9 → A10 → A11 → A12 → Prop) (μ : A1 → A2 → A3 → A4 → A5 → A6 → A7 → A8 → A9 → A10 → A11 → A12 → Nat) (hs : ∀ (n : Nat) (a1 : A1) (a2 : A2) (a3 : A3) (a4 : A4) (a5 : A5) (a6 : A6) (a7 : A7) (a8 : A8) (a9 : A9) (a10 : A10) (a11 : A11) (a12 : A12), I a1 a2 a3 a4 a5 a6 a7 a8 a9 a10 a11 a12 → (∀ (b1 : A1) (b2 : A2) (b3 : A3) (b4 : A4) (b5 : A5) (b6 : A6) (b7 : A7) (b8 : A8) (b9 : A9) (b10 : A10) (b11 : A11) (b12 : A12), I b1 b2 b3 b4 b5 b6 b7 b8 b9 b10 b11 b12 → μ b1 b2 b3 b4 b5 b6 b7 b8 b9 b10 b11 b12 < μ a1 a2 a3 a4 a5 a6 a7 a8 a9 a10 a11 a12 → W n b1 b2 b3 b4 b5 b6 b7 b8 b9 b10 b11 b12) → W (n + 1) a1 a2 a3 a4 a5 a6 a7 a8 a9 a10 a11 a12) (a1 : A1) (a2 : A2) (a3 : A3) (a4 : A4) (a5 : A5) (a6 : A6) (a7 : A7) (a8 : A8) (a9 : A9) (a10 : A10) (a11 : A11) (a12 : A12) (h : I a1 a2 a3 a4 a5 a6 a7 a8 a9 a10 a11 a12) : ∃ n, W n a1 a2 a3 a4 a5 a6 a7 a8 a9 a10 a11 a12 :=
  loop_m (σ := A1 × A2 × A3 × A4 × A5 × A6 × A7 × A8 × A9 × A10 × A11 × A12) (fun n s => W n s.1 s.2.1 s.2.2.1 s.2.2.2.1 s.2.2.2.2.1 s.2.2.2.2.2.1 s.2.2.2.2.2.2.1 s.2.2.2.2.2.2.2.1 s.2.2.2.2.2.2.2.2.1 s.2.2.2.2.2.2.2.2.2.1 s.2.2.2.2.2.2.2.2.2.2.1 s.2.2.2.2.2.2.2.2.2.2.2) (fun s => I s.1 s.2.1 s.2.2.1 s.2.2.2.1 s.2.2.2.2.1 s.2.2.2.2.2.1 s.2.2.2.2.2.2.1 s.2.2.2.2.2.2.2.1 s.2.2.2.2.2.2.2.2.1 s.2.2.2.2.2.2.2.2.2.1 s.2.2.2.2.2.2.2.2.2.2.1 s.2.2.2.2.2.2.2.2.2.2.2) (fun s => μ s.1 s.2.1 s.2.2.1 s.2.2.2.1 s.2.2.2.2.1 s.2.2.2.2.2.1 s.2.2.2.2.2.2.1 s.2.2.2.2.2.2.2.1 s.2.2.2.2.2.2.2.2.1 s.2.2.2.2.2.2.2.2.2.1 s.2.2.2.2.2.2.2.2.2.2.1 s.2.2.2.2.2.2.2.2.2.2.2) (fun n s hI hk => hs n s.1 s.2.1 s.2.2.1 s.2.2.2.1 s.2.2.2.2.1 s.2.2.2.2.2.1 s.2.2.2.2.2.2.1 s.2.2.2.2.2.2.2.1 s.2.2.2.2.2.2.2.2.1 s.2.2.2.2.2.2.2.2.2.1 s.2.2.2.2.2.2.2.2.2.2.1 s.2.2.2.2.2.2.2.2.2.2.2 hI (fun b1 b2 b3 b4 b5 b6 b7 b8 b9 b10 b11 b12 h9 hm => hk (b1, b2, b3, b4, b5, b6, b7, b8, b9, b10, b11, b12) h9 hm)) (a1, a2, a3, a4, a5, a6, a7, a8, a9, a10, a11, a12) h
theorem lp13 {A1 A2 A3 A4 A5 A6 A7 A8 A9 A10 A11 A12 A13 : Type} (W : Nat → A1 → A2 → A3 → A4 → A5 → A6 → A7 → A8 → A9 → A10 → A11 → A12 → A13 → Prop) (I : A1 → A2 → A3 → A4 → A5 → A6 → A7 → A8 → A9 → A10 → A11 → A12 → A13 → Prop) (μ : A1 → A2 → A3 → A4 → A5 → A6 → A7 → A8 → A9 → A10 → A11 → A12 → A13 → Nat) (hs : ∀ (n : Nat) (a1 : A1) (a2 : A2) (a3 : A3) (a4 : A4) (a5 : A5) (a6 : A6) (a7 : A7) (a8 : A8) (a9 : A9) (a10 : A10) (a11 : A11) (a12 : A12) (a13 : A13), I a1 a2 a3 a4 a5 a6 a7 a8 a9 a10 a11 a12 a13 → (∀ (b1 : A1) (b2 : A2) (b3 : A3) (b4 : A4) (b5 : A5) (b6 : A6) (b7 : A7) (b8 : A8) (b9 : A9) (b10 : A10) (b11 : A11) (b12 : A12) (b13 : A13), I b1 b2 b3 b4 b5 b6 b7 b8 b9 b10 b11 b12 b13 → μ b1 b2 b3 b4 b5 b6 b7 b8 b9 b10 b11 b12 b13 < μ a1 a2 a3 a4 a5 a6 a7 a8 a9 a10 a11 a12 a13 → W n b1 b2 b3 b4 b5 b6 b7 b8 b9 b10 b11 b12 b13) → W (n + 1) a1 a2 a3 a4 a5 a6 a7 a8 a9 a10 a11 a12 a13) (a1 : A1) (a2 : A2) (a3 : A3) (a4 : A4) (a5 : A5) (a6 : A6) (a7 : A7) (a8 : A8) (a9 : A9) (a10 : A10) (a11 : A11) (a12 : A12) (a13 : A13) (h : I a1 a2 a3 a4 a5 a6 a7 a8 a9 a10 a11 a12 a13) : ∃ n, W n a1 a2 a3 a4 a5 a6 a7 a8 a9 a10 a11 a12 a13 :=
  loop_m (σ := A1 × A2 × A3 × A4 × A5 × A6 × A7 × A8 × A9 × A10 × A11 × A12 × A13) (fun n s => W n s.1 s.2.1 s.2.2.1 s.2.2.2.1 s.2.2.2.2.1 s.2.2.2.2.2.1 s.2.2.2.2.2.2.1 s.2.2.2.2.2.2.2.1 s.2.2.2.2.2.2.2.2.1 s.2.2.2.2.2.2.2.2.2.1 s.2.2.2.2.2.2.2.2.2.2.1 s.2.2.2.2.2.2.2.2.2.2.2.1 s.2.2.2.2.2.2.2.2.2.2.2.2) (fun s => I s.1 s.2.1 s.2.2.1 s.2.2.2.1 s.2.2.2.2.1 s.2.2.2.2.2.1 s.2.2.2.2.2.2.1 s.2.2.2.2.2.2.2.1 s.2.2.2.2.2.2.2.2.1 s.2.2.2.2.2.2.2.2.2.1 s.2.2.2.2.2.2.2.2.2.2.1 s.2.2.2.2.2.2.2.2.2.2.2.1 s.2.2.2.2.2.2.2.2.2.2.2.2) (fun s => μ s.1 s.2.1 s.2.2.1 s.2.2.2.1 s.2.2.2.2.1 s.2.2.2.2.2.1 s.2.2.2.2.2.2.1 s.2.2.2.2.2.2.2.1 s.2.2.2.2.2.2.2.2.1 s.2.2.2.2.2.2.2.2.2.1 s.2.2.2.2.2.2.2.2.2.2.1 s.2.2.2.2.2.2.2.2.2.2.2.1 s.2.2.2.2.2.2.2.2.2.2.2.2) (fun n s hI hk => hs n s.1 s.2.1 s.2.2.1 s.2.2.2.1 s.2.2.2.2.1 s.2.2.2.2.2.1 s.2.2.2.2.2.2.1 s.2.2.2.2.2.2.2.1 s.2.2.2.2.2.2.2.2.1 s.2.2.2.2.2.2.2.2.2.1 s.2.2.2.2.2.2.2.2.2.2.1 s.2.2.2.2.2.2.2.2.2.2.2.1 s.2.2.2.2.2.2.2.2.2.2.2.2 hI (fun b1 b2 b3 b4 b5 b6 b7 b8 b9 b10 b11 b12 b13 h9 hm => hk (b1, b2, b3, b4, b5, b6, b7, b8, b9, b10, b11, b12, b13) h9 hm)) (a1, a2, a3, a4, a5, a6, a7, a8, a9, a10, a11, a12, a13) h
theorem lp14 {A1 A2 A3 A4 A5 A6 A7 A8 A9 A10 A11 A12 A13 A14 : Type} (W : Nat → A1 → A2 → A3 → A4 → A5 → A6 → A7 → A8 → A9 → A10 → A11 → A12 → A13 → A14 → Prop) (I : A1 → A2 → A3 → A4 → A5 → A6 → A7 → A8 → A9 → A10 → A11 → A12 → A13 → A14 → Prop) (μ : A1 → A2 → A3 → A4 → A5 → A6 → A7 → A8 → A9 → A10 → A11 → A12 → A13 → A14 → Nat) (hs : ∀ (n : Nat) (a1 : A1) (a2 : A2) (a3 : A3) (a4 : A4) (a5 : A5) (a6 : A6) (a7 : A7) (a8 : A8) (a9 : A9) (a10 : A10) (a11 : A11) (a12 : A12) (a13 : A13) (a14 : A14), I a1 a2 a3 a4 a5 a6 a7 a8 a9 a10 a11 a12 a13 a14 → (∀ (b1 : A1) (b2 : A2) (b3 : A3) (b4 : A4) (b5 : A5) (b6 : A6) (b7 : A7) (b8 : A8) (b9 : A9) (b10 : A10) (b11 : A11) (b12 : A12) (b13 : A13) (b14 : A14), I b1 b2 b3 b4 b5 b6 b7 b8 b9 b10 b11 b12 b13 b14 → μ b1 b2 b3 b4 b5 b6 b7 b8 b9 b10 b11 b12 b13 b14 < μ a1 a2 a3 a4 a5 a6 a7 a8 a9 a10 a11 a12 a13 a14 → W n b1 b2 b3 b4 b5 b6 b7 b8 b9 b10 b11 b12 b13 b14) → W (n + 1) a1 a2 a3 a4 a5 a6 a7 a8 a9 a10 a11 a12 a13 a14) (a1 : A1) (a2 : A2) (a3 : A3) (a4 : A4) (a5 : A5) (a6 : A6) (a7 : A7) (a8 : A8) (a9 : A9) (a10 : A10) (a11 : A11) (a12 : A12) (a13 : A13) (a14 : A14) (h : I a1 a2 a3 a4 a5 a6 a7 a8 a9 a10 a11 a12 a13 a14) : ∃ n, W n a1 a2 a3 a4 a5 a6 a7 a8 a9 a10 a11 a12 a13 a14 :=
  loop_m (σ := A1 × A2 × A3 × A4 × A5 × A6 × A7 × A8 × A9 × A10 × A11 × A12 × A13 × A14) (fun n s => W n s.1 s.2.1 s.2.2.1 s.2.2.2.1 s.2.2.2.2.1 s.2.2.2.2.2.1 s.2.2.2.2.2.2.1 s.2.2.2.2.2.2.2.1 s.2.2.2.2.2.2.2.2.1 s.2.2.2.2.2.2.2.2.2.1 s.2.2.2.2.2.2.2.2.2.2.1 s.2.2.2.2.2.2.2.2.2.2.2.1 s.2.2.2.2.2.2.2.2.2.2.2.2.1 s.2.2.2.2.2.2.2.2.2.2.2.2.2) (fun s => I s.1 s.2.1 s.2.2.1 s.2.2.2.1 s.2.2.2.2.1 s.2.2.2.2.2.1 s.2.2.2.2.2.2.1 s.2.2.2.2.2.2.2.1 s.2.2.2.2.2.2.2.2.1 s.2.2.2.2.2.2.2.2.2.1 s.2.2.2.2.2.2.2.2.2.2.1 s.2.2.2.2.2.2.2.2.2.2.2.1 s.2.2.2.2.2.2.2.2.2.2.2.2.1 s.2.2.2.2.2.2.2.2.2.2.2.2.2) (fun s => μ s.1 s.2.1 s.2.2.1 s.2.2.2.1 s.2.2.2.2.1 s.2.2.2.2.2.1 s.2.2.2.2.2.2.1 s.2.2.2.2.2.2.2.1 s.2.2.2.2.2.2.2.2.1 s.2.2.2.2.2.2.2.2.2.1 s.2.2.2.2.2.2.2.2.2.2.1 s.2.2.2.2.2.2.2.2.2.2.2.1 s.2.2.2.2.2.2.2.2.2.2.2.2.1 s.2.2.2.2.2.2.2.2.2.2.2.2.2) (fun n s hI hk => hs n s.1 s.2.1 s.2.2.1 s.2.2.2.1 s.2.2.2.2.1 s.2.2.2.2.2.1 s.2.2.2.2.2.2.1 s.2.2.2.2.2.2.2.1 s.2.2.2.2.2.2.2.2.1 s.2.2.2.2.2.2.2.2.2.1 s.2.2.2.2.2.2.2.2.2.2.1 s.2.2.2.2.2.2.2.2.2.2.2.1 s.2.2.2.2.2.2.2.2.2.2.2.2.1 s.2.2.2.2.2.2.2.2.2.2.2.2.2 hI (fun b1 b2 b3 b4 b5 b6 b7 b8 b9 b10 b11 b12 b13 b14 h9 hm => hk (b1, b2, b3, b4, b5, b6, b7, b8, b9, b10, b11, b12, b13, b14) h9 hm)) (a1, a2, a3, a4, a5, a6, a7, a8, a9, a10, a11, a12, a13, a14) h
theorem lp15 {A1 A2 A3 A4 A5 A6 A7 A8 A9 A10 A11 A12 A13 A14 A15 : Type} (W : Nat → A1 → A2 → A3 → A4 → A5 → A6 → A7 → A8 → A9 → A10 → A11 → A12 → A13 → A14 → A15 → Prop) (I : A1 → A2 → A3 → A4 → A5 → A6 → A7 → A8 → A9 → A10 → A11 → A12 → A13 → A14 → A15 → Prop) (μ : A1 → A2 → A3 → A4 → A5 → A6 → A7 → A8 → A9 → A10 → A11 → A12 → A13 → A14 → A15 → Nat) (hs : ∀ (n : Nat) (a1 : A1) (a2 : A2) (a3 : A3) (a4 : A4) (a5 : A5) (a6 : A6) (a7 : A7) (a8 : A8) (a9 : A9) (a10 : A10) (a11 : A11) (a12 : A12) (a13 : A13) (a14 : A14) (a15 : A15), I a1 a2 a3 a4 a5 a6 a7 a8 a9 a10 a11 a12 a13 a14 a15 → (∀ (b1 : A1) (b2 : A2) (b3 : A3) (b4 : A4) (b5 : A5) (b6 : A6) (b7 : A7) (b8 : A8) (b9 : A9) (b10 : A10) (b11 : A11) (b12 : A12) (b13 : A13) (b14 : A14) (b15 : A15), I b1 b2 b3 b4 b5 b6 b7 b8 b9 b10 b11 b12 b13 b14 b15 → μ b1 b2 b3 b4 b5 b6 b7 b8 b9 b10 b11 b12 b13 b14 b15 < μ a1 a2 a3 a4 a5 a6 a7 a8 a9 a10 a11 a12 a13 a14 a15 → W n b1 b2 b3 b4 b5 b6 b7 b8 b9 b10 b11 b12 b13 b14 b15) → W (n + 1) a1 a2 a3 a4 a5 a6 a7 a8 a9 a10 a11 a12 a13 a14 a15) (a1 : A1) (a2 : A2) (a3 : A3) (a4 : A4) (a5 : A5) (a6 : A6) (a7 : A7) (a8 : A8) (a9 : A9) (a10 : A10) (a11 : A11) (a12 : A12) (a13 : A13) (a14 : A14) (a15 : A15) (h : I a1 a2 a3 a4 a5 a6 a7 a8 a9 a10 a11 a12 a13 a14 a15) : ∃ n, W n a1 a2 a3 a4 a5 a6 a7 a8 a9 a10 a11 a12 a13 a14 a15 :=
  loop_m (σ := A1 × A2 × A3 × A4 × A5 × A6 × A7 × A8 × A9 × A10 × A11 × A12 × A13 × A14 × A15) (fun n s => W n s.1 s.2.1 s.2.2.1 s.2.2.2.1 s.2.2.2.2.1 s.2.2.2.2.2.1 s.2.2.2.2.2.2.1 s.2.2.2.2.2.2.2.1 s.2.2.2.2.2.2.2.2.1 s.2.2.2.2.2.2.2.2.2.1 s.2.2.2.2.2.2.2.2.2.2.1 s.2.2.2.2.2.2.2.2.2.2.2.1 s.2.2.2.2.2.2.2.2.2.2.2.2.1 s.2.2.2.2.2.2.2.2.2.2.2.2.2.1 s.2.2.2.2.2.2.2.2.2.2.2.2.2.2) (fun s => I s.1 s.2.1 s.2.2.1 s.2.2.2.1 s.2.2.2.2.1 s.2.2.2.2.2.1 s.2.2.2.2.2.2.1 s.2.2.2.2.2.2.2.1 s.2.2.2.2.2.2.2.2.1 s.2.2.2.2.2.2.2.2.2.1 s.2.2.2.2.2.2.2.2.2.2.1 s.2.2.2.2.2.2.2.2.2.2.2.1 s.2.2.2.2.2.2.2.2.2.2.2.2.1 s.2.2.2.2.2.2.2.2.2.2.2.2.2.1 s.2.2.2.2.2.2.2.2.2.2.2.2.2.2) (fun s => μ s.1 s.2.1 s.2.2.1 s.2.2.2.1 s.2.2.2.2.1 s.2.2.2.2.2.1 s.2.2.2.2.2.2.1 s.2.2.2.2.2.2.2.1 s.2.2.2.2.2.2.2.2.1 s.2.2.2.2.2.2.2.2.2.1 s.2.2.2.2.2.2.2.2.2.2.1 s.2.2.2.2.2.2.2.2.2.2.2.1 s.2.2.2.2.2.2.2.2.2.2.2.2.1 s.2.2.2.2.2.2.2.2.2.2.2.2.2.1 s.2.2.2.2.2.2.2.2.2.2.2.2.2.2) (fun n s hI hk => hs n s.1 s.2.1 s.2.2.1 s.2.2.2.1 s.2.2.2.2.1 s.2.2.2.2.2.1 s.2.2.2.2.2.2.1 s.2.2.2.2.2.2.2.1 s.2.2.2.2.2.2.2.2.1 s.2.2.2.2.2.2.2.2.2.1 s.2.2.2.2.2.2.2.2.2.2.1 s.2.2.2.2.2.2.2.2.2.2.2.1 s.2.2.2.2.2.2.2.2.2.2.2.2.1 s.2.2.2.2.2.2.2.2.2.2.2.2.2.1 s.2.2.2.2.2.2.2.2.2.2.2.2.2.2 hI (fun b1 b2 b3 b4 b5 b6 b7 b8 b9 b10 b11 b12 b13 b14 b15 h9 hm => hk (b1, b2, b3, b4, b5, b6, b7, b8, b9, b10, b11, b12, b13, b14, b15) h9 hm)) (a1, a2, a3, a4, a5, a6, a7, a8, a9, a10, a11, a12, a13, a14, a15) h
theorem lp16 {A1 A2 A3 A4 A5 A6 A7 A8 A9 A10 A11 A12 A13 A14 A15 A16 : Type} (W : Nat → A1 → A2 → A3 → A4 → A5 → A6 → A7 → A8 → A9 → A10 → A11 → A12 → A13 → A14 → A15 → A16 → Prop) (I : A1 → A2 → A3 → A4 → A5 → A6 → A7 → A8 → A9 → A10 → A11 → A12 → A13 → A14 → A15 → A16 → Prop) (μ : A1 → A2 → A3 → A4 → A5 → A6 → A7 → A8 → A9 → A10 → A11 → A12 → A13 → A14 → A15 → A16 → Nat) (hs : ∀ (n : Nat) (a1 : A1) (a2 : A2) (a3 : A3) (a4 : A4) (a5 : A5) (a6 : A6) (a7 : A7) (a8 : A8) (a9 : A9) (a10 : A10) (a11 : A11) (a12 : A12) (a13 : A13) (a14 : A14) (a15 : A15) (a16 : A16), I a1 a2 a3 a4 a5 a6 a7 a8 a9 a10 a11 a12 a13 a14 a15 a16 → (∀ (b1 : A1) (b2 : A2) (b3 : A3) (b4 : A4) (b5 : A5) (b6 : A6) (b7 : A7) (b8 : A8) (b9 : A9) (b10 : A10) (b11 : A11) (b12 : A12) (b13 : A13) (b14 : A14) (b15 : A15) (b16 : A16), I b1 b2 b3 b4 b5 b6 b7 b8 b9 b10 b11 b12 b13 b14 b15 b16 → μ b1 b2 b3 b4 b5 b6 b7 b8 b9 b10 b11 b12 b13 b14 b15 b16 < μ a1 a2 a3 a4 a5 a6 a7 a8 a9 a10 a11 a12 a13 a14 a15 a16 → W n b1 b2 b3 b4 b5 b6 b7 b8 b9 b10 b11 b12 b13 b14 b15 b16) → W (n + 1) a1 a2 a3 a4 a5 a6 a7 a8 a9 a10 a11 a12 a13 a14 a15 a16) (a1 : A1) (a2 : A2) (a3 : A3) (a4 : A4) (a5 : A5) (a6 : A6) (a7 : A7) (a8 : A8) (a9 : A9) (a10 : A10) (a11 : A11) (a12 : A12) (a13 : A13) (a14 : A14) (a15 : A15) (a16 : A16) (h : I a1 a2 a3 a4 a5 a6 a7 a8 a9 a10 a11 a12 a13 a14 a15 a16) : ∃ n, W n a1 a2 a3 a4 a5 a6 a7 a8 a9 a10 a11 a12 a13 a14 a15 a16 :=
  loop_m (σ := A1 × A2 × A3 × A4 × A5 × A6 × A7 × A8 × A9 × A10 × A11 × A12 × A13 × A14 × A15 × A16) (fun n s => W n s.1 s.2.1 s.2.2.1 s.2.2.2.1 s.2.2.2.2.1 s.2.2.2.2.2.1 s.2.2.2.2.2.2.1 s.2.2.2.2.2.2.2.1 s.2.2.2.2.2.2.2.2.1 s.2.2.2.2.2.2.2.2.2.1 s.2.2.2.2.2.2.2.2.2.2.1 s.2.2.2.2.2.2.2.2.2.2.2.1 s.2.2.2.2.2.2.2.2.2.2.2.2.1 s.2.2.2.2.2.2.2.2.2.2.2.2.2.1 s.2.2.2.2.2.2.2.2.2.2.2.2.2.2.1 s.2.2.2.2.2.2.2.2.2.2.2.2.2.2.2) (fun s => I s.1 s.2.1 s.2.2.1 s.2.2.2.1 s.2.2.2.2.1 s.2.2.2.2.2.1 s.2.2.2.2.2.2.1 s.2.2.2.2.2.2.2.1 s.2.2.2.2.2.2.2.2.1 s.2.2.2.2.2.2.2.2.2.1 s.2.2.2.2.2.2.2.2.2.2.1 s.2.2.2.2.2.2.2.2.2.2.2.1 s.2.2.2.2.2.2.2.2.2.2.2.2.1 s.2.2.2.2.2.2.2.2.2.2.2.2.2.1 s.2.2.2.2.2.2.2.2.2.2.2.2.2.2.1 s.2.2.2.2.2.2.2.2.2.2.2.2.2.2.2) (fun s => μ s.1 s.2.1 s.2.2.1 s.2.2.2.1 s.2.2.2.2.1 s.2.2.2.2.2.1 s.2.2.2.2.2.2.1 s.2.2.2.2.2.2.2.1 s.2.2.2.2.2.2.2.2.1 s.2.2.2.2.2.2.2.2.2.1 s.2.2.2.2.2.2.2.2.2.2.1 s.2.2.2.2.2.2.2.2.2.2.2.1 s.2.2.2.2.2.2.2.2.2.2.2.2.1 s.2.2.2.2.2.2.2.2.2.2.2.2.2.1 s.2.2.2.2.2.2.2.2.2.2.2.2.2.2.1 s.2.2.2.2.2.2.2.2.2.2.2.2.2.2.2) (fun n s hI hk => hs n s.1 s.2.1 s.2.2.1 s.2.2.2.1 s.2.2.2.2.1 s.2.2.2.2.2.1 s.2.2.2.2.2.2.1 s.2.2.2.2.2.2.2.1 s.2.2.2.2.2.2.2.2.1 s.2.2.2.2.2.2.2.2.2.1 s.2.2.2.2.2.2.2.2.2.2.1 s.2.2.2.2.2.2.2.2.2.2.2.1 s.2.2.2.2.2.2.2.2.2.2.2.2.1 s.2.2.2.2.2.2.2.2.2.2.2.2.2.1 s.2.2.2.2.2.2.2.2.2.2.2.2.2.2.1 s.2.2.2.2.2.2.2.2.2.2.2.2.2.2.2 hI (fun b1 b2 b3 b4 b5 b6 b7 b8 b9 b10 b11 b12 b13 b14 b15 b16 h9 hm => hk (b1, b2, b3, b4, b5, b6, b7, b8, b9, b10, b11, b12, b13, b14, b15, b16) h9 hm)) (a1, a2, a3, a4, a5, a6, a7, a8, a9, a10, a11, a12, a13, a14, a15, a16) h
theorem pk_least (P : Nat → Prop) (h : ∃ k, P k) : ∃ k, P k ∧ ∀ j, j < k → ¬ P j := by
  obtain ⟨k, hk⟩ := h
  induction k using Nat.strongRecOn with
  | ind k ih =>
    by_cases e : ∃ j, j < k ∧ P j
    · obtain ⟨j, hj, pj⟩ := e
      exact ih j hj pj
    · exact ⟨k, hk, fun j hj pj => e ⟨j, hj, pj⟩⟩
theorem rp1 {ρ A1 : Type} (W : Nat → (ρ → Prop) → A1 → Prop) (ok : A1 → Prop) (μ : A1 → Nat) (val : A1 → ρ)
    (hs : ∀ (d : Nat) (post : ρ → Prop) (a1 : A1), ok a1 → post (val a1) → (∀ (post' : ρ → Prop) (b1 : A1), ok b1 → μ b1 < μ a1 → post' (val b1) → W d post' b1) → W (d + 1) post a1) :
    ∀ (d : Nat) (post : ρ → Prop) (a1 : A1), ok a1 → μ a1 < d → post (val a1) → W d post a1 := by
  intro d
  induction d with
  | zero => intro post a1 _ h; omega
  | succ d ih =>
    intro post a1 ho hm hp
    exact hs d post a1 ho hp (fun post' b1 ho' hm' hp' => ih post' b1 ho' (by omega) hp')
theorem rp2 {ρ A1 A2 : Type} (W : Nat → (ρ → Prop) → A1 → A2 → Prop) (ok : A1 → A2 → Prop) (μ : A1 → A2 → Nat) (val : A1 → A2 → ρ)
    (hs : ∀ (d : Nat) (post : ρ → Prop) (a1 : A1) (a2 : A2), ok a1 a2 → post (val a1 a2) → (∀ (post' : ρ → Prop) (b1 : A1) (b2 : A2), ok b1 b2 → μ b1 b2 < μ a1 a2 → post' (val b1 b2) → W d post' b1 b2) → W (d + 1) post a1 a2) :
    ∀ (d : Nat) (post : ρ → Prop) (a1 : A1) (a2 : A2), ok a1 a2 → μ a1 a2 < d → post (val a1 a2) → W d post a1 a2 := by
  intro d
  induction d with
  | zero => intro post a1 a2 _ h; omega
  | succ d ih =>
    intro post a1 a2 ho hm hp
    exact hs d post a1 a2 ho hp (fun post' b1 b2 ho' hm' hp' => ih post' b1 b2 ho' (by omega) hp')
theorem rp3 {ρ A1 A2 A3 : Type} (W : Nat → (ρ → Prop) → A1 → A2 → A3 → Prop) (ok : A1 → A2 → A3 → Prop) (μ : A1 → A2 → A3 → Nat) (val : A1 → A2 → A3 → ρ)
    (hs : ∀ (d : Nat) (post : ρ → Prop) (a1 : A1) (a2 : A2) (a3 : A3), ok a1 a2 a3 → post (val a1 a2 a3) → (∀ (post' : ρ → Prop) (b1 : A1) (b2 : A2) (b3 : A3), ok b1 b2 b3 → μ b1 b2 b3 < μ a1 a2 a3 → post' (val b1 b2 b3) → W d post' b1 b2 b3) → W (d + 1) post a1 a2 a3) :
    ∀ (d : Nat) (post : ρ → Prop) (a1 : A1) (a2 : A2) (a3 : A3), ok a1 a2 a3 → μ a1 a2 a3 < d → post (val a1 a2 a3) → W d post a1 a2 a3 := by
  intro d
  induction d with
  | zero => intro post a1 a2 a3 _ h; omega
  | succ d ih =>
    intro post a1 a2 a3 ho hm hp
    exact hs d post a1 a2 a3 ho hp (fun post' b1 b2 b3 ho' hm' hp' => ih post' b1 b2 b3 ho' (by omega) hp')
theorem rp4 {ρ A1 A2 A3 A4 : Type} (W : Nat → (ρ → Prop) → A1 → A2 → A3 → A4 → Prop) (ok : A1 → A2 → A3 → A4 → Prop) (μ : A1 → A2 → A3 → A4 → Nat) (val : A1 → A2 → A3 → A4 → ρ)
    (hs : ∀ (d : Nat) (post : ρ → Prop) (a1 : A1) (a2 : A2) (a3 : A3) (a4 : A4), ok a1 a2 a3 a4 → post (val a1 a2 a3 a4) → (∀ (post' : ρ → Prop) (b1 : A1) (b2 : A2) (b3 : A3) (b4 : A4), ok b1 b2 b3 b4 → μ b1 b2 b3 b4 < μ a1 a2 a3 a4 → post' (val b1 b2 b3 b4) → W d post' b1 b2 b3 b4) → W (d + 1) post a1 a2 a3 a4) :
    ∀ (d : Nat) (post : ρ → Prop) (a1 : A1) (a2 : A2) (a3 : A3) (a4 : A4), ok a1 a2 a3 a4 → μ a1 a2 a3 a4 < d → post (val a1 a2 a3 a4) → W d post a1 a2 a3 a4 := by
  intro d
  induction d with
  | zero => intro post a1 a2 a3 a4 _ h; omega
  | succ d ih =>
    intro post a1 a2 a3 a4 ho hm hp
    exact hs d post a1 a2 a3 a4 ho hp (fun post' b1 b2 b3 b4 ho' hm' hp' => ih post' b1 b2 b3 b4 ho' (by omega) hp')
theorem rp5 {ρ A1 A2 A3 A4 A5 : Type} (W : Nat → (ρ → Prop) → A1 → A2 → A3 → A4 → A5 → Prop) (ok : A1 → A2 → A3 → A4 → A5 → Prop) (μ : A1 → A2 → A3 → A4 → A5 → Nat) (val : A1 → A2 → A3 → A4 → A5 → ρ)
    (hs : ∀ (d : Nat) (post : ρ → Prop) (a1 : A1) (a2 : A2) (a3 : A3) (a4 : A4) (a5 : A5), ok a1 a2 a3 a4 a5 → post (val a1 a2 a3 a4 a5) → (∀ (post' : ρ → Prop) (b1 : A1) (b2 : A2) (b3 : A3) (b4 : A4) (b5 : A5), ok b1 b2 b3 b4 b5 → μ b1 b2 b3 b4 b5 < μ a1 a2 a3 a4 a5 → post' (val b1 b2 b3 b4 b5) → W d post' b1 b2 b3 b4 b5) → W (d + 1) post a1 a2 a3 a4 a5) :
    ∀ (d : Nat) (post : ρ → Prop) (a1 : A1) (a2 : A2) (a3 : A3) (a4 : A4) (a5 : A5), ok a1 a2 a3 a4 a5 → μ a1 a2 a3 a4 a5 < d → post (val a1 a2 a3 a4 a5) → W d post a1 a2 a3 a4 a5 := by
  intro d
  induction d with
  | zero => intro post a1 a2 a3 a4 a5 _ h; omega
  | succ d ih =>
    intro post a1 a2 a3 a4 a5 ho hm hp
    exact hs d post a1 a2 a3 a4 a5 ho hp (fun post' b1 b2 b3 b4 b5 ho' hm' hp' => ih post' b1 b2 b3 b4 b5 ho' (by omega) hp')
theorem rp6 {ρ A1 A2 A3 A4 A5 A6 : Type} (W : Nat → (ρ → Prop) → A1 → A2 → A3 → A4 → A5 → A6 → Prop) (ok : A1 → A2 → A3 → A4 → A5 → A6 → Prop) (μ : A1 → A2 → A3 → A4 → A5 → A6 → Nat) (val : A1 → A2 → A3 → A4 → A5 → A6 → ρ)
    (hs : ∀ (d : Nat) (post : ρ → Prop) (a1 : A1) (a2 : A2) (a3 : A3) (a4 : A4) (a5 : A5) (a6 : A6), ok a1 a2 a3 a4 a5 a6 → post (val a1 a2 a3 a4 a5 a6) → (∀ (post' : ρ → Prop) (b1 : A1) (b2 : A2) (b3 : A3) (b4 : A4) (b5 : A5) (b6 : A6), ok b1 b2 b3 b4 b5 b6 → μ b1 b2 b3 b4 b5 b6 < μ a1 a2 a3 a4 a5 a6 → post' (val b1 b2 b3 b4 b5 b6) → W d post' b1 b2 b3 b4 b5 b6) → W (d + 1) post a1 a2 a3 a4 a5 a6) :
    ∀ (d : Nat) (post : ρ → Prop) (a1 : A1) (a2 : A2) (a3 : A3) (a4 : A4) (a5 : A5) (a6 : A6), ok a1 a2 a3 a4 a5 a6 → μ a1 a2 a3 a4 a5 a6 < d → post (val a1 a2 a3 a4 a5 a6) → W d post a1 a2 a3 a4 a5 a6 := by
  intro d
  induction d with
  | zero => intro post a1 a2 a3 a4 a5 a6 _ h; omega
  | succ d ih =>
    intro post a1 a2 a3 a4 a5 a6 ho hm hp
    exact hs d post a1 a2 a3 a4 a5 a6 ho hp (fun post' b1 b2 b3 b4 b5 b6 ho' hm' hp' => ih post' b1 b2 b3 b4 b5 b6 ho' (by omega) hp')
theorem rec_p {σ ρ : Type} (W : Nat → (ρ → Prop) → σ → Prop) (ok : σ → Prop) (μ : σ → Nat) (val : σ → ρ)
    (hs : ∀ d s post, ok s → post (val s) → (∀ s' post', ok s' → μ s' < μ s → post' (val s') → W d post' s') → W (d + 1) post s) :
    ∀ d s post, ok s → μ s < d → post (val s) → W d post s := by
  intro d
  induction d with
  | zero => intro s post _ h; omega
  | succ d ih =>
    intro s post ho hm hp
    exact hs d s post ho hp (fun s' post' ho' hm' hp' => ih s' post' ho' (by omega) hp')
theorem rec_q {σ ρ : Type} (W : Nat → (ρ → Prop) → σ → Prop) (ok : σ → Prop) (μ : σ → Nat) (Q : σ → ρ → Prop)
    (hs : ∀ d s post, ok s → (∀ r, Q s r → post r) → (∀ s' post', ok s' → μ s' < μ s → (∀ r, Q s' r → post' r) → W d post' s') → W (d + 1) post s) :
    ∀ d s post, ok s → μ s < d → (∀ r, Q s r → post r) → W d post s := by
  intro d
  induction d with
  | zero => intro s post _ h; omega
  | succ d ih =>
    intro s post ho hm hp
    exact hs d s post ho hp (fun s' post' ho' hm' hp' => ih s' post' ho' (by omega) hp')
def bx_sum (f : Nat → Int32) : Nat → Int32
  | 0 => 0
  | n + 1 => bx_sum f n + f n
theorem ek_u {A : Prop} {B : Nat → Prop} {k N : Nat} (hk : k < N) (h : B k) : (some k = none → A) ∧ (∀ y : Nat, some k = some y → (y < N ∧ B y)) :=
  ⟨fun z => absurd z (Option.some_ne_none k), fun _ e => (by cases e; exact ⟨hk, h⟩)⟩
theorem ek_nu {A : Prop} {B : Nat → Prop} (h : A) : ((none : Option Nat) = none → A) ∧ (∀ y : Nat, (none : Option Nat) = some y → B y) :=
  ⟨fun _ => h, fun _ e => (by cases e)⟩
theorem ek_if {c d A B : Prop} (e : c ↔ d) (f : d → A) (g : ¬ d → B) : (c → A) ∧ (¬ c → B) :=
  ⟨fun z => f (e.mp z), fun z => g (fun y => z (e.mpr y))⟩
theorem ek_v {α : Sort _} {P : α → Prop} {a b : α} (e : a = b) (h : P b) : P a := e ▸ h
theorem co_some {x : Option Nat} {A : Prop} {B : Nat → Prop} (i : Nat) (h : B i) (hx : x = some i := by rfl) : (x = none → A) ∧ (∀ y : Nat, x = some y → B y) := by
  subst hx
  exact ⟨fun e => (nomatch e), fun y e => Option.some.inj e ▸ h⟩
theorem co_none {x : Option Nat} {A : Prop} {B : Nat → Prop} (h : A) (hx : x = none := by rfl) : (x = none → A) ∧ (∀ y : Nat, x = some y → B y) := by
  subst hx
  exact ⟨fun _ => h, fun y e => (nomatch e)⟩
theorem co_any {x : Option Nat} {A : Prop} {B : Nat → Prop} (hn : x = none → A) (hs : ∀ i : Nat, x = some i → B i) : (x = none → A) ∧ (∀ y : Nat, x = some y → B y) := ⟨hn, hs⟩
theorem co_2 {P : Nat → Prop} (h0 : P 0) (h1 : P 1) {i : Nat} (hi : i < 2) : P i :=
  match i, hi with
  | 0, _ => h0
  | 1, _ => h1
theorem co_3 {P : Nat → Prop} (h0 : P 0) (h1 : P 1) (h2 : P 2) {i : Nat} (hi : i < 3) : P i :=
  match i, hi with
  | 0, _ => h0
  | 1, _ => h1
  | 2, _ => h2
theorem co_4 {P : Nat → Prop} (h0 : P 0) (h1 : P 1) (h2 : P 2) (h3 : P 3) {i : Nat} (hi : i < 4) : P i :=
  match i, hi with
  | 0, _ => h0
  | 1, _ => h1
  | 2, _ => h2
  | 3, _ => h3
theorem co_dec {N : Nat} {P : Nat → Prop} [DecidablePred P] (h : (List.range N).all (fun i => decide (P i)) = true) {i : Nat} (hi : i < N) : P i := by
  have := List.all_eq_true.mp h i (List.mem_range.mpr hi)
  exact of_decide_eq_true this
theorem co_tab {α : Type} {l : List α} {d : α} {P : α → Prop} (h : ∀ a, a ∈ l → P a) {i : Nat} (hi : i < l.length) : P (l.getD i d) := by
  rw [List.getD_eq_getElem?_getD, List.getElem?_eq_getElem hi]
  exact h _ (List.getElem_mem hi)
theorem pk_mu {x : Int32} {L : Nat} (h0 : ¬ x < 0) (h : ¬ nI L ≤ x) (hL : L < 2 ^ 31) : ∃ j : Nat, j < L ∧ x = nI j ∧ x + 1 = nI (j + 1) ∧ x.toNatClampNeg = j ∧ L - (x + 1).toNatClampNeg < L - x.toNatClampNeg := by
  obtain ⟨j, hj, rfl⟩ := nI_of h0
  have hl : j < L := Nat.not_le.mp fun q => h (nI_le q hj)
  refine ⟨j, hl, rfl, nI_1 j, nI_clamp hj, ?_⟩
  rw [nI_1, nI_clamp (by omega), nI_clamp hj]
  omega
theorem op_s {α : Type} {r : Option α} {A : Prop} {B : α → Prop} {y : α} (h : r = some y) (b : B y) : (r = none → A) ∧ ∀ z, r = some z → B z :=
  ⟨fun e => (by rw [h] at e; cases e), fun z e => (by rw [h] at e; cases e; exact b)⟩
def l_holds {α : Type} (a : Nat → Option Nat) (LP : List Nat) (p : Nat → α) (c : Nat) (b : Nat → α) : Prop :=
  ∀ j, j < c → ∃ y, a j = some y ∧ y ∈ LP ∧ p y = b j
theorem l_holds_0 {α : Type} {a : Nat → Option Nat} {LP : List Nat} {p b : Nat → α} : l_holds a LP p 0 b := fun j h => absurd h (Nat.not_lt_zero j)
theorem l_in_new (LP : List Nat) (q : Nat) : q ∈ LP ++ [q] := List.mem_append.mpr (Or.inr (List.mem_singleton.mpr rfl))
def l_sum (b : Nat → Int32) : Nat → Int32
  | 0 => 0
  | k + 1 => l_sum b k + b k
theorem sb_shr0 (x : Int32) : x >>> ((0 : Int32) &&& 31) = x := by
  rw [show ((0 : Int32) &&& 31) = 0 by decide]
  simp
theorem sb_shl0 (x : Int32) : x <<< ((0 : Int32) &&& 31) = x := by
  rw [show ((0 : Int32) &&& 31) = 0 by decide]
  simp
theorem sb_cl0 : (0 : Int32).toNatClampNeg = 0 := by decide
theorem sb_m1 {p : Nat} (h : 0 < p) : nI p + (-1) = nI (p - 1) := by
  obtain ⟨q, rfl⟩ : ∃ q, p = q + 1 := ⟨p - 1, by omega⟩
  exact pk_m1 q
def sb_b (c : Nat) : Int32 := (nI c).toInt8.toInt32
theorem sb_byte : ∀ c, c < 256 → sb_b c &&& 255 = nI c ∧ ((nI c).toUInt32 % 65536).toInt32 = nI c ∧ nI c ≤ 255 := by decide +kernel
def sb_Fit (a : Nat → Int32) : Prop := ∀ j, fits .byte (.int (a j)) = true
def sb_Lat (t : Nat → Nat) (n : Nat) (a : Nat → Int32) : Prop := ∀ j, j < n → t j < 256 ∧ a j = sb_b (t j)
theorem sb_fitB (c : Nat) : fits .byte (.int (sb_b c)) = true := pk_fb _
theorem sb_fit0 : sb_Fit (fun _ => 0) := fun _ => by
  show fits .byte (.int 0) = true
  decide
theorem sb_fitU {a : Nat → Int32} {k : Nat} {x : Int32} (h : sb_Fit a) (hx : fits .byte (.int x) = true) : sb_Fit (upd a k x) := by
  intro j
  by_cases e : j = k
  · subst e
    rw [pk_us]
    exact hx
  · rw [pk_un e]
    exact h j
def sb_cat (t : Nat → Nat) (n : Nat) (s : Nat → Nat) : Nat → Nat := fun j => if j < n then t j else s (j - n)
theorem sb_cat_lo {t s : Nat → Nat} {n j : Nat} (h : j < n) : sb_cat t n s j = t j := if_pos h
theorem sb_cat_hi {t s : Nat → Nat} {n j : Nat} : sb_cat t n s (n + j) = s j := by
  show (if n + j < n then t (n + j) else s (n + j - n)) = s j
  rw [if_neg (by omega), Nat.add_sub_cancel_left]
theorem sb_latPut {t s : Nat → Nat} {n w : Nat} {a a' : Nat → Int32} (h : sb_Lat t n a) (hk : ∀ j, j < n → a' j = a j) (hs : ∀ i, i < w → s i < 256 ∧ a' (n + i) = sb_b (s i)) : sb_Lat (sb_cat t n s) (n + w) a' := by
  intro j hj
  by_cases e : j < n
  · rw [sb_cat_lo e, hk j e]
    exact h j e
  · obtain ⟨i, rfl⟩ : ∃ i, j = n + i := ⟨j - n, by omega⟩
    rw [sb_cat_hi]
    exact hs i (by omega)
theorem sb_latKeep {t : Nat → Nat} {n : Nat} {a a' : Nat → Int32} (h : sb_Lat t n a) (hk : ∀ j, j < n → a' j = a j) : sb_Lat t n a' := fun j hj => by
  rw [hk j hj]
  exact h j hj
def sb_cap (q m : Nat) : Nat := if q ≤ m then m else if 2 * m + 2 < q then q else 2 * m + 2
def sb_Room (q m mc ms : Nat) : Prop := q ≤ m ∨ (1 ≤ mc ∧ sb_cap q m ≤ ms ∧ sb_cap q m ≤ 65536)
theorem sb_cap_ge (q m : Nat) : q ≤ sb_cap q m := by
  unfold sb_cap
  split
  · omega
  · split <;> omega
theorem sb_cap_gem (q m : Nat) : m ≤ sb_cap q m := by
  unfold sb_cap
  split
  · omega
  · split <;> omega
theorem sb_cap_le {q m mc ms : Nat} (hm : m ≤ 65536) (hr : sb_Room q m mc ms) : sb_cap q m ≤ 65536 := by
  rcases hr with h | h
  · rw [sb_cap, if_pos h]
    exact hm
  · exact h.2.2
theorem sb_at {P : Int32 → Prop} {x y : Int32} (e : x = y) (h : P y) : P x := e ▸ h
def sb_dg (w : Nat) : Nat := if w < 10 then 1 else if w < 100 then 2 else if w < 1000 then 3 else if w < 10000 then 4 else if w < 100000 then 5 else if w < 1000000 then 6 else if w < 10000000 then 7 else if w < 100000000 then 8 else if w < 1000000000 then 9 else 10
def sb_dec (v : Nat) : Nat → Nat := fun i => 48 + v / 10 ^ (sb_dg v - 1 - i) % 10
theorem sb_dg_in (w : Nat) : 1 ≤ sb_dg w ∧ sb_dg w ≤ 10 := by
  unfold sb_dg
  constructor <;> (repeat' split) <;> omega
theorem sb_dg100 {w : Nat} (h : 100 ≤ w) (hw : w < 2 ^ 31) : sb_dg w = sb_dg (w / 100) + 2 := by
  rw [sb_dg, sb_dg, if_neg (show ¬ w < 10 by omega), if_neg (show ¬ w < 100 by omega)]
  by_cases h3 : w < 1000
  · rw [if_pos h3, if_pos (show w / 100 < 10 by omega)]
  rw [if_neg h3, if_neg (show ¬ w / 100 < 10 by omega)]
  by_cases h4 : w < 10000
  · rw [if_pos h4, if_pos (show w / 100 < 100 by omega)]
  rw [if_neg h4, if_neg (show ¬ w / 100 < 100 by omega)]
  by_cases h5 : w < 100000
  · rw [if_pos h5, if_pos (show w / 100 < 1000 by omega)]
  rw [if_neg h5, if_neg (show ¬ w / 100 < 1000 by omega)]
  by_cases h6 : w < 1000000
  · rw [if_pos h6, if_pos (show w / 100 < 10000 by omega)]
  rw [if_neg h6, if_neg (show ¬ w / 100 < 10000 by omega)]
  by_cases h7 : w < 10000000
  · rw [if_pos h7, if_pos (show w / 100 < 100000 by omega)]
  rw [if_neg h7, if_neg (show ¬ w / 100 < 100000 by omega)]
  by_cases h8 : w < 100000000
  · rw [if_pos h8, if_pos (show w / 100 < 1000000 by omega)]
  rw [if_neg h8, if_neg (show ¬ w / 100 < 1000000 by omega)]
  by_cases h9 : w < 1000000000
  · rw [if_pos h9, if_pos (show w / 100 < 10000000 by omega)]
  rw [if_neg h9, if_neg (show ¬ w / 100 < 10000000 by omega)]
  rw [if_pos (show w / 100 < 100000000 by omega)]
theorem sb_negT {w : Nat} (h : w < 2 ^ 31) : (-nI w).toInt = -(w : Int) := by
  rw [Int32.toInt_neg, nI_toInt h]
  exact Int.bmod_eq_of_le (by omega) (by omega)
theorem sb_nle {a b : Nat} (ha : a < 2 ^ 31) (hb : b < 2 ^ 31) : -nI a ≤ -nI b ↔ b ≤ a := by
  rw [Int32.le_iff_toInt_le, sb_negT ha, sb_negT hb]
  omega
theorem sb_nlt {a b : Nat} (ha : a < 2 ^ 31) (hb : b < 2 ^ 31) : -nI a < -nI b ↔ b < a := by
  rw [Int32.lt_iff_toInt_lt, sb_negT ha, sb_negT hb]
  omega
theorem sb_cmp {A B : Prop} {x : Int32} (v c : Nat) (f : c ≤ v → A) (g : v < c → B) (hv : v < 2 ^ 31) (hx : x = -nI c := by rfl) (hc : c < 2 ^ 31 := by omega) : (-nI v ≤ x → A) ∧ (¬ -nI v ≤ x → B) := by
  subst hx
  rw [sb_nle hv hc]
  exact ⟨f, fun z => g (by omega)⟩
theorem sb_ndiv {w : Nat} (hw : w < 2 ^ 31) : (-nI w) / 100 = -nI (w / 100) := by
  apply Int32.toInt_inj.mp
  have h100 : (100 : Int32).toInt = 100 := by decide
  rw [Int32.toInt_div, sb_negT hw, h100, sb_negT (by omega), Int.neg_tdiv, Int.tdiv_eq_ediv_of_nonneg (by omega), Int.bmod_eq_of_le (by omega) (by omega)]
  omega
theorem sb_nrem {w : Nat} (hw : w < 2 ^ 31) : (-nI (w / 100)) * 100 - (-nI w) = nI (w % 100) := by
  have h := pk_rem (a := w) (d := 100) hw (by decide) (by decide)
  rw [pk_div hw (by decide) (by decide)] at h
  rw [← h]
  show (-nI (w / 100)) * nI 100 - (-nI w) = nI w - nI (w / 100) * nI 100
  rw [Int32.neg_mul, Int32.sub_neg, Int32.add_comm, ← Int32.sub_eq_add_neg]
/-! rows on bits, shifts and unsigned numbers, to paste: each family out of a closed proof of our own, whole with what it rests on; each by itself clean at Lean in its own claim (generation 39, form 5). Take a family whole -/
/-! ===== Int32 by its bits: bt x i ===== -/
def bt (x : Int32) (i : Nat) : Bool := x.toBitVec.getLsbD i
theorem b_ext {x y : Int32} (h : ∀ i, i < 32 → bt x i = bt y i) : x = y := Int32.toBitVec_inj.mp (BitVec.eq_of_getLsbD_eq (fun i hi => h i hi))
theorem b_or (x y : Int32) (i : Nat) : bt (x ||| y) i = (bt x i || bt y i) := by unfold bt; rw [Int32.toBitVec_or, BitVec.getLsbD_or]
theorem b_and (x y : Int32) (i : Nat) : bt (x &&& y) i = (bt x i && bt y i) := by unfold bt; rw [Int32.toBitVec_and, BitVec.getLsbD_and]
theorem b_xor (x y : Int32) (i : Nat) : bt (x ^^^ y) i = (bt x i ^^ bt y i) := by unfold bt; rw [Int32.toBitVec_xor, BitVec.getLsbD_xor]
theorem b_big {x : Int32} {i : Nat} (h : 32 ≤ i) : bt x i = false := BitVec.getLsbD_of_ge _ _ h
theorem b_255 (i : Nat) : bt 255 i = decide (i < 8) := by
  rcases Nat.lt_or_ge i 32 with h | h
  · exact (by decide +kernel : ∀ i, i < 32 → bt 255 i = decide (i < 8)) i h
  · rw [b_big h, decide_eq_false (by omega)]
theorem b_65535 (i : Nat) : bt 65535 i = decide (i < 16) := by
  rcases Nat.lt_or_ge i 32 with h | h
  · exact (by decide +kernel : ∀ i, i < 32 → bt 65535 i = decide (i < 16)) i h
  · rw [b_big h, decide_eq_false (by omega)]
theorem b_m1 : ∀ i, i < 32 → bt (-1) i = true := by decide +kernel
theorem b_0 (i : Nat) : bt 0 i = false := BitVec.getLsbD_zero
theorem s_l : ∀ n, n < 32 → ((nI n &&& 31).toBitVec.smod 32).toNat = n := by decide +kernel
theorem s_u : ∀ n, n < 32 → (((nI n).toUInt32 &&& Int32.toUInt32 31).toBitVec % 32).toNat = n := by decide +kernel
theorem b_shl (n : Nat) (hn : n < 32) (x : Int32) {i : Nat} (hi : i < 32) : bt (x <<< (nI n &&& 31)) i = (decide (n ≤ i) && bt x (i - n)) := by
  unfold bt
  rw [Int32.toBitVec_shiftLeft]
  show (x.toBitVec <<< ((nI n &&& 31).toBitVec.smod 32).toNat).getLsbD i = _
  rw [s_l n hn, BitVec.getLsbD_shiftLeft]
  rcases Nat.lt_or_ge i n with h | h
  · simp [h, Nat.not_le.mpr h]
  · simp [hi, h, Nat.not_lt.mpr h]
theorem b_ushr (n : Nat) (hn : n < 32) (x : Int32) (i : Nat) : bt ((x.toUInt32 >>> ((nI n).toUInt32 &&& Int32.toUInt32 31)).toInt32) i = bt x (n + i) := by
  show (x.toUInt32 >>> ((nI n).toUInt32 &&& Int32.toUInt32 31)).toBitVec.getLsbD i = x.toUInt32.toBitVec.getLsbD (n + i)
  rw [UInt32.toBitVec_shiftRight]
  show (x.toUInt32.toBitVec >>> (((nI n).toUInt32 &&& Int32.toUInt32 31).toBitVec % 32).toNat).getLsbD i = _
  rw [s_u n hn, BitVec.getLsbD_ushiftRight]
theorem b_sshr (n : Nat) (hn : n < 32) (x : Int32) {i : Nat} (hi : i < 32) : bt (x >>> (nI n &&& 31)) i = if n + i < 32 then bt x (n + i) else bt x 31 := by
  unfold bt
  rw [Int32.toBitVec_shiftRight]
  show (x.toBitVec.sshiftRight ((nI n &&& 31).toBitVec.smod 32).toNat).getLsbD i = _
  rw [s_l n hn, BitVec.getLsbD_sshiftRight, BitVec.msb_eq_getLsbD_last]
  simp [hi]
theorem b_shl8 (x : Int32) {i : Nat} (hi : i < 32) : bt (x <<< ((8 : Int32) &&& 31)) i = (decide (8 ≤ i) && bt x (i - 8)) := b_shl 8 (by omega) x hi
theorem b_shl16 (x : Int32) {i : Nat} (hi : i < 32) : bt (x <<< ((16 : Int32) &&& 31)) i = (decide (16 ≤ i) && bt x (i - 16)) := b_shl 16 (by omega) x hi
theorem b_shl24 (x : Int32) {i : Nat} (hi : i < 32) : bt (x <<< ((24 : Int32) &&& 31)) i = (decide (24 ≤ i) && bt x (i - 24)) := b_shl 24 (by omega) x hi
theorem b_sshr8 (x : Int32) {i : Nat} (hi : i < 32) : bt (x >>> ((8 : Int32) &&& 31)) i = if 8 + i < 32 then bt x (8 + i) else bt x 31 := b_sshr 8 (by omega) x hi
/-! ===== nI under and, xor, >>>, one bit, 65535 ===== -/
theorem nx_and (a b : Nat) : nI a &&& nI b = nI (a &&& b) := by
  apply Int32.toBitVec_inj.1
  show BitVec.ofNat 32 a &&& BitVec.ofNat 32 b = BitVec.ofNat 32 (a &&& b)
  apply BitVec.eq_of_getLsbD_eq
  intro i hi
  simp [hi]
theorem nx_xor (a b : Nat) : nI a ^^^ nI b = nI (a ^^^ b) := by
  apply Int32.toBitVec_inj.1
  show BitVec.ofNat 32 a ^^^ BitVec.ofNat 32 b = BitVec.ofNat 32 (a ^^^ b)
  apply BitVec.eq_of_getLsbD_eq
  intro i hi
  simp [hi]
theorem nx_cnt : ∀ j : Fin 32, (UInt32.ofNat j.val &&& Int32.toUInt32 31).toNat % 32 = j.val := by decide +kernel
theorem nx_ush {k j : Nat} (hk : k < 65536) (hj : j < 32) : ((nI k).toUInt32 >>> ((nI j).toUInt32 &&& Int32.toUInt32 31)).toInt32 = nI (k >>> j) := by
  have hs : k >>> j ≤ k := by
    rw [Nat.shiftRight_eq_div_pow]
    exact Nat.div_le_self _ _
  have e2 : UInt32.ofNat k >>> (UInt32.ofNat j &&& Int32.toUInt32 31) = UInt32.ofNat (k >>> j) := by
    apply UInt32.toNat_inj.1
    have h1 : (UInt32.ofNat k).toNat = k := Nat.mod_eq_of_lt (by omega)
    have h2 : (UInt32.ofNat (k >>> j)).toNat = k >>> j := Nat.mod_eq_of_lt (by omega)
    rw [UInt32.toNat_shiftRight, nx_cnt ⟨j, hj⟩, h1, h2]
  show (UInt32.ofNat k >>> (UInt32.ofNat j &&& Int32.toUInt32 31)).toInt32 = _
  rw [e2]
  rfl
theorem nx_bit {k j : Nat} (hk : k < 65536) (hj : j < 16) : (((nI k).toUInt32 >>> ((nI j).toUInt32 &&& Int32.toUInt32 31)).toInt32 &&& 1) = 0 ↔ k.testBit j = false := by
  rw [nx_ush hk (by omega)]
  show nI (k >>> j) &&& nI 1 = 0 ↔ _
  rw [nx_and, Nat.and_one_is_mod, ← nI_0, nI_eq (by omega) (by omega), Nat.testBit_eq_decide_div_mod_eq, Nat.shiftRight_eq_div_pow, decide_eq_false_iff_not]
  generalize k / 2 ^ j = z
  omega
theorem nx_mod (k : Nat) : nI k &&& 65535 = nI (k % 65536) := by
  show nI k &&& nI 65535 = _
  rw [nx_and, show (65535 : Nat) = 2 ^ 16 - 1 from rfl, Nat.and_two_pow_sub_one_eq_mod]
theorem nx_m16 {k : Nat} (h : k < 65536) : nI k &&& 65535 = nI k := by rw [nx_mod, Nat.mod_eq_of_lt h]
theorem nx_mask (x : Int32) : ∃ k, k < 65536 ∧ x &&& 65535 = nI k := by
  have e : x = nI x.toBitVec.toNat := by
    apply Int32.toBitVec_inj.1
    show x.toBitVec = BitVec.ofNat 32 x.toBitVec.toNat
    simp
  refine ⟨x.toBitVec.toNat % 65536, Nat.mod_lt _ (by omega), ?_⟩
  rw [← nx_mod, ← e]
/-! ===== Int32 as a set of bits: test, set ===== -/
def nf_M (m : Int32) : Nat := 4294967296 - m.toBitVec.toNat
theorem nf_sh : ∀ l, l < 32 → ((1 : Int32) <<< (nI l &&& 31)).toBitVec = BitVec.twoPow 32 l := by decide +kernel
theorem nf_sl : ∀ l, l < 32 → (((nI l).toUInt32 &&& Int32.toUInt32 31).toBitVec % 32).toNat = l := by decide +kernel
theorem nf_tp : ∀ l, l < 32 → BitVec.twoPow 32 l ≠ 0#32 := by decide +kernel
theorem nf_bit (m : Int32) (l : Nat) (hl : l < 32) : ((m.toUInt32 >>> ((nI l).toUInt32 &&& Int32.toUInt32 31)).toInt32 &&& 1) = 0 ↔ (m &&& ((1 : Int32) <<< (nI l &&& 31))) = 0 := by
  have e : ((m.toUInt32 >>> ((nI l).toUInt32 &&& Int32.toUInt32 31)).toInt32).toBitVec = m.toBitVec >>> l := by
    show m.toBitVec >>> (((nI l).toUInt32 &&& Int32.toUInt32 31).toBitVec % 32) = m.toBitVec >>> l
    rw [BitVec.ushiftRight_eq', nf_sl l hl]
  rw [← Int32.toBitVec_inj, ← Int32.toBitVec_inj, Int32.toBitVec_and, Int32.toBitVec_and, nf_sh l hl, e, BitVec.and_twoPow]
  show (m.toBitVec >>> l &&& 1#32) = 0#32 ↔ _ = 0#32
  rw [BitVec.and_one_eq_setWidth_ofBool_getLsbD, BitVec.getLsbD_ushiftRight, Nat.add_zero]
  cases hb : m.toBitVec.getLsbD l
  · exact ⟨fun _ => by simp, fun _ => by decide⟩
  · exact ⟨fun z => absurd z (by decide), fun z => absurd ((if_pos rfl).symm.trans z) (nf_tp l hl)⟩
theorem nf_gr (m k : Int32) (h : m &&& k = 0) (hk : k ≠ 0) : nf_M (m ||| k) < nf_M m := by
  have hm := m.toBitVec.isLt
  have hm' := (m ||| k).toBitVec.isLt
  have h1 : m.toBitVec.toNat ≤ (m ||| k).toBitVec.toNat := by
    rw [Int32.toBitVec_or, BitVec.toNat_or]
    exact Nat.left_le_or
  have h2 : m.toBitVec.toNat ≠ (m ||| k).toBitVec.toNat := by
    intro e
    have e2 : m = m ||| k := Int32.toBitVec_inj.mp (BitVec.eq_of_toNat_eq e)
    apply hk
    apply Int32.toBitVec_inj.mp
    show k.toBitVec = 0#32
    apply BitVec.eq_of_getLsbD_eq
    intro i hi
    have a : m.toBitVec.getLsbD i = (m.toBitVec.getLsbD i || k.toBitVec.getLsbD i) := by rw [← BitVec.getLsbD_or, ← Int32.toBitVec_or, ← e2]
    have b : (m.toBitVec.getLsbD i && k.toBitVec.getLsbD i) = false := by
      rw [← BitVec.getLsbD_and, ← Int32.toBitVec_and, h]
      exact BitVec.getLsbD_zero
    rw [BitVec.getLsbD_zero]
    revert a b
    cases m.toBitVec.getLsbD i <;> cases k.toBitVec.getLsbD i <;> simp
  unfold nf_M
  omega
/-! ===== a byte read unsigned ===== -/
theorem bp_b (x : Int32) : x.toInt8.toInt32 &&& 255 = x &&& 255 := by
  apply Int32.toBitVec_inj.mp
  rw [Int32.toBitVec_and, Int32.toBitVec_and, Int8.toBitVec_toInt32, Int32.toBitVec_toInt8]
  apply BitVec.eq_of_getLsbD_eq
  intro i hi
  rw [BitVec.getLsbD_and, BitVec.getLsbD_and]
  have hm : ∀ i < 32, 8 ≤ i → (255 : Int32).toBitVec.getLsbD i = false := by decide
  rcases Nat.lt_or_ge i 8 with z | z
  · rw [BitVec.getLsbD_signExtend, BitVec.getLsbD_signExtend, if_pos z, if_pos hi]
    simp only [z, hi, decide_true, Bool.true_and]
  · rw [hm i hi z]; simp
/-! ===== the char cast and 65535 ===== -/
theorem em_w (v : Int32) : ∃ w : Nat, w < 65536 ∧ (v.toUInt32 % 65536).toInt32 = nI w ∧ v &&& 65535 = nI w := by
  have hr := lw_u16_r v
  have h0 : (0 : Int32).toInt = 0 := by decide
  obtain ⟨w, h1, h2⟩ := nI_of (x := lw_u16 v) (by rw [Int32.lt_iff_toInt_lt]; omega)
  have h3 : (v.toUInt32 % 65536).toInt32 = nI w := h2
  rw [h2, nI_toInt h1] at hr
  exact ⟨w, by omega, h3, by rw [← lg_i2c_mask, ← lg_i2c_nf, h3]⟩
/-! ===== Int64 as a set of bits: test, set, clear ===== -/
theorem ts_nf {x : Bool} (h : ¬ x = false) : x = true := by cases x <;> first | rfl | exact absurd rfl h
theorem ts_nt {x : Bool} (h : ¬ x = true) : x = false := by cases x <;> first | rfl | exact absurd rfl h
theorem ts_bit {w : Int64} {s : UInt64} {j : Nat} (hj : j < 64) (hs : s.toNat = j) : ((w.toUInt64 >>> s).toInt64 &&& 1) = 0 ↔ w.toBitVec.getLsbD j = false := by
  have e : (w.toUInt64 >>> s).toInt64.toBitVec = w.toBitVec >>> j := by
    apply BitVec.eq_of_toNat_eq
    show (w.toUInt64 >>> s).toNat = _
    rw [UInt64.toNat_shiftRight, hs, Nat.mod_eq_of_lt hj, BitVec.toNat_ushiftRight]
    rfl
  rw [← Int64.toBitVec_inj, Int64.toBitVec_and, e]
  show w.toBitVec >>> j &&& 1#64 = 0#64 ↔ _
  constructor
  · intro h
    have t := congrArg (fun x => x.getLsbD 0) h
    simpa using t
  · intro h
    apply BitVec.eq_of_getLsbD_eq
    intro i hi
    cases i with
    | zero => simp [h]
    | succ i => simp
theorem ts_or {w m : Int64} {j : Nat} (hj : j < 64) (hm : m.toBitVec = BitVec.twoPow 64 j) : (w ||| m) = w ↔ w.toBitVec.getLsbD j = true := by
  rw [← Int64.toBitVec_inj, Int64.toBitVec_or, hm]
  constructor
  · intro h
    have t := congrArg (fun x => x.getLsbD j) h
    simp only [BitVec.getLsbD_or, BitVec.getLsbD_twoPow] at t
    simpa [hj] using t.symm
  · intro h
    apply BitVec.eq_of_getLsbD_eq
    intro i hi
    rw [BitVec.getLsbD_or, BitVec.getLsbD_twoPow]
    by_cases e : j = i
    · subst e; rw [h, Bool.true_or]
    · simp [e]
theorem ts_and {w m : Int64} {j : Nat} (hj : j < 64) (hm : m.toBitVec = BitVec.twoPow 64 j) : (w &&& (m ^^^ (-1))) = w ↔ w.toBitVec.getLsbD j = false := by
  have ha : (-1 : Int64).toBitVec = BitVec.allOnes 64 := by decide
  rw [← Int64.toBitVec_inj, Int64.toBitVec_and, Int64.toBitVec_xor, hm, ha]
  constructor
  · intro h
    have t := congrArg (fun x => x.getLsbD j) h
    simp only [BitVec.getLsbD_and, BitVec.getLsbD_xor, BitVec.getLsbD_twoPow, BitVec.getLsbD_allOnes] at t
    simpa [hj] using t.symm
  · intro h
    apply BitVec.eq_of_getLsbD_eq
    intro i hi
    rw [BitVec.getLsbD_and, BitVec.getLsbD_xor, BitVec.getLsbD_twoPow, BitVec.getLsbD_allOnes]
    by_cases e : j = i
    · subst e; rw [h, Bool.false_and]
    · simp [e, hi]
/-! ===== lN n to 2^64: shifts, and, or, masks, one bit ===== -/
theorem wb_tb (n : Nat) : (lN n).toBitVec = BitVec.ofNat 64 n := rfl
theorem wb_inj {a b : Int64} (h : a.toBitVec = b.toBitVec) : a = b := Int64.toBitVec_inj.mp h
theorem wb_tn {n : Nat} (h : n < 2 ^ 64) : (lN n).toBitVec.toNat = n := by rw [wb_tb, BitVec.toNat_ofNat, Nat.mod_eq_of_lt h]
theorem wb_of (x : Int64) : ∃ n, n < 2 ^ 64 ∧ x = lN n := ⟨x.toBitVec.toNat, x.toBitVec.isLt, wb_inj (by rw [wb_tb]; simp)⟩
theorem wb_of32 (x : Int32) : ∃ n, n < 2 ^ 32 ∧ x = nI n := ⟨x.toBitVec.toNat, x.toBitVec.isLt, Int32.toBitVec_inj.mp (by show _ = BitVec.ofNat 32 _; simp)⟩
theorem wb_c : ∀ k, k < 64 → ((nI k).toInt64 &&& 63) = lN k := by decide +kernel
theorem wb_cu : ∀ k, k < 64 → ((nI k).toInt64.toUInt64 &&& Int64.toUInt64 63) = UInt64.ofNat k := by decide +kernel
theorem wb_sm : ∀ k, k < 64 → (BitVec.ofNat 64 k).smod 64 = BitVec.ofNat 64 k := by decide +kernel
theorem wb_pw {a b : Nat} (h : a ≤ b) : 2 ^ b = 2 ^ a * 2 ^ (b - a) := by rw [← Nat.pow_add]; congr 1; omega
theorem wb_lt2 {a b : Nat} (h : a < b) : 2 ^ a < 2 ^ b := Nat.pow_lt_pow_right (by decide) h
theorem wb_mod (n : Nat) : lN n = lN (n % 2 ^ 64) := wb_inj (by rw [wb_tb, wb_tb]; apply BitVec.eq_of_toNat_eq; rw [BitVec.toNat_ofNat, BitVec.toNat_ofNat, Nat.mod_mod])
theorem wb_shr {n k : Nat} (hn : n < 2 ^ 64) (hk : k < 64) : ((lN n).toUInt64 >>> ((nI k).toInt64.toUInt64 &&& Int64.toUInt64 63)).toInt64 = lN (n / 2 ^ k) := by
  rw [wb_cu k hk]
  apply wb_inj
  apply BitVec.eq_of_toNat_eq
  show ((lN n).toUInt64 >>> UInt64.ofNat k).toNat = (BitVec.ofNat 64 _).toNat
  have h1 : (UInt64.ofNat k).toNat = k := by
    show (BitVec.ofNat 64 k).toNat = k
    rw [BitVec.toNat_ofNat, Nat.mod_eq_of_lt (by omega)]
  have h2 : (lN n).toUInt64.toNat = n := wb_tn hn
  rw [UInt64.toNat_shiftRight, h1, h2, Nat.mod_eq_of_lt hk, Nat.shiftRight_eq_div_pow, BitVec.toNat_ofNat, Nat.mod_eq_of_lt (Nat.lt_of_le_of_lt (Nat.div_le_self _ _) hn)]
theorem wb_shl (n : Nat) {k : Nat} (hk : k < 64) : lN n <<< ((nI k).toInt64 &&& 63) = lN (n * 2 ^ k) := by
  rw [wb_c k hk]
  apply wb_inj
  rw [Int64.toBitVec_shiftLeft, wb_tb, wb_tb, wb_tb, wb_sm k hk]
  apply BitVec.eq_of_toNat_eq
  rw [BitVec.shiftLeft_eq', BitVec.toNat_shiftLeft, BitVec.toNat_ofNat, BitVec.toNat_ofNat, BitVec.toNat_ofNat, Nat.mod_eq_of_lt (show k < 2 ^ 64 by omega), Nat.shiftLeft_eq, Nat.mul_mod, Nat.mod_mod, ← Nat.mul_mod]
theorem wb_and {a b : Nat} (ha : a < 2 ^ 64) (hb : b < 2 ^ 64) : lN a &&& lN b = lN (a &&& b) := by
  apply wb_inj
  rw [Int64.toBitVec_and, wb_tb, wb_tb, wb_tb]
  apply BitVec.eq_of_toNat_eq
  rw [BitVec.toNat_and, BitVec.toNat_ofNat, BitVec.toNat_ofNat, BitVec.toNat_ofNat, Nat.mod_eq_of_lt ha, Nat.mod_eq_of_lt hb, Nat.mod_eq_of_lt (Nat.and_lt_two_pow _ hb)]
theorem wb_or {a b : Nat} (ha : a < 2 ^ 64) (hb : b < 2 ^ 64) : lN a ||| lN b = lN (a ||| b) := by
  apply wb_inj
  rw [Int64.toBitVec_or, wb_tb, wb_tb, wb_tb]
  apply BitVec.eq_of_toNat_eq
  rw [BitVec.toNat_or, BitVec.toNat_ofNat, BitVec.toNat_ofNat, BitVec.toNat_ofNat, Nat.mod_eq_of_lt ha, Nat.mod_eq_of_lt hb, Nat.mod_eq_of_lt (Nat.or_lt_two_pow ha hb)]
theorem wb_mask {n k : Nat} (hn : n < 2 ^ 64) (hk : k < 64) : lN n &&& lN (2 ^ k - 1) = lN (n % 2 ^ k) := by
  rw [wb_and hn (by have := wb_lt2 hk; omega), Nat.and_two_pow_sub_one_eq_mod]
theorem wb_a1 {n : Nat} (hn : n < 2 ^ 64) : lN n &&& 1 = lN (n % 2) := wb_mask (k := 1) hn (by decide)
theorem wb_bit {n k : Nat} (hn : n < 2 ^ 64) (hk : k < 64) : ((lN n).toUInt64 >>> ((nI k).toInt64.toUInt64 &&& Int64.toUInt64 63)).toInt64 &&& 1 = lN (n / 2 ^ k % 2) := by
  rw [wb_shr hn hk, wb_a1 (Nat.lt_of_le_of_lt (Nat.div_le_self _ _) hn)]
theorem wb_xor {q k : Nat} (hk : k < 63) (h : 2 ^ k ≤ q) (h2 : q < 2 ^ (k + 1)) : lN q ^^^ lN (2 ^ k) = lN (q - 2 ^ k) := by
  obtain ⟨r, rfl⟩ : ∃ r, q = 2 ^ k + r := ⟨q - 2 ^ k, by omega⟩
  have hr : r < 2 ^ k := by rw [Nat.pow_succ] at h2; omega
  have hx : (2 ^ k + r) ^^^ 2 ^ k = r := by
    apply Nat.eq_of_testBit_eq
    intro i
    rw [Nat.testBit_xor, Nat.testBit_two_pow]
    rcases Nat.lt_trichotomy i k with h | h | h
    · rw [Nat.testBit_two_pow_add_gt h]
      simp [show ¬ k = i by omega]
    · subst h
      rw [Nat.testBit_two_pow_add_eq]
      simp
    · have a1 : 2 ^ (k + 1) ≤ 2 ^ i := Nat.pow_le_pow_right (by decide) h
      rw [Nat.testBit_lt_two_pow (show 2 ^ k + r < 2 ^ i by omega), Nat.testBit_lt_two_pow (show r < 2 ^ i by omega)]
      simp [show ¬ k = i by omega]
  have b1 := wb_lt2 (show k + 1 < 64 by omega)
  have b2 := wb_lt2 (show k < 64 by omega)
  apply wb_inj
  rw [Int64.toBitVec_xor, wb_tb, wb_tb, wb_tb]
  apply BitVec.eq_of_toNat_eq
  rw [BitVec.toNat_xor, BitVec.toNat_ofNat, BitVec.toNat_ofNat, BitVec.toNat_ofNat, Nat.mod_eq_of_lt (by omega : 2 ^ k + r < 2 ^ 64), Nat.mod_eq_of_lt b2, hx, Nat.add_sub_cancel_left, Nat.mod_eq_of_lt (by omega)]
/-! ===== lN: masks, 'or' of parts that don't overlap is a sum ===== -/
theorem u_tn {n : Nat} (h : n < 2 ^ 64) : (UInt64.ofNat n).toNat = n := Nat.mod_eq_of_lt h
theorem g_and {a b c : Nat} (ha : a < 2 ^ 64) (hb : b < 2 ^ 64) (hc : a &&& b = c) : lN a &&& lN b = lN c := by
  subst hc
  have h : UInt64.ofNat a &&& UInt64.ofNat b = UInt64.ofNat (a &&& b) := UInt64.toNat_inj.mp (by rw [UInt64.toNat_and, u_tn ha, u_tn hb, u_tn (Nat.and_lt_two_pow a hb)])
  have h2 := congrArg UInt64.toInt64 h
  exact h2
theorem g_and1 {a : Nat} (ha : a < 2 ^ 64) : lN a &&& 1 = lN (a % 2) := g_and (b := 1) ha (by decide) (Nat.and_two_pow_sub_one_eq_mod a 1)
theorem g_mask {a s p : Nat} (hp : 2 ^ s = p) (hs : s < 64) (ha : a < 2 ^ 64) : lN a &&& lN (p - 1) = lN (a % p) := by
  subst hp
  have := Nat.pow_lt_pow_right (show 1 < 2 by decide) hs
  exact g_and ha (by omega) (Nat.and_two_pow_sub_one_eq_mod a s)
theorem g_or {k p a b : Nat} (hp : 2 ^ k = p) (ha : a < p) (h : b * p + a < 2 ^ 64) : lN (b * p) ||| lN a = lN (b * p + a) := by
  subst hp
  have h1 : b * 2 ^ k ||| a = b * 2 ^ k + a := by rw [← Nat.shiftLeft_eq, Nat.shiftLeft_add_eq_or_of_lt ha]
  have h3 : UInt64.ofNat (b * 2 ^ k) ||| UInt64.ofNat a = UInt64.ofNat (b * 2 ^ k + a) := UInt64.toNat_inj.mp (by rw [UInt64.toNat_or, u_tn (by omega), u_tn (by omega), u_tn h, h1])
  have h2 := congrArg UInt64.toInt64 h3
  exact h2
theorem g_or' {k p a b : Nat} (hp : 2 ^ k = p) (ha : a < p) (h : a + b * p < 2 ^ 64) : lN a ||| lN (b * p) = lN (a + b * p) := by
  rw [Int64.or_comm, g_or hp ha (by omega), Nat.add_comm]
theorem g_ushr {a k p : Nat} {y : UInt64} (hy : y = UInt64.ofNat k) (hk : k < 64) (hp : 2 ^ k = p) (ha : a < 2 ^ 64) : ((lN a).toUInt64 >>> y).toInt64 = lN (a / p) := by
  subst hy hp
  have h : UInt64.ofNat a >>> UInt64.ofNat k = UInt64.ofNat (a / 2 ^ k) := UInt64.toNat_inj.mp (by rw [UInt64.toNat_shiftRight, u_tn ha, u_tn (by omega), u_tn (Nat.lt_of_le_of_lt (Nat.div_le_self _ _) ha), Nat.mod_eq_of_lt hk, Nat.shiftRight_eq_div_pow])
  have h2 := congrArg UInt64.toInt64 h
  exact h2
theorem g_shl {a k p : Nat} {y : Int64} (hy : y.toBitVec.smod 64 = BitVec.ofNat 64 k) (hk : k < 64) (hp : 2 ^ k = p) (ha : a < 2 ^ 64) : lN a <<< y = lN (a * p) := by
  subst hp
  apply Int64.toBitVec_inj.mp
  rw [Int64.toBitVec_shiftLeft, hy]
  apply BitVec.eq_of_toNat_eq
  have hb : (lN a).toBitVec.toNat = a := Nat.mod_eq_of_lt ha
  have hk' : (BitVec.ofNat 64 k).toNat = k := Nat.mod_eq_of_lt (by omega)
  have h : ((lN a).toBitVec <<< BitVec.ofNat 64 k).toNat = (a * 2 ^ k) % 2 ^ 64 := by simp only [BitVec.shiftLeft_eq', BitVec.toNat_shiftLeft, hb, hk', Nat.shiftLeft_eq]
  exact h
/-! ===== lN to 2^62 under >> and >>> ===== -/
theorem pf_lI {a : Nat} (h : a < 2 ^ 63) : (lN a).toInt = (a : Int) := lg_ofNat_toInt h
theorem pf_shr {a d : Nat} {D : Int64} (hD : (D.toBitVec.smod 64).toNat = d) (h : a < 2 ^ 62) : lN a >>> D = lN (a / 2 ^ d) := by
  have hd : a / 2 ^ d ≤ a := Nat.div_le_self _ _
  apply Int64.toInt_inj.mp
  have e : (lN a >>> D).toInt = (lN a).toInt >>> d := by
    rw [← hD]
    exact BitVec.toInt_sshiftRight ..
  rw [e, Int.shiftRight_eq_div_pow, pf_lI (by omega), pf_lI (by omega)]
  rfl
theorem pf_ushr {a d : Nat} {D : UInt64} (hD : D.toNat % 64 = d) (h : a < 2 ^ 62) : ((lN a).toUInt64 >>> D).toInt64 = lN (a / 2 ^ d) := by
  have hd : a / 2 ^ d ≤ a := Nat.div_le_self _ _
  have e : (lN a).toUInt64 >>> D = UInt64.ofNat (a / 2 ^ d) := UInt64.toNat_inj.mp (by
    rw [UInt64.toNat_shiftRight, hD, Nat.shiftRight_eq_div_pow, UInt64.toNat_ofNat']
    show (UInt64.ofNat a).toNat / 2 ^ d = _
    rw [UInt64.toNat_ofNat', Nat.mod_eq_of_lt (by omega), Nat.mod_eq_of_lt (by omega)])
  rw [e]
  rfl
theorem pf_andw (x : Int64) : ∃ m, m < 2 ^ 32 ∧ x &&& 4294967295 = lN m := ⟨x.toBitVec.toNat % 2 ^ 32, Nat.mod_lt _ (by decide), Int64.toBitVec_inj.mp (BitVec.eq_of_toNat_eq (by
  show (x.toBitVec &&& 4294967295#64).toNat = (BitVec.ofNat 64 (x.toBitVec.toNat % 2 ^ 32)).toNat
  rw [BitVec.toNat_and, show (4294967295#64).toNat = 2 ^ 32 - 1 from by decide, Nat.and_two_pow_sub_one_eq_mod, BitVec.toNat_ofNat]
  omega))⟩
/-! ===== Int64 as an unsigned number: uN x ===== -/
def uN (x : Int64) : Nat := x.toUInt64.toNat
theorem uN_lt (x : Int64) : uN x < 18446744073709551616 := x.toUInt64.toNat_lt
theorem uN_inj {x y : Int64} (h : uN x = uN y) : x = y := congrArg UInt64.toInt64 (UInt64.toNat_inj.mp h)
theorem uN_add (x y : Int64) : uN (x + y) = (uN x + uN y) % 18446744073709551616 := by
  show (x.toUInt64 + y.toUInt64).toNat = _
  exact UInt64.toNat_add _ _
theorem uN_mul (x y : Int64) : uN (x * y) = (uN x * uN y) % 18446744073709551616 := by
  show (x.toUInt64 * y.toUInt64).toNat = _
  exact UInt64.toNat_mul _ _
theorem uN_shl (x : Int64) : uN (x <<< ((1 : Int32).toInt64 &&& 63)) = (2 * uN x) % 18446744073709551616 := by
  have h : (((1 : Int32).toInt64 &&& 63).toBitVec.smod 64).toNat = 1 := by decide
  show (x.toBitVec <<< (((1 : Int32).toInt64 &&& 63).toBitVec.smod 64).toNat).toNat = _
  rw [h, BitVec.toNat_shiftLeft, Nat.shiftLeft_eq, Nat.mul_comm]
  rfl
theorem uN_shr (x : Int64) (s : UInt64) : uN (x.toUInt64 >>> s).toInt64 = uN x / 2 ^ (s.toNat % 64) := by
  show (x.toUInt64 >>> s).toNat = _
  rw [UInt64.toNat_shiftRight, Nat.shiftRight_eq_div_pow]
  rfl
theorem uN_s32 (x : Int64) : uN (x.toUInt64 >>> ((32 : Int32).toInt64.toUInt64 &&& Int64.toUInt64 63)).toInt64 = uN x / 4294967296 := by
  have h : ((32 : Int32).toInt64.toUInt64 &&& Int64.toUInt64 63).toNat % 64 = 32 := by decide
  rw [uN_shr, h]
theorem uN_s63 (x : Int64) : uN (x.toUInt64 >>> ((63 : Int32).toInt64.toUInt64 &&& Int64.toUInt64 63)).toInt64 = uN x / 9223372036854775808 := by
  have h : ((63 : Int32).toInt64.toUInt64 &&& Int64.toUInt64 63).toNat % 64 = 63 := by decide
  rw [uN_shr, h]
theorem uN_lo (x : Int64) : uN (x &&& 4294967295) = uN x % 4294967296 := by
  show (x.toUInt64 &&& Int64.toUInt64 4294967295).toNat = _
  rw [UInt64.toNat_and]
  exact Nat.and_two_pow_sub_one_eq_mod _ 32
theorem uN_bit (x : Int64) : (x &&& 1) = 0 ↔ uN x % 2 = 0 := by
  have h : uN (x &&& 1) = uN x % 2 := by
    show (x.toUInt64 &&& Int64.toUInt64 1).toNat = _
    rw [UInt64.toNat_and]
    exact Nat.and_two_pow_sub_one_eq_mod _ 1
  rw [← h]
  exact ⟨fun z => by rw [z]; rfl, fun z => uN_inj (z.trans rfl)⟩
theorem uN_or {x y : Int64} (hy : uN y < 2) : uN ((x <<< ((1 : Int32).toInt64 &&& 63)) ||| y) = (2 * uN x) % 18446744073709551616 + uN y := by
  have h1 : uN ((x <<< ((1 : Int32).toInt64 &&& 63)) ||| y) = uN (x <<< ((1 : Int32).toInt64 &&& 63)) ||| uN y := UInt64.toNat_or _ _
  have h2 : (2 * uN x) % 18446744073709551616 = 2 ^ 1 * (uN x % 9223372036854775808) := by omega
  rw [h1, uN_shl, h2]
  exact (Nat.two_pow_add_eq_or_of_lt (i := 1) hy _).symm
theorem nat_xor {a : Nat} (h : a < 18446744073709551616) : a ^^^ 2 ^ 63 = (a + 9223372036854775808) % 18446744073709551616 := by
  have h1 : (a ^^^ 2 ^ 63) % 2 ^ 63 = a % 2 ^ 63 := by rw [Nat.xor_mod_two_pow, Nat.mod_self, Nat.xor_zero]
  have h2 : (a ^^^ 2 ^ 63) / 2 ^ 63 = (a / 2 ^ 63) ^^^ 1 := by rw [Nat.xor_div_two_pow, Nat.div_self (Nat.two_pow_pos 63)]
  have h3 : a / 2 ^ 63 = 0 ∨ a / 2 ^ 63 = 1 := by omega
  generalize a ^^^ 2 ^ 63 = t at h1 h2
  rcases h3 with h3 | h3
  · rw [h3] at h2
    have h2 : t / 2 ^ 63 = 1 := h2
    omega
  · rw [h3] at h2
    have h2 : t / 2 ^ 63 = 0 := h2
    omega
theorem uN_xor (x : Int64) : uN (x ^^^ (-9223372036854775808)) = (uN x + 9223372036854775808) % 18446744073709551616 := by
  rw [← nat_xor (uN_lt x)]
  exact UInt64.toNat_xor _ _
theorem uN_int (x : Int64) : x.toInt = if 2 * uN x < 18446744073709551616 then (uN x : Int) else (uN x : Int) - 18446744073709551616 := BitVec.toInt_eq_toNat_cond _
theorem uN_le (x y : Int64) : (x ^^^ (-9223372036854775808)) ≤ (y ^^^ (-9223372036854775808)) ↔ uN x ≤ uN y := by
  have hx := uN_lt x
  have hy := uN_lt y
  rw [Int64.le_iff_toInt_le, uN_int, uN_int, uN_xor, uN_xor]
  omega
theorem uN_sk (x : Int64) {k : Nat} (hk : k < 64) : uN (x.toUInt64 >>> ((nI k).toInt64.toUInt64 &&& Int64.toUInt64 63)).toInt64 = uN x / 2 ^ k := by
  have h : ((nI k).toInt64.toUInt64 &&& Int64.toUInt64 63).toNat % 64 = k := by
    rw [nI_l (by omega), UInt64.toNat_and]
    have e : (lN k).toUInt64.toNat = k % 2 ^ 64 := rfl
    have e2 : (Int64.toUInt64 63).toNat = 2 ^ 6 - 1 := by decide
    rw [e, e2, Nat.and_two_pow_sub_one_eq_mod]
    omega
  rw [uN_shr, h]
/-! ===== unsigned comparison by xor with the least ===== -/
theorem lN_bv (n : Nat) : (lN n).toBitVec = BitVec.ofNat 64 n := rfl
theorem lN_nat {n : Nat} (h : n < 2 ^ 64) : (lN n).toBitVec.toNat = n := by rw [lN_bv, BitVec.toNat_ofNat]; exact Nat.mod_eq_of_lt h
theorem lN_xor (a b : Nat) : lN a ^^^ lN b = lN (a ^^^ b) := by
  apply Int64.toBitVec_inj.mp; rw [Int64.toBitVec_xor, lN_bv, lN_bv, lN_bv]; apply BitVec.eq_of_getLsbD_eq; intro i hi; simp [BitVec.getLsbD_ofNat, Nat.testBit_xor, hi]
theorem lN_ti {m : Nat} (h : m < 2 ^ 64) : (lN m).toInt = if m < 2 ^ 63 then (m : Int) else (m : Int) - 2 ^ 64 := by
  have c := BitVec.toInt_eq_toNat_cond (lN m).toBitVec
  rw [lN_nat h] at c
  show (lN m).toBitVec.toInt = _
  rw [c]
  split <;> split <;> omega
theorem xor63 {x : Nat} (h : x < 2 ^ 63) : x ^^^ 2 ^ 63 = 2 ^ 63 + x := by
  apply Nat.eq_of_testBit_eq
  intro i
  rw [Nat.testBit_xor, Nat.testBit_two_pow]
  rcases Nat.lt_trichotomy i 63 with z | z | z
  · rw [Nat.testBit_two_pow_add_gt z, decide_eq_false (by omega)]; simp
  · subst z; rw [Nat.testBit_two_pow_add_eq]; simp
  · have hp : 2 ^ 64 ≤ 2 ^ i := Nat.pow_le_pow_right (by decide) z
    rw [Nat.testBit_lt_two_pow (show x < 2 ^ i by omega), Nat.testBit_lt_two_pow (show 2 ^ 63 + x < 2 ^ i by omega), decide_eq_false (by omega)]; rfl
theorem xorS {a : Nat} (h : a < 2 ^ 64) : (lN a ^^^ (-9223372036854775808)).toInt = (a : Int) - 2 ^ 63 := by
  rw [show (-9223372036854775808 : Int64) = lN (2 ^ 63) from by decide +kernel, lN_xor]
  rcases Nat.lt_or_ge a (2 ^ 63) with z | z
  · rw [xor63 z, lN_ti (by omega), if_neg (by omega)]; omega
  · obtain ⟨x, rfl⟩ : ∃ x, a = 2 ^ 63 + x := ⟨a - 2 ^ 63, by omega⟩
    rw [← xor63 (by omega), Nat.xor_assoc, Nat.xor_self, Nat.xor_zero, lN_ti (by omega), if_pos (by omega), xor63 (by omega)]; omega
theorem ultL {a b : Nat} (ha : a < 2 ^ 64) (hb : b < 2 ^ 64) : ((lN b ^^^ (-9223372036854775808)) ≤ (lN a ^^^ (-9223372036854775808))) ↔ b ≤ a := by
  rw [Int64.le_iff_toInt_le, xorS ha, xorS hb]; omega
/-! ===== Int64 masks of n low bits ===== -/
theorem cr_bits (W U M : BitVec 64) : ((W &&& U) &&& (U &&& (M ^^^ BitVec.allOnes 64))) = 0#64 ↔ (W &&& U) &&& M = W &&& U := by
  constructor
  · intro h
    apply BitVec.eq_of_getLsbD_eq
    intro i hi
    have e := congrArg (fun x => BitVec.getLsbD x i) h
    simp only [BitVec.getLsbD_and, BitVec.getLsbD_xor, BitVec.getLsbD_allOnes, BitVec.getLsbD_zero, hi, decide_true] at e ⊢
    revert e
    cases W.getLsbD i <;> cases U.getLsbD i <;> cases M.getLsbD i <;> decide
  · intro h
    apply BitVec.eq_of_getLsbD_eq
    intro i hi
    have e := congrArg (fun x => BitVec.getLsbD x i) h
    simp only [BitVec.getLsbD_and, BitVec.getLsbD_xor, BitVec.getLsbD_allOnes, BitVec.getLsbD_zero, hi, decide_true] at e ⊢
    revert e
    cases W.getLsbD i <;> cases U.getLsbD i <;> cases M.getLsbD i <;> decide
theorem cr_mask (w U m : Int64) (n : Nat) (hm : m.toBitVec.toNat = 2 ^ n - 1) : ((w &&& U) &&& (U &&& (m ^^^ (-1)))) = 0 ↔ (w &&& U).toBitVec.toNat < 2 ^ n := by
  have e0 : (-1 : Int64).toBitVec = BitVec.allOnes 64 := by decide
  have z0 : (0 : Int64).toBitVec = 0#64 := by decide
  rw [← Int64.toBitVec_inj, z0, Int64.toBitVec_and, Int64.toBitVec_and, Int64.toBitVec_and, Int64.toBitVec_xor, e0, cr_bits]
  generalize w.toBitVec &&& U.toBitVec = T
  rw [← BitVec.toNat_inj, BitVec.toNat_and, hm, Nat.and_two_pow_sub_one_eq_mod]
  constructor
  · intro h
    have t := Nat.mod_lt T.toNat (Nat.two_pow_pos n)
    rw [h] at t
    exact t
  · exact Nat.mod_eq_of_lt
theorem cr_shr (t : Int64) (x : UInt64) (n : Nat) (hx : x.toNat % 64 = n) : (t.toUInt64 >>> x).toInt64 = 0 ↔ t.toBitVec.toNat < 2 ^ n := by
  rw [← Int64.toBitVec_inj, ← BitVec.toNat_inj]
  show (t.toUInt64 >>> x).toNat = 0 ↔ t.toUInt64.toNat < 2 ^ n
  rw [UInt64.toNat_shiftRight, hx, Nat.shiftRight_eq_div_pow]
  constructor
  · intro h
    have d : t.toUInt64.toNat / 2 ^ n < 1 := by
      rw [h]
      decide
    have e := (Nat.div_lt_iff_lt_mul (Nat.two_pow_pos n)).mp d
    rw [Nat.one_mul] at e
    exact e
  · exact Nat.div_eq_of_lt
theorem cr_amt (s : Int64) : ∃ n, n < 64 ∧ s &&& 63 = lN n ∧ (s.toUInt64 &&& Int64.toUInt64 63).toNat % 64 = n := by
  have e : (s.toUInt64 &&& Int64.toUInt64 63).toNat = s.toUInt64.toNat % 2 ^ 6 := by
    rw [UInt64.toNat_and, show (Int64.toUInt64 63).toNat = 2 ^ 6 - 1 from by decide, Nat.and_two_pow_sub_one_eq_mod]
  refine ⟨s.toUInt64.toNat % 2 ^ 6, by omega, ?_, by omega⟩
  rw [← Int64.toBitVec_inj, ← BitVec.toNat_inj]
  show (s.toUInt64 &&& Int64.toUInt64 63).toNat = (BitVec.ofNat 64 (s.toUInt64.toNat % 2 ^ 6)).toNat
  rw [e, BitVec.toNat_ofNat]
  omega
end
section
/-! bits of ints that are nI of a number -/
theorem bb_tn (n : Nat) {i : Nat} (hi : i < 32) : bt (nI n) i = n.testBit i := by
  show (BitVec.ofNat 32 n).getLsbD i = _
  rw [BitVec.getLsbD_ofNat]
  simp [hi]
theorem bb_or (a b : Nat) : nI a ||| nI b = nI (a ||| b) := by
  apply b_ext
  intro i hi
  rw [b_or, bb_tn _ hi, bb_tn _ hi, bb_tn _ hi, Nat.testBit_or]
def bb_nd (a b : Nat) : Nat := a ^^^ (a &&& b)
theorem bb_nd_t (a b i : Nat) : (bb_nd a b).testBit i = (a.testBit i && !b.testBit i) := by
  unfold bb_nd
  rw [Nat.testBit_xor, Nat.testBit_and]
  cases a.testBit i <;> cases b.testBit i <;> rfl
theorem bb_andn (a b : Nat) : nI a &&& (nI b ^^^ (-1)) = nI (bb_nd a b) := by
  apply b_ext
  intro i hi
  rw [b_and, b_xor, b_m1 i hi, bb_tn _ hi, bb_tn _ hi, bb_tn _ hi, bb_nd_t]
  cases a.testBit i <;> cases b.testBit i <;> rfl
theorem bb_nd_le (a b : Nat) : bb_nd a b ≤ a := by
  have h : bb_nd a b = bb_nd a b &&& a := by
    apply Nat.eq_of_testBit_eq
    intro i
    rw [Nat.testBit_and, bb_nd_t]
    cases a.testBit i <;> cases b.testBit i <;> rfl
  rw [h]
  exact Nat.and_le_right
theorem bb_tlt {S k : Nat} (h : S < 2 ^ k) {i : Nat} (hi : k ≤ i) : S.testBit i = false :=
  Nat.testBit_lt_two_pow (Nat.lt_of_lt_of_le h (Nat.pow_le_pow_right (by decide) hi))
theorem bb_ext0 {S : Nat} {k : Nat} (h : S < 2 ^ k) (z : ∀ i, i < k → S.testBit i = false) : S = 0 := by
  apply Nat.eq_of_testBit_eq
  intro i
  rw [Nat.zero_testBit]
  rcases Nat.lt_or_ge i k with q | q
  · exact z i q
  · exact bb_tlt h q
theorem bb_bit {S j : Nat} (hS : S < 2 ^ 31) (hj : j < 32) : ((nI S >>> (nI j &&& 31)) &&& 1) = 0 ↔ S.testBit j = false := by
  rw [pk_shrN hS _ j (s_l j hj)]
  show nI (S / 2 ^ j) &&& nI 1 = 0 ↔ _
  have h := Nat.div_le_self S (2 ^ j)
  rw [nx_and, Nat.and_one_is_mod, ← nI_0, nI_eq (by omega) (by omega), Nat.testBit_eq_decide_div_mod_eq, decide_eq_false_iff_not]
  generalize S / 2 ^ j = z
  omega
theorem bb_bitT {S j : Nat} (hS : S < 2 ^ 31) (hj : j < 32) : ¬ ((nI S >>> (nI j &&& 31)) &&& 1) = 0 ↔ S.testBit j = true := by
  rw [bb_bit hS hj]
  cases S.testBit j <;> simp
theorem bb_1shl {j : Nat} (hj : j < 31) : (1 : Int32) <<< (nI j &&& 31) = nI (2 ^ j) := by
  have h := pk_shlN (n := 1) (nI j &&& 31) j (s_l j (by omega)) (by rw [Nat.one_mul]; exact Nat.pow_lt_pow_right (by decide) (by omega))
  rw [Nat.one_mul] at h
  exact h
theorem bb_or2 (S j i : Nat) : (S ||| 2 ^ j).testBit i = (S.testBit i || decide (j = i)) := by
  rw [Nat.testBit_or, Nat.testBit_two_pow]
theorem bb_or2_lt {S j k : Nat} (h : S < 2 ^ k) (hj : j < k) : S ||| 2 ^ j < 2 ^ k := Nat.or_lt_two_pow h (Nat.pow_lt_pow_right (by decide) hj)
theorem bb_sc {n : Nat} (h : n < 2 ^ 15) : (nI n).toInt16.toInt32 = nI n := by
  apply lg_i2s_small
  · rw [nI_toInt (by omega)]; omega
  · rw [nI_toInt (by omega)]; omega
theorem bb_bc {n : Nat} (h : n < 2 ^ 7) : (nI n).toInt8.toInt32 = nI n := by
  apply lg_i2b_small
  · rw [nI_toInt (by omega)]; omega
  · rw [nI_toInt (by omega)]; omega
theorem bb_sh {n : Nat} (h : n < 2 ^ 15) : vp_nar .short (nI n).toInt16.toInt32 = nI n := by rw [pk_vs, bb_sc h]
theorem bb_by {n : Nat} (h : n < 2 ^ 7) : vp_nar .byte (nI n).toInt8.toInt32 = nI n := by rw [pk_vb, bb_bc h]
theorem bb_b0 : vp_nar .boolean 0 = 0 := rfl
theorem bb_b1 : vp_nar .boolean 1 = 1 := rfl
theorem bb_s0 : vp_nar .short 0 = 0 := rfl
theorem bb_y0 : vp_nar .byte 0 = 0 := rfl
/-! clearing the lowest bit -/
theorem bb_low : ∀ S : Nat, 0 < S → ∃ b, S.testBit b = true ∧ (∀ i, i < b → S.testBit i = false) ∧ (∀ i, (S &&& (S - 1)).testBit i = (S.testBit i && decide (i ≠ b))) ∧ S &&& (S - 1) < S := by
  intro S
  induction S using Nat.strongRecOn with
  | ind S ih =>
    intro h0
    rcases Nat.mod_two_eq_zero_or_one S with e | e
    · obtain ⟨b, h1, h2, h3, h4⟩ := ih (S / 2) (by omega) (by omega)
      have d2 : (S - 1) / 2 = S / 2 - 1 := by omega
      refine ⟨b + 1, by rw [Nat.testBit_succ]; exact h1, fun i hi => ?_, fun i => ?_, ?_⟩
      · cases i with
        | zero => rw [Nat.testBit_zero, e]; rfl
        | succ i => rw [Nat.testBit_succ]; exact h2 i (by omega)
      · cases i with
        | zero => rw [Nat.testBit_and, Nat.testBit_zero, e]; rfl
        | succ i =>
          rw [Nat.testBit_succ, Nat.testBit_succ, Nat.and_div_two, d2, h3 i]
          congr 1
          simp
      · have q : (S &&& (S - 1)) / 2 = S / 2 &&& (S / 2 - 1) := by rw [Nat.and_div_two, d2]
        omega
    · refine ⟨0, by rw [Nat.testBit_zero, e]; rfl, fun i hi => absurd hi (Nat.not_lt_zero i), fun i => ?_, ?_⟩
      · cases i with
        | zero => rw [Nat.testBit_and, Nat.testBit_zero, Nat.testBit_zero, show (S - 1) % 2 = 0 by omega]; simp
        | succ i =>
          rw [Nat.testBit_succ, Nat.testBit_succ, Nat.and_div_two, show (S - 1) / 2 = S / 2 by omega, Nat.and_self]
          simp
      · have q : S &&& (S - 1) ≤ S - 1 := Nat.and_le_right
        omega
/-! twelve bits as four digits -/
def bb_dg (N v : Nat) : Nat := N / 8 ^ v % 8
def bb_st (N v n : Nat) : Nat := N - bb_dg N v * 8 ^ v + n * 8 ^ v
theorem bb_dg_lt (N v : Nat) : bb_dg N v < 8 := Nat.mod_lt _ (by decide)
theorem bb_dg0 (v : Nat) : bb_dg 0 v = 0 := by unfold bb_dg; rw [Nat.zero_div]
theorem bb_st_lt {N v n : Nat} (hN : N < 4096) (hv : v < 4) (hn : n < 8) : bb_st N v n < 4096 := by
  unfold bb_st bb_dg
  have h : v = 0 ∨ v = 1 ∨ v = 2 ∨ v = 3 := by omega
  rcases h with rfl | rfl | rfl | rfl <;> simp only [Nat.reducePow] <;> omega
theorem bb_st_s {N v n : Nat} (hN : N < 4096) (hv : v < 4) (hn : n < 8) : bb_dg (bb_st N v n) v = n := by
  unfold bb_st bb_dg
  have h : v = 0 ∨ v = 1 ∨ v = 2 ∨ v = 3 := by omega
  rcases h with rfl | rfl | rfl | rfl <;> simp only [Nat.reducePow] <;> omega
theorem bb_st_n {N v n v' : Nat} (hN : N < 4096) (hv : v < 4) (hn : n < 8) (hv' : v' < 4) (e : v' ≠ v) : bb_dg (bb_st N v n) v' = bb_dg N v' := by
  unfold bb_st bb_dg
  have h : v = 0 ∨ v = 1 ∨ v = 2 ∨ v = 3 := by omega
  have h' : v' = 0 ∨ v' = 1 ∨ v' = 2 ∨ v' = 3 := by omega
  rcases h with rfl | rfl | rfl | rfl <;> rcases h' with rfl | rfl | rfl | rfl <;> first | (exact absurd rfl e) | (simp only [Nat.reducePow] <;> omega)
theorem bb_3v (v : Nat) : (3 : Int32) * nI v = nI (3 * v) := pk_mul 3 v
theorem bb_dgX {N v : Nat} (hN : N < 2 ^ 31) (hv : v < 10) : (nI N >>> ((3 * nI v) &&& 31)) &&& 7 = nI (bb_dg N v) := by
  have q : (8 : Nat) ^ v = 2 ^ (3 * v) := by rw [Nat.pow_mul]
  have d := Nat.div_le_self N (2 ^ (3 * v))
  rw [bb_3v, pk_shrN hN _ (3 * v) (s_l (3 * v) (by omega)), pk_andN (by omega) 3 (by decide)]
  unfold bb_dg
  rw [q]
theorem bb_orp {k a : Nat} (b : Nat) (h : a < 2 ^ k) : a ||| b * 2 ^ k = a + b * 2 ^ k := by
  have q := Nat.shiftLeft_add_eq_or_of_lt h b
  rw [Nat.shiftLeft_eq] at q
  rw [Nat.or_comm, ← q, Nat.add_comm]
theorem bb_clr0 : ∀ N, N < 4096 → bb_nd N 7 = N - N % 8 := by decide +kernel
theorem bb_clr1 : ∀ N, N < 4096 → bb_nd N 56 = N - N / 8 % 8 * 8 := by decide +kernel
theorem bb_clr2 : ∀ N, N < 4096 → bb_nd N 448 = N - N / 64 % 8 * 64 := by decide +kernel
theorem bb_clr3 : ∀ N, N < 4096 → bb_nd N 3584 = N - N / 512 % 8 * 512 := by decide +kernel
theorem bb_ins {a b c k : Nat} (ha : a < 2 ^ k) (hb : b < 2 ^ 3) : (a + c * 2 ^ (k + 3)) ||| b * 2 ^ k = a + b * 2 ^ k + c * 2 ^ (k + 3) := by
  have h1 : a + b * 2 ^ k < 2 ^ (k + 3) := by
    have := Nat.mul_le_mul_right (2 ^ k) (show b ≤ 7 by omega)
    rw [Nat.pow_add]
    omega
  rw [← bb_orp c h1, ← bb_orp b ha, ← bb_orp (k := k + 3) c (Nat.lt_of_lt_of_le ha (Nat.pow_le_pow_right (by decide) (by omega))), Nat.or_assoc, Nat.or_comm (c * 2 ^ (k + 3)), ← Nat.or_assoc]
theorem bb_stX {N v n : Nat} (hN : N < 4096) (hv : v < 4) (hn : n < 8) : (nI N &&& (((7 : Int32) <<< ((3 * nI v) &&& 31)) ^^^ (-1))) ||| (nI n <<< ((3 * nI v) &&& 31)) = nI (bb_st N v n) := by
  have a1 : (7 : Int32) <<< ((3 * nI v) &&& 31) = nI (7 * 2 ^ (3 * v)) := by
    rw [bb_3v]
    refine pk_shlN (n := 7) _ (3 * v) (s_l (3 * v) (by omega)) ?_
    have := Nat.pow_le_pow_right (show 0 < 2 by decide) (show 3 * v ≤ 9 by omega)
    omega
  have a2 : nI n <<< ((3 * nI v) &&& 31) = nI (n * 2 ^ (3 * v)) := by
    rw [bb_3v]
    refine pk_shlN _ (3 * v) (s_l (3 * v) (by omega)) ?_
    have := Nat.pow_le_pow_right (show 0 < 2 by decide) (show 3 * v ≤ 9 by omega)
    have := Nat.mul_le_mul (show n ≤ 8 by omega) this
    omega
  rw [a1, a2, bb_andn, bb_or]
  apply congrArg nI
  unfold bb_st bb_dg
  have h : v = 0 ∨ v = 1 ∨ v = 2 ∨ v = 3 := by omega
  rcases h with rfl | rfl | rfl | rfl
  · have e := bb_clr0 N hN
    have i := bb_ins (a := 0) (b := n) (c := N / 8) (k := 0) (by decide) hn
    simp only [Nat.reducePow, Nat.reduceMul, Nat.reduceAdd, Nat.div_one, Nat.mul_one, Nat.zero_add] at e i ⊢
    rw [e, show N - N % 8 = N / 8 * 8 by omega, i]
    omega
  · have e := bb_clr1 N hN
    have i := bb_ins (a := N % 8) (b := n) (c := N / 64) (k := 3) (by omega) hn
    simp only [Nat.reducePow, Nat.reduceMul, Nat.reduceAdd] at e i ⊢
    rw [e, show N - N / 8 % 8 * 8 = N % 8 + N / 64 * 64 by omega, i]
    omega
  · have e := bb_clr2 N hN
    have i := bb_ins (a := N % 64) (b := n) (c := N / 512) (k := 6) (by omega) hn
    simp only [Nat.reducePow, Nat.reduceMul, Nat.reduceAdd] at e i ⊢
    rw [e, show N - N / 64 % 8 * 64 = N % 64 + N / 512 * 512 by omega, i]
    omega
  · have e := bb_clr3 N hN
    have i := bb_ins (a := N % 512) (b := n) (c := N / 4096) (k := 9) (by omega) hn
    simp only [Nat.reducePow, Nat.reduceMul, Nat.reduceAdd] at e i ⊢
    rw [e, show N - N / 512 % 8 * 512 = N % 512 + N / 4096 * 4096 by omega, i]
    omega
def bb_key (N : Nat) : Nat := bb_dg N 0 * 512 + bb_dg N 1 * 64 + bb_dg N 2 * 8 + bb_dg N 3
theorem bb_key_lt (N : Nat) : bb_key N < 4096 := by
  have := bb_dg_lt N 0; have := bb_dg_lt N 1; have := bb_dg_lt N 2; have := bb_dg_lt N 3
  unfold bb_key
  omega
theorem bb_keyX {N : Nat} (hN : N < 4096) : ((((nI N &&& 7) <<< ((9 : Int32) &&& 31)) ||| (((nI N >>> ((3 : Int32) &&& 31)) &&& 7) <<< ((6 : Int32) &&& 31))) ||| (((nI N >>> ((6 : Int32) &&& 31)) &&& 7) <<< ((3 : Int32) &&& 31))) ||| ((nI N >>> ((9 : Int32) &&& 31)) &&& 7) = nI (bb_key N) := by
  have d0 := bb_dg_lt N 0
  have d1 := bb_dg_lt N 1
  have d2 := bb_dg_lt N 2
  have d3 := bb_dg_lt N 3
  have e0 : nI N &&& 7 = nI (bb_dg N 0) := by
    rw [pk_andN (by omega) 3 (by decide)]
    unfold bb_dg
    rw [Nat.pow_zero, Nat.div_one]
  have e1 : (nI N >>> ((3 : Int32) &&& 31)) &&& 7 = nI (bb_dg N 1) := bb_dgX (v := 1) (by omega) (by omega)
  have e2 : (nI N >>> ((6 : Int32) &&& 31)) &&& 7 = nI (bb_dg N 2) := bb_dgX (v := 2) (by omega) (by omega)
  have e3 : (nI N >>> ((9 : Int32) &&& 31)) &&& 7 = nI (bb_dg N 3) := bb_dgX (v := 3) (by omega) (by omega)
  rw [e0, e1, e2, e3, pk_shlN _ 9 (by decide) (by omega), pk_shlN _ 6 (by decide) (by omega), pk_shlN _ 3 (by decide) (by omega), bb_or, bb_or, bb_or]
  apply congrArg nI
  unfold bb_key
  generalize bb_dg N 0 = a at *
  generalize bb_dg N 1 = b at *
  generalize bb_dg N 2 = c at *
  generalize bb_dg N 3 = d at *
  have i1 := bb_orp (k := 9) (a := b * 64) a (by omega)
  have i2 := bb_orp (k := 6) (a := c * 8) (b + a * 8) (by omega)
  have i3 := bb_orp (k := 3) (a := d) (c + b * 8 + a * 64) (by omega)
  simp only [Nat.reducePow] at i1 i2 i3 ⊢
  rw [Nat.or_comm (a * 512), i1, Nat.or_comm _ (c * 8), show b * 64 + a * 512 = (b + a * 8) * 64 by omega, i2, Nat.or_comm _ d, show c * 8 + (b + a * 8) * 64 = (c + b * 8 + a * 64) * 8 by omega, i3]
  omega
end
section
/-! longs by their bits; the words of nodes and edges -/
def bl (x : Int64) (i : Nat) : Bool := x.toBitVec.getLsbD i
theorem bl_ext {x y : Int64} (h : ∀ i, i < 64 → bl x i = bl y i) : x = y := Int64.toBitVec_inj.mp (BitVec.eq_of_getLsbD_eq (fun i hi => h i hi))
theorem bl_or (x y : Int64) (i : Nat) : bl (x ||| y) i = (bl x i || bl y i) := by unfold bl; rw [Int64.toBitVec_or, BitVec.getLsbD_or]
theorem bl_and (x y : Int64) (i : Nat) : bl (x &&& y) i = (bl x i && bl y i) := by unfold bl; rw [Int64.toBitVec_and, BitVec.getLsbD_and]
theorem bl_0 (i : Nat) : bl 0 i = false := BitVec.getLsbD_zero
theorem bl_i2l (x : Int32) {i : Nat} (hi : i < 64) : bl x.toInt64 i = if i < 32 then bt x i else bt x 31 := by
  unfold bl bt
  rw [Int32.toBitVec_toInt64, BitVec.getLsbD_signExtend, BitVec.msb_eq_getLsbD_last]
  simp [hi]
theorem bl_l2i (x : Int64) {i : Nat} (hi : i < 32) : bt x.toInt32 i = bl x i := by
  unfold bl bt
  rw [Int64.toBitVec_toInt32, BitVec.getLsbD_signExtend]
  simp [hi, show i < 64 by omega]
theorem bl_sm32 : (((32 : Int32).toInt64 &&& 63).toBitVec.smod 64).toNat = 32 := by decide +kernel
theorem bl_shl (x : Int64) {i : Nat} (hi : i < 64) : bl (x <<< ((32 : Int32).toInt64 &&& 63)) i = (decide (32 ≤ i) && bl x (i - 32)) := by
  unfold bl
  rw [Int64.toBitVec_shiftLeft]
  show (x.toBitVec <<< (((32 : Int32).toInt64 &&& 63).toBitVec.smod 64).toNat).getLsbD i = _
  rw [bl_sm32, BitVec.getLsbD_shiftLeft]
  rcases Nat.lt_or_ge i 32 with h | h
  · simp [h, Nat.not_le.mpr h]
  · simp [hi, h, Nat.not_lt.mpr h]
theorem bl_sshr (x : Int64) {i : Nat} (hi : i < 64) : bl (x >>> ((32 : Int32).toInt64 &&& 63)) i = if 32 + i < 64 then bl x (32 + i) else bl x 63 := by
  unfold bl
  rw [Int64.toBitVec_shiftRight]
  show (x.toBitVec.sshiftRight (((32 : Int32).toInt64 &&& 63).toBitVec.smod 64).toNat).getLsbD i = _
  rw [bl_sm32, BitVec.getLsbD_sshiftRight, BitVec.msb_eq_getLsbD_last]
  simp [hi]
theorem bl_31 : ∀ i, i < 64 → bl 31 i = decide (i < 5) := by decide +kernel
theorem bl_32 : ∀ i, i < 64 → bl 32 i = decide (i = 5) := by decide +kernel
theorem bl_m31 : ∀ i, i < 64 → bl (-31) i = decide (i = 0 ∨ 4 < i) := by decide +kernel
theorem bl_ne0 {x : Int64} {i : Nat} (h : bl x i = true) : ¬ x = 0 := fun e => by rw [e, bl_0] at h; exact absurd h (by decide)
theorem bl_has (x : Int64) : (x &&& 32) = 0 ↔ bl x 5 = false := by
  constructor
  · intro h
    have t : bl (x &&& 32) 5 = false := by rw [h, bl_0]
    rw [bl_and, bl_32 5 (by omega)] at t
    simpa using t
  · intro h
    apply bl_ext
    intro i hi
    rw [bl_and, bl_32 i hi, bl_0]
    by_cases e : i = 5
    · subst e; rw [h]; rfl
    · rw [decide_eq_false e, Bool.and_false]
def gr_lab (w : Int64) : Int32 := (w.toInt32 >>> ((1 : Int32) &&& 31)) &&& 15
def gr_pr (w : Int64) : Int64 := w >>> ((32 : Int32).toInt64 &&& 63)
theorem b_15 : ∀ i, i < 32 → bt 15 i = decide (i < 4) := by decide +kernel
theorem gr_lab_b (w : Int64) {i : Nat} (hi : i < 32) : bt (gr_lab w) i = (decide (i < 4) && bl w (1 + i)) := by
  unfold gr_lab
  rw [b_and, b_15 i hi]
  have q : bt (w.toInt32 >>> ((1 : Int32) &&& 31)) i = if 1 + i < 32 then bt w.toInt32 (1 + i) else bt w.toInt32 31 := b_sshr 1 (by omega) w.toInt32 hi
  rw [q]
  by_cases h : i < 4
  · rw [if_pos (by omega), bl_l2i _ (by omega), decide_eq_true h, Bool.true_and, Bool.and_true]
  · rw [decide_eq_false h, Bool.and_false, Bool.false_and]
theorem gr_lab_e {w w' : Int64} (h : ∀ i, i < 4 → bl w (1 + i) = bl w' (1 + i)) : gr_lab w = gr_lab w' := by
  apply b_ext
  intro i hi
  rw [gr_lab_b _ hi, gr_lab_b _ hi]
  by_cases z : i < 4
  · rw [h i z]
  · rw [decide_eq_false z, Bool.false_and, Bool.false_and]
theorem gr_labN (w : Int64) : ∃ l, l < 16 ∧ gr_lab w = nI l := pk_andE _ 4 (by decide)
/-- a node made anew -/
theorem gr_mk : ∀ l, l < 16 → bl ((1 ||| (nI l <<< ((1 : Int32) &&& 31))).toInt64) 0 = true ∧ gr_lab ((1 ||| (nI l <<< ((1 : Int32) &&& 31))).toInt64) = nI l ∧ bl ((1 ||| (nI l <<< ((1 : Int32) &&& 31))).toInt64) 5 = false := by decide +kernel
/-- a property set -/
def gr_set (w : Int64) (v : Int32) : Int64 := ((w &&& 31) ||| 32) ||| (v.toInt64 <<< ((32 : Int32).toInt64 &&& 63))
theorem gr_set_b (w : Int64) (v : Int32) {i : Nat} (hi : i < 64) : bl (gr_set w v) i = (((bl w i && decide (i < 5)) || decide (i = 5)) || (decide (32 ≤ i) && bl v.toInt64 (i - 32))) := by
  unfold gr_set
  rw [bl_or, bl_or, bl_and, bl_31 i hi, bl_32 i hi, bl_shl _ hi]
theorem gr_set0 (w : Int64) (v : Int32) : bl (gr_set w v) 0 = bl w 0 := by
  rw [gr_set_b _ _ (by omega)]; simp
theorem gr_set5 (w : Int64) (v : Int32) : bl (gr_set w v) 5 = true := by
  rw [gr_set_b _ _ (by omega)]; simp
theorem gr_setL (w : Int64) (v : Int32) : gr_lab (gr_set w v) = gr_lab w := by
  apply gr_lab_e
  intro i hi
  rw [gr_set_b _ _ (by omega), decide_eq_true (show 1 + i < 5 by omega), decide_eq_false (show ¬ 1 + i = 5 by omega), decide_eq_false (show ¬ 32 ≤ 1 + i by omega)]
  simp
theorem gr_setP (w : Int64) (v : Int32) : gr_pr (gr_set w v) = v.toInt64 := by
  apply bl_ext
  intro i hi
  unfold gr_pr
  rw [bl_sshr _ hi]
  by_cases h : 32 + i < 64
  · rw [if_pos h, gr_set_b _ _ h, decide_eq_false (show ¬ 32 + i < 5 by omega), decide_eq_false (show ¬ 32 + i = 5 by omega), decide_eq_true (show 32 ≤ 32 + i by omega), Nat.add_sub_cancel_left]
    simp
  · rw [if_neg h, gr_set_b _ _ (by omega), bl_i2l v hi, bl_i2l v (by omega), if_neg (show ¬ i < 32 by omega)]
    simp
/-- a property cleared -/
theorem gr_clr0 (w : Int64) : bl (w &&& 31) 0 = bl w 0 := by rw [bl_and, bl_31 0 (by omega)]; simp
theorem gr_clr5 (w : Int64) : bl (w &&& 31) 5 = false := by rw [bl_and, bl_31 5 (by omega)]; simp
theorem gr_clrL (w : Int64) : gr_lab (w &&& 31) = gr_lab w := by
  apply gr_lab_e
  intro i hi
  rw [bl_and, bl_31 _ (by omega), decide_eq_true (show 1 + i < 5 by omega), Bool.and_true]
/-- labels set -/
def gr_rel (w : Int64) (l : Int32) : Int64 := (w &&& (-31)) ||| (l <<< ((1 : Int32) &&& 31)).toInt64
theorem gr_relc : ∀ l, l < 16 → ∀ i, i < 64 → bl ((nI l <<< ((1 : Int32) &&& 31)).toInt64) i = (decide (1 ≤ i) && l.testBit (i - 1)) := by decide +kernel
theorem gr_rel_b (w : Int64) {l : Nat} (hl : l < 16) {i : Nat} (hi : i < 64) : bl (gr_rel w (nI l)) i = ((bl w i && decide (i = 0 ∨ 4 < i)) || (decide (1 ≤ i) && l.testBit (i - 1))) := by
  unfold gr_rel
  rw [bl_or, bl_and, bl_m31 i hi, gr_relc l hl i hi]
theorem gr_rel_f (w : Int64) {l : Nat} (hl : l < 16) {i : Nat} (hi : i < 64) (h : i = 0 ∨ 4 < i) : bl (gr_rel w (nI l)) i = bl w i := by
  rw [gr_rel_b w hl hi, decide_eq_true h, Bool.and_true]
  rcases h with h | h
  · subst h; simp
  · rw [bb_tlt (k := 4) (S := l) (by omega) (by omega), Bool.and_false, Bool.or_false]
theorem gr_relL (w : Int64) {l : Nat} (hl : l < 16) : gr_lab (gr_rel w (nI l)) = nI l := by
  apply b_ext
  intro i hi
  rw [gr_lab_b _ hi, bb_tn _ hi]
  by_cases h : i < 4
  · rw [gr_rel_b w hl (by omega), decide_eq_true h, decide_eq_false (show ¬ (1 + i = 0 ∨ 4 < 1 + i) by omega), decide_eq_true (show 1 ≤ 1 + i by omega), Nat.add_sub_cancel_left]
    simp
  · rw [decide_eq_false h, Bool.false_and, bb_tlt (k := 4) (S := l) (by omega) (by omega)]
theorem gr_relP (w : Int64) {l : Nat} (hl : l < 16) : gr_pr (gr_rel w (nI l)) = gr_pr w := by
  apply bl_ext
  intro i hi
  unfold gr_pr
  rw [bl_sshr _ hi, bl_sshr _ hi]
  by_cases h : 32 + i < 64
  · rw [if_pos h, if_pos h, gr_rel_f w hl h (by omega)]
  · rw [if_neg h, if_neg h, gr_rel_f w hl (by omega) (by omega)]
/-- a property is an int: it isn't the long that stands for none -/
theorem gr_prI (w : Int64) : ∃ v : Int32, gr_pr w = v.toInt64 := by
  refine ⟨(gr_pr w).toInt32, ?_⟩
  apply bl_ext
  intro i hi
  rw [bl_i2l _ hi]
  unfold gr_pr
  by_cases h : i < 32
  · rw [if_pos h, bl_l2i _ h]
  · rw [if_neg h, bl_l2i _ (by omega), bl_sshr _ hi, bl_sshr _ (by omega), if_neg (by omega), if_pos (by omega)]
theorem gr_i2l_ne (v : Int32) : ¬ v.toInt64 = 9000000000000000000 := by
  intro h
  have t := congrArg Int64.toInt h
  rw [Int32.toInt_toInt64] at t
  have a := v.toInt_lt
  have b : (9000000000000000000 : Int64).toInt = 9000000000000000000 := by decide +kernel
  rw [b] at t
  omega
theorem gr_prN (w : Int64) : ¬ gr_pr w = 9000000000000000000 := by
  obtain ⟨v, e⟩ := gr_prI w
  rw [e]
  exact gr_i2l_ne v
/-! edges -/
def gr_from (w : Int64) : Int32 := (w.toInt32 >>> ((1 : Int32) &&& 31)) &&& 7
def gr_to (w : Int64) : Int32 := (w.toInt32 >>> ((4 : Int32) &&& 31)) &&& 7
def gr_typ (w : Int64) : Int32 := (w.toInt32 >>> ((7 : Int32) &&& 31)) &&& 3
def gr_wt (w : Int64) : Int64 := w >>> ((9 : Int32).toInt64 &&& 63)
def gr_we (f t y w : Nat) : Int64 := lN (1 + f * 2 + t * 16 + y * 128 + w * 512)
theorem gr_ce {f t y w : Nat} (hf : f < 8) (ht : t < 8) (hy : y < 3) (hw : w < 101) : (((((1 ||| (nI f <<< ((1 : Int32) &&& 31))) ||| (nI t <<< ((4 : Int32) &&& 31))) ||| (nI y <<< ((7 : Int32) &&& 31))) ||| (nI w <<< ((9 : Int32) &&& 31))).toInt64) = gr_we f t y w := by
  rw [pk_shlN _ 1 (by decide) (by omega), pk_shlN _ 4 (by decide) (by omega), pk_shlN _ 7 (by decide) (by omega), pk_shlN _ 9 (by decide) (by omega)]
  have i1 := bb_orp (k := 1) (a := 1) f (by omega)
  have i2 := bb_orp (k := 4) (a := 1 + f * 2) t (by omega)
  have i3 := bb_orp (k := 7) (a := 1 + f * 2 + t * 16) y (by omega)
  have i4 := bb_orp (k := 9) (a := 1 + f * 2 + t * 16 + y * 128) w (by omega)
  show (((((nI 1 ||| nI (f * 2 ^ 1)) ||| nI (t * 2 ^ 4)) ||| nI (y * 2 ^ 7)) ||| nI (w * 2 ^ 9)).toInt64) = _
  simp only [Nat.reducePow] at i1 i2 i3 i4 ⊢
  rw [bb_or, i1, bb_or, i2, bb_or, i3, bb_or, i4, nI_l (by omega)]
  rfl
theorem gr_we0 {f t y w : Nat} (hf : f < 8) (ht : t < 8) (hy : y < 3) (hw : w < 101) : ¬ gr_we f t y w = 0 := by
  have e : (0 : Int64) = lN 0 := rfl
  unfold gr_we
  rw [e, lN_eq (by omega) (by omega)]
  omega
theorem gr_weF {f t y w : Nat} (hf : f < 8) (ht : t < 8) (hy : y < 3) (hw : w < 101) : gr_from (gr_we f t y w) = nI f := by
  unfold gr_from gr_we
  rw [lN_i, pk_shrN (by omega) _ 1 (by decide), pk_andN (by omega) 3 (by decide)]
  exact congrArg nI (by omega)
theorem gr_weT {f t y w : Nat} (hf : f < 8) (ht : t < 8) (hy : y < 3) (hw : w < 101) : gr_to (gr_we f t y w) = nI t := by
  unfold gr_to gr_we
  rw [lN_i, pk_shrN (by omega) _ 4 (by decide), pk_andN (by omega) 3 (by decide)]
  exact congrArg nI (by omega)
theorem gr_weY {f t y w : Nat} (hf : f < 8) (ht : t < 8) (hy : y < 3) (hw : w < 101) : gr_typ (gr_we f t y w) = nI y := by
  unfold gr_typ gr_we
  rw [lN_i, pk_shrN (by omega) _ 7 (by decide), pk_andN (by omega) 2 (by decide)]
  exact congrArg nI (by omega)
theorem gr_weW {f t y w : Nat} (hf : f < 8) (ht : t < 8) (hy : y < 3) (hw : w < 101) : gr_wt (gr_we f t y w) = lN w := by
  unfold gr_wt gr_we
  rw [pf_shr (d := 9) (by decide +kernel) (by omega)]
  exact congrArg lN (by omega)
theorem gr_fromN (w : Int64) : ∃ l, l < 8 ∧ gr_from w = nI l := pk_andE _ 3 (by decide)
theorem gr_toN (w : Int64) : ∃ l, l < 8 ∧ gr_to w = nI l := pk_andE _ 3 (by decide)
theorem gr_typN (w : Int64) : ∃ l, l < 4 ∧ gr_typ w = nI l := pk_andE _ 2 (by decide)
/-! the numbers of a graph g: words of nodes 0 .. 7, of edges 8 .. 19 -/
def nL (g : Nat → Int64) (n : Nat) : Nat := (gr_lab (g n)).toNatClampNeg
def nH (g : Nat → Int64) (n : Nat) : Bool := bl (g n) 5
def eF (g : Nat → Int64) (e : Nat) : Nat := (gr_from (g (8 + e))).toNatClampNeg
def eT (g : Nat → Int64) (e : Nat) : Nat := (gr_to (g (8 + e))).toNatClampNeg
def eY (g : Nat → Int64) (e : Nat) : Nat := (gr_typ (g (8 + e))).toNatClampNeg
def eW (g : Nat → Int64) (e : Nat) : Nat := (gr_wt (g (8 + e))).toInt.toNat
theorem nL_e (g : Nat → Int64) (n : Nat) : gr_lab (g n) = nI (nL g n) ∧ nL g n < 16 := by
  obtain ⟨l, h, e⟩ := gr_labN (g n)
  unfold nL
  rw [e, nI_clamp (by omega)]
  exact ⟨rfl, h⟩
theorem eF_e (g : Nat → Int64) (n : Nat) : gr_from (g (8 + n)) = nI (eF g n) ∧ eF g n < 8 := by
  obtain ⟨l, h, e⟩ := gr_fromN (g (8 + n))
  unfold eF
  rw [e, nI_clamp (by omega)]
  exact ⟨rfl, h⟩
theorem eT_e (g : Nat → Int64) (n : Nat) : gr_to (g (8 + n)) = nI (eT g n) ∧ eT g n < 8 := by
  obtain ⟨l, h, e⟩ := gr_toN (g (8 + n))
  unfold eT
  rw [e, nI_clamp (by omega)]
  exact ⟨rfl, h⟩
theorem eY_e (g : Nat → Int64) (n : Nat) : gr_typ (g (8 + n)) = nI (eY g n) ∧ eY g n < 4 := by
  obtain ⟨l, h, e⟩ := gr_typN (g (8 + n))
  unfold eY
  rw [e, nI_clamp (by omega)]
  exact ⟨rfl, h⟩
end
section
/-! the states by their names -/
theorem el_X {P : SX → Prop} (h : ∀ (f_level f_indexed f_parts f_highs f_tokens f_conditionLength f_conditionNames f_depth f_found f_testAt f_count f_different f_cheapest f_positions f_starts f_accepts f_empty f_written f_target f_steps : Int32) (a_state a_old : Nat → Int64) (a_kept a_leaving a_coming a_ofType a_withLabels a_kind a_types a_direction a_low a_high a_variable a_labels a_token a_condition a_truth a_number a_variableOf a_atPart a_trail a_here a_bound a_named a_used a_weight a_left a_ends : Nat → Int32) (a_seen a_sum : Nat → Int64) (a_some a_letter a_follow a_firstOf a_lastOf a_nullable a_spelled a_visited a_front a_next : Nat → Int32), P (f_level, f_indexed, f_parts, f_highs, f_tokens, f_conditionLength, f_conditionNames, f_depth, f_found, f_testAt, f_count, f_different, f_cheapest, f_positions, f_starts, f_accepts, f_empty, f_written, f_target, f_steps, a_state, a_old, a_kept, a_leaving, a_coming, a_ofType, a_withLabels, a_kind, a_types, a_direction, a_low, a_high, a_variable, a_labels, a_token, a_condition, a_truth, a_number, a_variableOf, a_atPart, a_trail, a_here, a_bound, a_named, a_used, a_weight, a_left, a_ends, a_seen, a_sum, a_some, a_letter, a_follow, a_firstOf, a_lastOf, a_nullable, a_spelled, a_visited, a_front, a_next)) (u : SX) : P u := h u.1 u.2.1 u.2.2.1 u.2.2.2.1 u.2.2.2.2.1 u.2.2.2.2.2.1 u.2.2.2.2.2.2.1 u.2.2.2.2.2.2.2.1 u.2.2.2.2.2.2.2.2.1 u.2.2.2.2.2.2.2.2.2.1 u.2.2.2.2.2.2.2.2.2.2.1 u.2.2.2.2.2.2.2.2.2.2.2.1 u.2.2.2.2.2.2.2.2.2.2.2.2.1 u.2.2.2.2.2.2.2.2.2.2.2.2.2.1 u.2.2.2.2.2.2.2.2.2.2.2.2.2.2.1 u.2.2.2.2.2.2.2.2.2.2.2.2.2.2.2.1 u.2.2.2.2.2.2.2.2.2.2.2.2.2.2.2.2.1 u.2.2.2.2.2.2.2.2.2.2.2.2.2.2.2.2.2.1 u.2.2.2.2.2.2.2.2.2.2.2.2.2.2.2.2.2.2.1 u.2.2.2.2.2.2.2.2.2.2.2.2.2.2.2.2.2.2.2.1 u.2.2.2.2.2.2.2.2.2.2.2.2.2.2.2.2.2.2.2.2.1 u.2.2.2.2.2.2.2.2.2.2.2.2.2.2.2.2.2.2.2.2.2.1 u.2.2.2.2.2.2.2.2.2.2.2.2.2.2.2.2.2.2.2.2.2.2.1 u.2.2.2.2.2.2.2.2.2.2.2.2.2.2.2.2.2.2.2.2.2.2.2.1 u.2.2.2.2.2.2.2.2.2.2.2.2.2.2.2.2.2.2.2.2.2.2.2.2.1 u.2.2.2.2.2.2.2.2.2.2.2.2.2.2.2.2.2.2.2.2.2.2.2.2.2.1 u.2.2.2.2.2.2.2.2.2.2.2.2.2.2.2.2.2.2.2.2.2.2.2.2.2.2.1 u.2.2.2.2.2.2.2.2.2.2.2.2.2.2.2.2.2.2.2.2.2.2.2.2.2.2.2.1 u.2.2.2.2.2.2.2.2.2.2.2.2.2.2.2.2.2.2.2.2.2.2.2.2.2.2.2.2.1 u.2.2.2.2.2.2.2.2.2.2.2.2.2.2.2.2.2.2.2.2.2.2.2.2.2.2.2.2.2.1 u.2.2.2.2.2.2.2.2.2.2.2.2.2.2.2.2.2.2.2.2.2.2.2.2.2.2.2.2.2.2.1 u.2.2.2.2.2.2.2.2.2.2.2.2.2.2.2.2.2.2.2.2.2.2.2.2.2.2.2.2.2.2.2.1 u.2.2.2.2.2.2.2.2.2.2.2.2.2.2.2.2.2.2.2.2.2.2.2.2.2.2.2.2.2.2.2.2.1 u.2.2.2.2.2.2.2.2.2.2.2.2.2.2.2.2.2.2.2.2.2.2.2.2.2.2.2.2.2.2.2.2.2.1 u.2.2.2.2.2.2.2.2.2.2.2.2.2.2.2.2.2.2.2.2.2.2.2.2.2.2.2.2.2.2.2.2.2.2.1 u.2.2.2.2.2.2.2.2.2.2.2.2.2.2.2.2.2.2.2.2.2.2.2.2.2.2.2.2.2.2.2.2.2.2.2.1 u.2.2.2.2.2.2.2.2.2.2.2.2.2.2.2.2.2.2.2.2.2.2.2.2.2.2.2.2.2.2.2.2.2.2.2.2.1 u.2.2.2.2.2.2.2.2.2.2.2.2.2.2.2.2.2.2.2.2.2.2.2.2.2.2.2.2.2.2.2.2.2.2.2.2.2.1 u.2.2.2.2.2.2.2.2.2.2.2.2.2.2.2.2.2.2.2.2.2.2.2.2.2.2.2.2.2.2.2.2.2.2.2.2.2.2.1 u.2.2.2.2.2.2.2.2.2.2.2.2.2.2.2.2.2.2.2.2.2.2.2.2.2.2.2.2.2.2.2.2.2.2.2.2.2.2.2.1 u.2.2.2.2.2.2.2.2.2.2.2.2.2.2.2.2.2.2.2.2.2.2.2.2.2.2.2.2.2.2.2.2.2.2.2.2.2.2.2.2.1 u.2.2.2.2.2.2.2.2.2.2.2.2.2.2.2.2.2.2.2.2.2.2.2.2.2.2.2.2.2.2.2.2.2.2.2.2.2.2.2.2.2.1 u.2.2.2.2.2.2.2.2.2.2.2.2.2.2.2.2.2.2.2.2.2.2.2.2.2.2.2.2.2.2.2.2.2.2.2.2.2.2.2.2.2.2.1 u.2.2.2.2.2.2.2.2.2.2.2.2.2.2.2.2.2.2.2.2.2.2.2.2.2.2.2.2.2.2.2.2.2.2.2.2.2.2.2.2.2.2.2.1 u.2.2.2.2.2.2.2.2.2.2.2.2.2.2.2.2.2.2.2.2.2.2.2.2.2.2.2.2.2.2.2.2.2.2.2.2.2.2.2.2.2.2.2.2.1 u.2.2.2.2.2.2.2.2.2.2.2.2.2.2.2.2.2.2.2.2.2.2.2.2.2.2.2.2.2.2.2.2.2.2.2.2.2.2.2.2.2.2.2.2.2.1 u.2.2.2.2.2.2.2.2.2.2.2.2.2.2.2.2.2.2.2.2.2.2.2.2.2.2.2.2.2.2.2.2.2.2.2.2.2.2.2.2.2.2.2.2.2.2.1 u.2.2.2.2.2.2.2.2.2.2.2.2.2.2.2.2.2.2.2.2.2.2.2.2.2.2.2.2.2.2.2.2.2.2.2.2.2.2.2.2.2.2.2.2.2.2.2.1 u.2.2.2.2.2.2.2.2.2.2.2.2.2.2.2.2.2.2.2.2.2.2.2.2.2.2.2.2.2.2.2.2.2.2.2.2.2.2.2.2.2.2.2.2.2.2.2.2.1 u.2.2.2.2.2.2.2.2.2.2.2.2.2.2.2.2.2.2.2.2.2.2.2.2.2.2.2.2.2.2.2.2.2.2.2.2.2.2.2.2.2.2.2.2.2.2.2.2.2.1 u.2.2.2.2.2.2.2.2.2.2.2.2.2.2.2.2.2.2.2.2.2.2.2.2.2.2.2.2.2.2.2.2.2.2.2.2.2.2.2.2.2.2.2.2.2.2.2.2.2.2.1 u.2.2.2.2.2.2.2.2.2.2.2.2.2.2.2.2.2.2.2.2.2.2.2.2.2.2.2.2.2.2.2.2.2.2.2.2.2.2.2.2.2.2.2.2.2.2.2.2.2.2.2.1 u.2.2.2.2.2.2.2.2.2.2.2.2.2.2.2.2.2.2.2.2.2.2.2.2.2.2.2.2.2.2.2.2.2.2.2.2.2.2.2.2.2.2.2.2.2.2.2.2.2.2.2.2.1 u.2.2.2.2.2.2.2.2.2.2.2.2.2.2.2.2.2.2.2.2.2.2.2.2.2.2.2.2.2.2.2.2.2.2.2.2.2.2.2.2.2.2.2.2.2.2.2.2.2.2.2.2.2.1 u.2.2.2.2.2.2.2.2.2.2.2.2.2.2.2.2.2.2.2.2.2.2.2.2.2.2.2.2.2.2.2.2.2.2.2.2.2.2.2.2.2.2.2.2.2.2.2.2.2.2.2.2.2.2.1 u.2.2.2.2.2.2.2.2.2.2.2.2.2.2.2.2.2.2.2.2.2.2.2.2.2.2.2.2.2.2.2.2.2.2.2.2.2.2.2.2.2.2.2.2.2.2.2.2.2.2.2.2.2.2.2.1 u.2.2.2.2.2.2.2.2.2.2.2.2.2.2.2.2.2.2.2.2.2.2.2.2.2.2.2.2.2.2.2.2.2.2.2.2.2.2.2.2.2.2.2.2.2.2.2.2.2.2.2.2.2.2.2.2.1 u.2.2.2.2.2.2.2.2.2.2.2.2.2.2.2.2.2.2.2.2.2.2.2.2.2.2.2.2.2.2.2.2.2.2.2.2.2.2.2.2.2.2.2.2.2.2.2.2.2.2.2.2.2.2.2.2.2.1 u.2.2.2.2.2.2.2.2.2.2.2.2.2.2.2.2.2.2.2.2.2.2.2.2.2.2.2.2.2.2.2.2.2.2.2.2.2.2.2.2.2.2.2.2.2.2.2.2.2.2.2.2.2.2.2.2.2.2.1 u.2.2.2.2.2.2.2.2.2.2.2.2.2.2.2.2.2.2.2.2.2.2.2.2.2.2.2.2.2.2.2.2.2.2.2.2.2.2.2.2.2.2.2.2.2.2.2.2.2.2.2.2.2.2.2.2.2.2.2
theorem el_Y {P : SY → Prop} (h : ∀ (yf_level yf_parts yf_pending yf_conditions yf_spelled yf_depth yf_used yf_weight yf_found yf_lightest yf_some : Int32) (yf_sum : Int64) (ya_labels : Nat → Int32) (ya_properties : Nat → Int64) (ya_from ya_to ya_types ya_weights ya_variable ya_wanted ya_among ya_direction ya_low ya_high ya_tokens ya_condition ya_expression ya_stack ya_part ya_steps ya_place ya_choice ya_bound ya_took ya_nodeOf ya_chosen ya_far : Nat → Int32), P (yf_level, yf_parts, yf_pending, yf_conditions, yf_spelled, yf_depth, yf_used, yf_weight, yf_found, yf_lightest, yf_some, yf_sum, ya_labels, ya_properties, ya_from, ya_to, ya_types, ya_weights, ya_variable, ya_wanted, ya_among, ya_direction, ya_low, ya_high, ya_tokens, ya_condition, ya_expression, ya_stack, ya_part, ya_steps, ya_place, ya_choice, ya_bound, ya_took, ya_nodeOf, ya_chosen, ya_far)) (u : SY) : P u := h u.1 u.2.1 u.2.2.1 u.2.2.2.1 u.2.2.2.2.1 u.2.2.2.2.2.1 u.2.2.2.2.2.2.1 u.2.2.2.2.2.2.2.1 u.2.2.2.2.2.2.2.2.1 u.2.2.2.2.2.2.2.2.2.1 u.2.2.2.2.2.2.2.2.2.2.1 u.2.2.2.2.2.2.2.2.2.2.2.1 u.2.2.2.2.2.2.2.2.2.2.2.2.1 u.2.2.2.2.2.2.2.2.2.2.2.2.2.1 u.2.2.2.2.2.2.2.2.2.2.2.2.2.2.1 u.2.2.2.2.2.2.2.2.2.2.2.2.2.2.2.1 u.2.2.2.2.2.2.2.2.2.2.2.2.2.2.2.2.1 u.2.2.2.2.2.2.2.2.2.2.2.2.2.2.2.2.2.1 u.2.2.2.2.2.2.2.2.2.2.2.2.2.2.2.2.2.2.1 u.2.2.2.2.2.2.2.2.2.2.2.2.2.2.2.2.2.2.2.1 u.2.2.2.2.2.2.2.2.2.2.2.2.2.2.2.2.2.2.2.2.1 u.2.2.2.2.2.2.2.2.2.2.2.2.2.2.2.2.2.2.2.2.2.1 u.2.2.2.2.2.2.2.2.2.2.2.2.2.2.2.2.2.2.2.2.2.2.1 u.2.2.2.2.2.2.2.2.2.2.2.2.2.2.2.2.2.2.2.2.2.2.2.1 u.2.2.2.2.2.2.2.2.2.2.2.2.2.2.2.2.2.2.2.2.2.2.2.2.1 u.2.2.2.2.2.2.2.2.2.2.2.2.2.2.2.2.2.2.2.2.2.2.2.2.2.1 u.2.2.2.2.2.2.2.2.2.2.2.2.2.2.2.2.2.2.2.2.2.2.2.2.2.2.1 u.2.2.2.2.2.2.2.2.2.2.2.2.2.2.2.2.2.2.2.2.2.2.2.2.2.2.2.1 u.2.2.2.2.2.2.2.2.2.2.2.2.2.2.2.2.2.2.2.2.2.2.2.2.2.2.2.2.1 u.2.2.2.2.2.2.2.2.2.2.2.2.2.2.2.2.2.2.2.2.2.2.2.2.2.2.2.2.2.1 u.2.2.2.2.2.2.2.2.2.2.2.2.2.2.2.2.2.2.2.2.2.2.2.2.2.2.2.2.2.2.1 u.2.2.2.2.2.2.2.2.2.2.2.2.2.2.2.2.2.2.2.2.2.2.2.2.2.2.2.2.2.2.2.1 u.2.2.2.2.2.2.2.2.2.2.2.2.2.2.2.2.2.2.2.2.2.2.2.2.2.2.2.2.2.2.2.2.1 u.2.2.2.2.2.2.2.2.2.2.2.2.2.2.2.2.2.2.2.2.2.2.2.2.2.2.2.2.2.2.2.2.2.1 u.2.2.2.2.2.2.2.2.2.2.2.2.2.2.2.2.2.2.2.2.2.2.2.2.2.2.2.2.2.2.2.2.2.2.1 u.2.2.2.2.2.2.2.2.2.2.2.2.2.2.2.2.2.2.2.2.2.2.2.2.2.2.2.2.2.2.2.2.2.2.2.1 u.2.2.2.2.2.2.2.2.2.2.2.2.2.2.2.2.2.2.2.2.2.2.2.2.2.2.2.2.2.2.2.2.2.2.2.2
/-! the small methods -/
theorem xo {post : Int32 → Prop} {v a b : Int32} (h0 : a ≤ v → v ≤ b → post 0) (h1 : ¬ (a ≤ v ∧ v ≤ b) → post 1) : wpX_outside post v a b := by
  unfold wpX_outside wX_outside_10
  refine ⟨fun q => ⟨fun z => ⟨rfl, h0 q z⟩, fun z => ⟨rfl, h1 fun y => z y.2⟩⟩, fun q => ⟨fun z => ⟨rfl, h1 fun y => q y.1⟩, fun z => ⟨rfl, h1 fun y => q y.1⟩⟩⟩
theorem yw {post : Int32 → Prop} {v a b : Int32} (h1 : a ≤ v → v ≤ b → post 1) (h0 : ¬ (a ≤ v ∧ v ≤ b) → post 0) : wpY_within post v a b := by
  unfold wpY_within
  refine ⟨fun q => h0 fun y => absurd q (Int32.not_lt.mpr y.1), fun q => ⟨fun z => h0 fun y => absurd z (Int32.not_lt.mpr y.2), fun z => h1 (Int32.not_lt.mp q) (Int32.not_lt.mp z)⟩⟩
/-- an int between two numbers -/
theorem rg_of {v : Int32} {b : Nat} (hb : b < 2 ^ 31) (h1 : (0 : Int32) ≤ v) (h2 : v ≤ nI b) : ∃ n, n ≤ b ∧ v = nI n := nI_of2 (nI_toInt hb) (Int32.not_lt.mpr h1) h2
theorem rg_iff {n b : Nat} (hn : n ≤ b) (hb : b < 2 ^ 31) : (0 : Int32) ≤ nI n ∧ nI n ≤ nI b := ⟨nI_pos' (by omega), nI_le hn hb⟩
/-! the graph: a valid one; what the reference holds of it at copy l -/
def VG (g : Nat → Int64) : Prop := (∀ n, n < 8 → ¬ g n = 0 → bl (g n) 0 = true) ∧ (∀ e, e < 12 → ¬ g (8 + e) = 0 → (¬ g (eF g e) = 0 ∧ ¬ g (eT g e) = 0) ∧ eY g e < 3 ∧ eW g e ≤ 100 ∧ gr_wt (g (8 + e)) = lN (eW g e))
def YN (g : Nat → Int64) (l : Nat) (lb : Nat → Int32) (pr : Nat → Int64) : Prop := ∀ n, n < 8 → (g n = 0 ∧ lb (8 * l + n) = -1) ∨ (¬ g n = 0 ∧ lb (8 * l + n) = nI (nL g n) ∧ pr (8 * l + n) = if nH g n = true then gr_pr (g n) else 9000000000000000000)
def YE (g : Nat → Int64) (l : Nat) (fr to ty wt : Nat → Int32) : Prop := ∀ e, e < 12 → (g (8 + e) = 0 ∧ to (12 * l + e) = -1) ∨ (¬ g (8 + e) = 0 ∧ to (12 * l + e) = nI (eT g e) ∧ fr (12 * l + e) = nI (eF g e) ∧ ty (12 * l + e) = nI (eY g e) ∧ wt (12 * l + e) = nI (eW g e))
/-- the snapshots: T l, l < L, is what transaction l began with -/
def SN (L : Nat) (T : Nat → Nat → Int64) (st o : Nat → Int64) (k : Nat → Int32) : Prop := ∀ l, l < L → ∃ K, K < 2 ^ 20 ∧ k l = nI K ∧ ∀ s, s < 20 → T l s = if K.testBit s = true then o (20 * l + s) else if l + 1 = L then st s else T (l + 1) s
def isN (g : Nat → Int64) (v : Int32) : Prop := ∃ n, n < 8 ∧ v = nI n ∧ ¬ g n = 0
def isE (g : Nat → Int64) (v : Int32) : Prop := ∃ n, n < 12 ∧ v = nI n ∧ ¬ g (8 + n) = 0
section
variable {f_level f_indexed f_parts f_highs f_tokens f_conditionLength f_conditionNames f_depth f_found f_testAt f_count f_different f_cheapest f_positions f_starts f_accepts f_empty f_written f_target f_steps : Int32} {a_state a_old : Nat → Int64} {a_kept a_leaving a_coming a_ofType a_withLabels a_kind a_types a_direction a_low a_high a_variable a_labels a_token a_condition a_truth a_number a_variableOf a_atPart a_trail a_here a_bound a_named a_used a_weight a_left a_ends : Nat → Int32} {a_seen a_sum : Nat → Int64} {a_some a_letter a_follow a_firstOf a_lastOf a_nullable a_spelled a_visited a_front a_next : Nat → Int32}
theorem x_isNode {post : Int32 → Prop} {v : Int32} (h1 : isN a_state v → post 1) (h0 : ¬ isN a_state v → post 0) : wpX_isNode post (f_level, f_indexed, f_parts, f_highs, f_tokens, f_conditionLength, f_conditionNames, f_depth, f_found, f_testAt, f_count, f_different, f_cheapest, f_positions, f_starts, f_accepts, f_empty, f_written, f_target, f_steps, a_state, a_old, a_kept, a_leaving, a_coming, a_ofType, a_withLabels, a_kind, a_types, a_direction, a_low, a_high, a_variable, a_labels, a_token, a_condition, a_truth, a_number, a_variableOf, a_atPart, a_trail, a_here, a_bound, a_named, a_used, a_weight, a_left, a_ends, a_seen, a_sum, a_some, a_letter, a_follow, a_firstOf, a_lastOf, a_nullable, a_spelled, a_visited, a_front, a_next) v := by
  unfold wpX_isNode
  refine xo (fun a b => br_t rfl ?_) (fun a => br_f (by decide) (h0 ?_))
  · obtain ⟨n, hn, rfl⟩ := rg_of (b := 7) (by omega) a b
    refine ⟨vp_in_nI (by omega) (by omega), ?_⟩
    rw [nI_clamp (by omega)]
    exact ⟨fun z => h0 fun ⟨m, hm, e, y⟩ => y (by rw [(nI_eq (by omega) (by omega)).mp e] at z; exact z), fun z => h1 ⟨n, by omega, rfl, z⟩⟩
  · intro ⟨n, hn, e, _⟩
    subst e
    exact a (rg_iff (b := 7) (by omega) (by omega))
theorem x_isEdge {post : Int32 → Prop} {v : Int32} (h1 : isE a_state v → post 1) (h0 : ¬ isE a_state v → post 0) : wpX_isEdge post (f_level, f_indexed, f_parts, f_highs, f_tokens, f_conditionLength, f_conditionNames, f_depth, f_found, f_testAt, f_count, f_different, f_cheapest, f_positions, f_starts, f_accepts, f_empty, f_written, f_target, f_steps, a_state, a_old, a_kept, a_leaving, a_coming, a_ofType, a_withLabels, a_kind, a_types, a_direction, a_low, a_high, a_variable, a_labels, a_token, a_condition, a_truth, a_number, a_variableOf, a_atPart, a_trail, a_here, a_bound, a_named, a_used, a_weight, a_left, a_ends, a_seen, a_sum, a_some, a_letter, a_follow, a_firstOf, a_lastOf, a_nullable, a_spelled, a_visited, a_front, a_next) v := by
  unfold wpX_isEdge
  refine xo (fun a b => br_t rfl ?_) (fun a => br_f (by decide) (h0 ?_))
  · obtain ⟨n, hn, rfl⟩ := rg_of (b := 11) (by omega) a b
    have e8 : (8 : Int32) + nI n = nI (8 + n) := nI_add 8 n
    rw [e8]
    refine ⟨vp_in_nI (by omega) (by omega), ?_⟩
    rw [nI_clamp (by omega)]
    exact ⟨fun z => h0 fun ⟨m, hm, e, y⟩ => y (by rw [(nI_eq (by omega) (by omega)).mp e] at z; exact z), fun z => h1 ⟨n, by omega, rfl, z⟩⟩
  · intro ⟨n, hn, e, _⟩
    subst e
    exact a (rg_iff (b := 11) (by omega) (by omega))
theorem x_labelsOf {post : Int32 → Prop} {n : Nat} (hn : n < 8) (h : post (nI (nL a_state n))) : wpX_labelsOf post (f_level, f_indexed, f_parts, f_highs, f_tokens, f_conditionLength, f_conditionNames, f_depth, f_found, f_testAt, f_count, f_different, f_cheapest, f_positions, f_starts, f_accepts, f_empty, f_written, f_target, f_steps, a_state, a_old, a_kept, a_leaving, a_coming, a_ofType, a_withLabels, a_kind, a_types, a_direction, a_low, a_high, a_variable, a_labels, a_token, a_condition, a_truth, a_number, a_variableOf, a_atPart, a_trail, a_here, a_bound, a_named, a_used, a_weight, a_left, a_ends, a_seen, a_sum, a_some, a_letter, a_follow, a_firstOf, a_lastOf, a_nullable, a_spelled, a_visited, a_front, a_next) (nI n) := by
  unfold wpX_labelsOf
  refine ⟨vp_in_nI (by omega) (by omega), ?_⟩
  rw [nI_clamp (by omega)]
  have e := (nL_e a_state n).1
  unfold gr_lab at e
  rw [e]
  exact h
theorem x_fromOf {post : Int32 → Prop} {n : Nat} (hn : n < 12) (h : post (nI (eF a_state n))) : wpX_fromOf post (f_level, f_indexed, f_parts, f_highs, f_tokens, f_conditionLength, f_conditionNames, f_depth, f_found, f_testAt, f_count, f_different, f_cheapest, f_positions, f_starts, f_accepts, f_empty, f_written, f_target, f_steps, a_state, a_old, a_kept, a_leaving, a_coming, a_ofType, a_withLabels, a_kind, a_types, a_direction, a_low, a_high, a_variable, a_labels, a_token, a_condition, a_truth, a_number, a_variableOf, a_atPart, a_trail, a_here, a_bound, a_named, a_used, a_weight, a_left, a_ends, a_seen, a_sum, a_some, a_letter, a_follow, a_firstOf, a_lastOf, a_nullable, a_spelled, a_visited, a_front, a_next) (nI n) := by
  unfold wpX_fromOf
  have e8 : (8 : Int32) + nI n = nI (8 + n) := nI_add 8 n
  rw [e8]
  refine ⟨vp_in_nI (by omega) (by omega), ?_⟩
  rw [nI_clamp (by omega)]
  have e := (eF_e a_state n).1
  unfold gr_from at e
  rw [e]
  exact h
theorem x_toOf {post : Int32 → Prop} {n : Nat} (hn : n < 12) (h : post (nI (eT a_state n))) : wpX_toOf post (f_level, f_indexed, f_parts, f_highs, f_tokens, f_conditionLength, f_conditionNames, f_depth, f_found, f_testAt, f_count, f_different, f_cheapest, f_positions, f_starts, f_accepts, f_empty, f_written, f_target, f_steps, a_state, a_old, a_kept, a_leaving, a_coming, a_ofType, a_withLabels, a_kind, a_types, a_direction, a_low, a_high, a_variable, a_labels, a_token, a_condition, a_truth, a_number, a_variableOf, a_atPart, a_trail, a_here, a_bound, a_named, a_used, a_weight, a_left, a_ends, a_seen, a_sum, a_some, a_letter, a_follow, a_firstOf, a_lastOf, a_nullable, a_spelled, a_visited, a_front, a_next) (nI n) := by
  unfold wpX_toOf
  have e8 : (8 : Int32) + nI n = nI (8 + n) := nI_add 8 n
  rw [e8]
  refine ⟨vp_in_nI (by omega) (by omega), ?_⟩
  rw [nI_clamp (by omega)]
  have e := (eT_e a_state n).1
  unfold gr_to at e
  rw [e]
  exact h
theorem x_write {post : SX → Prop} {L s : Nat} {v : Int64} {T : Nat → Nat → Int64} (hs : s < 20) (hL : L ≤ 4) (hT : SN L T a_state a_old a_kept) (h : ∀ o k, SN L T (vp_updL a_state s v) o k → post (nI L, 0, f_parts, f_highs, f_tokens, f_conditionLength, f_conditionNames, f_depth, 0, f_testAt, f_count, f_different, f_cheapest, f_positions, f_starts, f_accepts, f_empty, f_written, f_target, f_steps, vp_updL a_state s v, o, k, a_leaving, a_coming, a_ofType, a_withLabels, a_kind, a_types, a_direction, a_low, a_high, a_variable, a_labels, a_token, a_condition, a_truth, a_number, a_variableOf, a_atPart, a_trail, a_here, a_bound, a_named, a_used, a_weight, a_left, a_ends, a_seen, a_sum, a_some, a_letter, a_follow, a_firstOf, a_lastOf, a_nullable, a_spelled, a_visited, a_front, a_next)) : wpX_write post (nI L, f_indexed, f_parts, f_highs, f_tokens, f_conditionLength, f_conditionNames, f_depth, f_found, f_testAt, f_count, f_different, f_cheapest, f_positions, f_starts, f_accepts, f_empty, f_written, f_target, f_steps, a_state, a_old, a_kept, a_leaving, a_coming, a_ofType, a_withLabels, a_kind, a_types, a_direction, a_low, a_high, a_variable, a_labels, a_token, a_condition, a_truth, a_number, a_variableOf, a_atPart, a_trail, a_here, a_bound, a_named, a_used, a_weight, a_left, a_ends, a_seen, a_sum, a_some, a_letter, a_follow, a_firstOf, a_lastOf, a_nullable, a_spelled, a_visited, a_front, a_next) (nI s) v := by
  have key : ∀ o k, SN L T (vp_updL a_state s v) o k → wX_write_65 post (nI s) v (nI L) f_indexed f_parts f_highs f_tokens f_conditionLength f_conditionNames f_depth f_found f_testAt f_count f_different f_cheapest f_positions f_starts f_accepts f_empty f_written f_target f_steps a_state o k a_leaving a_coming a_ofType a_withLabels a_kind a_types a_direction a_low a_high a_variable a_labels a_token a_condition a_truth a_number a_variableOf a_atPart a_trail a_here a_bound a_named a_used a_weight a_left a_ends a_seen a_sum a_some a_letter a_follow a_firstOf a_lastOf a_nullable a_spelled a_visited a_front a_next := by
    intro o k hS
    unfold wX_write_65
    refine ⟨vp_in_nI hs (by omega), nm_e ?_⟩
    rw [nI_clamp (by omega)]
    exact h o k hS
  unfold wpX_write
  cases L with
  | zero => exact br_t (by rw [nI_0]; exact Int32.le_refl _) (key _ _ (fun l hl => absurd hl (Nat.not_lt_zero l)))
  | succ L =>
    have p1 : nI (L + 1) - 1 = nI L := nI_pred L
    have p2 : (20 * nI (L + 1) - 20) + nI s = nI (20 * L + s) := by
      have a : (20 : Int32) * nI (L + 1) = nI (20 * L + 20) := pk_mul 20 (L + 1)
      have b : nI (20 * L + 20) - 20 = nI (20 * L) := by
        have := pk_sub (a := 20 * L + 20) (b := 20) (by omega)
        exact this
      rw [a, b, nI_add]
    obtain ⟨K, hK, ek, hk⟩ := hT L (Nat.lt_succ_self L)
    refine br_f (nI_nle (by omega) (by omega)) ?_
    rw [p1, p2]
    have c1 : (nI L).toNatClampNeg = L := nI_clamp (by omega)
    have c2 : (nI (20 * L + s)).toNatClampNeg = 20 * L + s := nI_clamp (by omega)
    have c3 : (nI s).toNatClampNeg = s := nI_clamp (by omega)
    rw [c1, c2, c3, ek]
    refine ⟨vp_in_nI (by omega) (by omega), ?_⟩
    have hb := bb_bit (S := K) (j := s) (by omega) (by omega)
    refine ⟨fun z => ⟨vp_in_nI (by omega) (by omega), vp_in_nI (by omega) (by omega), nm_e ⟨vp_in_nI hs (by omega), vp_in_nI (by omega) (by omega), nm_e (key _ _ ?_)⟩⟩, fun z => key _ _ ?_⟩
    · have hz := hb.mp z
      rw [bb_1shl (by omega), bb_or]
      intro l hl
      by_cases e : l = L
      · subst e
        refine ⟨K ||| 2 ^ s, bb_or2_lt hK hs, pk_us, fun r hr => ?_⟩
        rw [hk r hr, bb_or2]
        by_cases q : s = r
        · subst q
          rw [hz, pk_uLs]
          simp
        · rw [decide_eq_false q, Bool.or_false, pk_uLn (show 20 * l + r ≠ 20 * l + s by omega)]
          simp only [if_pos, pk_uLn (show r ≠ s from fun y => q y.symm)]
      · obtain ⟨K', hK', ek', hk'⟩ := hT l hl
        refine ⟨K', hK', by rw [pk_un e]; exact ek', fun r hr => ?_⟩
        rw [hk' r hr, pk_uLn (show 20 * l + r ≠ 20 * L + s by omega), if_neg (show ¬ l + 1 = L + 1 by omega), if_neg (show ¬ l + 1 = L + 1 by omega)]
    · have hz : K.testBit s = true := ts_nf fun y => z (hb.mpr y)
      intro l hl
      obtain ⟨K', hK', ek', hk'⟩ := hT l hl
      refine ⟨K', hK', ek', fun r hr => ?_⟩
      rw [hk' r hr]
      by_cases e : l = L
      · subst e
        have : K' = K := (nI_eq (by omega) (by omega)).mp (ek'.symm.trans ek)
        subst this
        by_cases q : r = s
        · subst q; rw [hz]; simp
        · rw [pk_uLn q]
      · rw [if_neg (show ¬ l + 1 = L + 1 by omega), if_neg (show ¬ l + 1 = L + 1 by omega)]
end
section
variable {yf_level yf_parts yf_pending yf_conditions yf_spelled yf_depth yf_used yf_weight yf_found yf_lightest yf_some : Int32} {yf_sum : Int64} {ya_labels : Nat → Int32} {ya_properties : Nat → Int64} {ya_from ya_to ya_types ya_weights ya_variable ya_wanted ya_among ya_direction ya_low ya_high ya_tokens ya_condition ya_expression ya_stack ya_part ya_steps ya_place ya_choice ya_bound ya_took ya_nodeOf ya_chosen ya_far : Nat → Int32}
theorem y_isNode {post : Int32 → Prop} {v : Int32} {g : Nat → Int64} (G : YN g 0 ya_labels ya_properties) (h1 : isN g v → post 1) (h0 : ¬ isN g v → post 0) : wpY_isNode post (yf_level, yf_parts, yf_pending, yf_conditions, yf_spelled, yf_depth, yf_used, yf_weight, yf_found, yf_lightest, yf_some, yf_sum, ya_labels, ya_properties, ya_from, ya_to, ya_types, ya_weights, ya_variable, ya_wanted, ya_among, ya_direction, ya_low, ya_high, ya_tokens, ya_condition, ya_expression, ya_stack, ya_part, ya_steps, ya_place, ya_choice, ya_bound, ya_took, ya_nodeOf, ya_chosen, ya_far) v := by
  unfold wpY_isNode
  refine ⟨fun z => h0 fun ⟨n, hn, e, _⟩ => ?_, fun z => ⟨fun y => h0 fun ⟨n, hn, e, _⟩ => ?_, fun y => ?_⟩⟩
  · subst e; exact nI_pos (by omega) z
  · subst e; exact nI_ge (b := 8) hn (by omega) y
  · obtain ⟨n, hn, rfl⟩ := nI_of z
    have n8 : n < 8 := by
      rcases Nat.lt_or_ge n 8 with q | q
      · exact q
      · exact absurd (nI_le q hn) y
    refine ⟨vp_in_nI (by omega) (by omega), ?_⟩
    rw [nI_clamp hn]
    rcases G n n8 with ⟨a, b⟩ | ⟨a, b, _⟩
    · rw [Nat.mul_zero, Nat.zero_add] at b
      rw [b]
      exact br_t (by decide) (h0 fun ⟨m, hm, e, q⟩ => q (by rw [(nI_eq (by omega) (by omega)).mp e] at a; exact a))
    · rw [Nat.mul_zero, Nat.zero_add] at b
      have hl := (nL_e g n).2
      rw [b]
      exact br_f (nI_pos (by omega)) (h1 ⟨n, n8, rfl, a⟩)
theorem y_isEdge {post : Int32 → Prop} {v : Int32} {g : Nat → Int64} (G : YE g 0 ya_from ya_to ya_types ya_weights) (h1 : isE g v → post 1) (h0 : ¬ isE g v → post 0) : wpY_isEdge post (yf_level, yf_parts, yf_pending, yf_conditions, yf_spelled, yf_depth, yf_used, yf_weight, yf_found, yf_lightest, yf_some, yf_sum, ya_labels, ya_properties, ya_from, ya_to, ya_types, ya_weights, ya_variable, ya_wanted, ya_among, ya_direction, ya_low, ya_high, ya_tokens, ya_condition, ya_expression, ya_stack, ya_part, ya_steps, ya_place, ya_choice, ya_bound, ya_took, ya_nodeOf, ya_chosen, ya_far) v := by
  unfold wpY_isEdge
  refine ⟨fun z => h0 fun ⟨n, hn, e, _⟩ => ?_, fun z => ⟨fun y => h0 fun ⟨n, hn, e, _⟩ => ?_, fun y => ?_⟩⟩
  · subst e; exact nI_pos (by omega) z
  · subst e; exact nI_ge (b := 12) hn (by omega) y
  · obtain ⟨n, hn, rfl⟩ := nI_of z
    have n8 : n < 12 := by
      rcases Nat.lt_or_ge n 12 with q | q
      · exact q
      · exact absurd (nI_le q hn) y
    refine ⟨vp_in_nI (by omega) (by omega), ?_⟩
    rw [nI_clamp hn]
    rcases G n n8 with ⟨a, b⟩ | ⟨a, b, _⟩
    · rw [Nat.mul_zero, Nat.zero_add] at b
      rw [b]
      exact br_t (by decide) (h0 fun ⟨m, hm, e, q⟩ => q (by rw [(nI_eq (by omega) (by omega)).mp e] at a; exact a))
    · rw [Nat.mul_zero, Nat.zero_add] at b
      have hl := (eT_e g n).2
      rw [b]
      exact br_f (nI_pos (by omega)) (h1 ⟨n, n8, rfl, a⟩)
end
end
section
/-! a word changed -/
def yn1 (g : Nat → Int64) (l : Nat) (lb : Nat → Int32) (pr : Nat → Int64) (n : Nat) : Prop := (g n = 0 ∧ lb (8 * l + n) = -1) ∨ (¬ g n = 0 ∧ lb (8 * l + n) = nI (nL g n) ∧ pr (8 * l + n) = if nH g n = true then gr_pr (g n) else 9000000000000000000)
def ye1 (g : Nat → Int64) (l : Nat) (fr to ty wt : Nat → Int32) (e : Nat) : Prop := (g (8 + e) = 0 ∧ to (12 * l + e) = -1) ∨ (¬ g (8 + e) = 0 ∧ to (12 * l + e) = nI (eT g e) ∧ fr (12 * l + e) = nI (eF g e) ∧ ty (12 * l + e) = nI (eY g e) ∧ wt (12 * l + e) = nI (eW g e))
theorem nL_c {g g' : Nat → Int64} {n : Nat} (h : g' n = g n) : nL g' n = nL g n := by unfold nL; rw [h]
theorem nH_c {g g' : Nat → Int64} {n : Nat} (h : g' n = g n) : nH g' n = nH g n := by unfold nH; rw [h]
theorem eF_c {g g' : Nat → Int64} {n : Nat} (h : g' (8 + n) = g (8 + n)) : eF g' n = eF g n := by unfold eF; rw [h]
theorem eT_c {g g' : Nat → Int64} {n : Nat} (h : g' (8 + n) = g (8 + n)) : eT g' n = eT g n := by unfold eT; rw [h]
theorem eY_c {g g' : Nat → Int64} {n : Nat} (h : g' (8 + n) = g (8 + n)) : eY g' n = eY g n := by unfold eY; rw [h]
theorem eW_c {g g' : Nat → Int64} {n : Nat} (h : g' (8 + n) = g (8 + n)) : eW g' n = eW g n := by unfold eW; rw [h]
theorem yn1_c {g g' : Nat → Int64} {l : Nat} {lb lb' : Nat → Int32} {pr pr' : Nat → Int64} {n : Nat} (h : g' n = g n) (h1 : lb' (8 * l + n) = lb (8 * l + n)) (h2 : pr' (8 * l + n) = pr (8 * l + n)) (q : yn1 g l lb pr n) : yn1 g' l lb' pr' n := by
  unfold yn1
  rw [h, h1, h2, nL_c h, nH_c h]
  exact q
theorem ye1_c {g g' : Nat → Int64} {l : Nat} {fr to ty wt fr' to' ty' wt' : Nat → Int32} {e : Nat} (h : g' (8 + e) = g (8 + e)) (h1 : fr' (12 * l + e) = fr (12 * l + e)) (h2 : to' (12 * l + e) = to (12 * l + e)) (h3 : ty' (12 * l + e) = ty (12 * l + e)) (h4 : wt' (12 * l + e) = wt (12 * l + e)) (q : ye1 g l fr to ty wt e) : ye1 g' l fr' to' ty' wt' e := by
  unfold ye1
  rw [h, h1, h2, h3, h4, eF_c h, eT_c h, eY_c h, eW_c h]
  exact q
theorem VG_e {g g' : Nat → Int64} (V : VG g) (h : ∀ n, n < 8 → ¬ g' n = 0 → bl (g' n) 0 = true) (h0 : ∀ n, n < 8 → ¬ g n = 0 → ¬ g' n = 0) (he : ∀ e, e < 12 → g' (8 + e) = g (8 + e)) : VG g' := by
  refine ⟨h, fun e hl hz => ?_⟩
  have q := he e hl
  rw [q] at hz
  obtain ⟨⟨a, b⟩, c⟩ := V.2 e hl hz
  have f8 := (eF_e g e).2
  have t8 := (eT_e g e).2
  rw [eF_c q, eT_c q, eY_c q, eW_c q, q]
  exact ⟨⟨h0 _ f8 a, h0 _ t8 b⟩, c⟩
/-- a node's word changed, not to zero -/
theorem VG_node {g : Nat → Int64} (V : VG g) {n : Nat} (hn : n < 8) {w : Int64} (hw : bl w 0 = true) : VG (vp_updL g n w) := by
  refine VG_e V (fun m hm h => ?_) (fun m hm h => ?_) (fun e he => pk_uLn (by omega))
  · by_cases e : m = n
    · subst e; rw [pk_uLs]; exact hw
    · rw [pk_uLn e] at h ⊢; exact V.1 m hm h
  · by_cases e : m = n
    · subst e; rw [pk_uLs]; exact bl_ne0 hw
    · rw [pk_uLn e]; exact h
/-- an edge's word changed to one that ends at nodes -/
theorem VG_edge {g : Nat → Int64} (V : VG g) {e f t y w : Nat} (he : e < 12) (hf : f < 8) (ht : t < 8) (hy : y < 3) (hw : w < 101) (gf : ¬ g f = 0) (gt : ¬ g t = 0) : VG (vp_updL g (8 + e) (gr_we f t y w)) ∧ eF (vp_updL g (8 + e) (gr_we f t y w)) e = f ∧ eT (vp_updL g (8 + e) (gr_we f t y w)) e = t ∧ eY (vp_updL g (8 + e) (gr_we f t y w)) e = y ∧ eW (vp_updL g (8 + e) (gr_we f t y w)) e = w := by
  have a1 : eF (vp_updL g (8 + e) (gr_we f t y w)) e = f := by unfold eF; rw [pk_uLs, gr_weF hf ht hy hw, nI_clamp (by omega)]
  have a2 : eT (vp_updL g (8 + e) (gr_we f t y w)) e = t := by unfold eT; rw [pk_uLs, gr_weT hf ht hy hw, nI_clamp (by omega)]
  have a3 : eY (vp_updL g (8 + e) (gr_we f t y w)) e = y := by unfold eY; rw [pk_uLs, gr_weY hf ht hy hw, nI_clamp (by omega)]
  have a4 : eW (vp_updL g (8 + e) (gr_we f t y w)) e = w := by unfold eW; rw [pk_uLs, gr_weW hf ht hy hw, lN_toInt (by omega)]; omega
  refine ⟨⟨fun n hn h => ?_, fun x hx h => ?_⟩, a1, a2, a3, a4⟩
  · rw [pk_uLn (by omega)] at h ⊢; exact V.1 n hn h
  · by_cases z : x = e
    · subst z
      rw [a1, a2, a3, a4, pk_uLn (show f ≠ 8 + x by omega), pk_uLn (show t ≠ 8 + x by omega), pk_uLs]
      exact ⟨⟨gf, gt⟩, hy, by omega, gr_weW hf ht hy hw⟩
    · have q : vp_updL g (8 + e) (gr_we f t y w) (8 + x) = g (8 + x) := pk_uLn (by omega)
      rw [q] at h
      obtain ⟨⟨a, b⟩, c⟩ := V.2 x hx h
      have f8 := (eF_e g x).2
      have t8 := (eT_e g x).2
      rw [eF_c q, eT_c q, eY_c q, eW_c q, q, pk_uLn (show eF g x ≠ 8 + e by omega), pk_uLn (show eT g x ≠ 8 + e by omega)]
      exact ⟨⟨a, b⟩, c⟩
/-- an edge cut -/
theorem VG_cut {g : Nat → Int64} (V : VG g) {e : Nat} (he : e < 12) : VG (vp_updL g (8 + e) 0) := by
  refine ⟨fun n hn h => ?_, fun x hx h => ?_⟩
  · rw [pk_uLn (by omega)] at h ⊢; exact V.1 n hn h
  · by_cases z : x = e
    · subst z; rw [pk_uLs] at h; exact absurd rfl h
    · have q : vp_updL g (8 + e) 0 (8 + x) = g (8 + x) := pk_uLn (by omega)
      rw [q] at h
      obtain ⟨⟨a, b⟩, c⟩ := V.2 x hx h
      have f8 := (eF_e g x).2
      have t8 := (eT_e g x).2
      rw [eF_c q, eT_c q, eY_c q, eW_c q, q, pk_uLn (show eF g x ≠ 8 + e by omega), pk_uLn (show eT g x ≠ 8 + e by omega)]
      exact ⟨⟨a, b⟩, c⟩
/-- a node taken away that no edge touches -/
theorem VG_gone {g : Nat → Int64} (V : VG g) {n : Nat} (hn : n < 8) (h0 : ∀ e, e < 12 → ¬ g (8 + e) = 0 → eF g e ≠ n ∧ eT g e ≠ n) : VG (vp_updL g n 0) := by
  refine ⟨fun m hm h => ?_, fun x hx h => ?_⟩
  · by_cases z : m = n
    · subst z; rw [pk_uLs] at h; exact absurd rfl h
    · rw [pk_uLn z] at h ⊢; exact V.1 m hm h
  · have q : vp_updL g n 0 (8 + x) = g (8 + x) := pk_uLn (by omega)
    rw [q] at h
    obtain ⟨⟨a, b⟩, c⟩ := V.2 x hx h
    obtain ⟨u1, u2⟩ := h0 x hx h
    rw [eF_c q, eT_c q, eY_c q, eW_c q, q, pk_uLn u1, pk_uLn u2]
    exact ⟨⟨a, b⟩, c⟩
/-! the relation of the graphs -/
def RG (lx ly : Int32) (st o : Nat → Int64) (k : Nat → Int32) (lb : Nat → Int32) (pr : Nat → Int64) (fr to ty wt : Nat → Int32) : Prop := ∃ L T, L ≤ 4 ∧ lx = nI L ∧ ly = nI L ∧ SN L T st o k ∧ (VG st ∧ YN st 0 lb pr ∧ YE st 0 fr to ty wt) ∧ ∀ l, l < L → VG (T l) ∧ YN (T l) (l + 1) lb pr ∧ YE (T l) (l + 1) fr to ty wt
/-- node n's word and what the reference holds of it changed -/
theorem YN_up {g : Nat → Int64} {lb : Nat → Int32} {pr : Nat → Int64} {n : Nat} {w : Int64} {lb' : Nat → Int32} {pr' : Nat → Int64} (h1 : ∀ j, j ≠ n → lb' j = lb j) (h2 : ∀ j, j ≠ n → pr' j = pr j) (Y : YN g 0 lb pr) (hz : yn1 (vp_updL g n w) 0 lb' pr' n) : YN (vp_updL g n w) 0 lb' pr' := by
  intro m hm
  by_cases e : m = n
  · subst e; exact hz
  · exact yn1_c (pk_uLn e) (h1 _ (by omega)) (h2 _ (by omega)) (Y m hm)
theorem YN_far {g : Nat → Int64} {lb : Nat → Int32} {pr : Nat → Int64} {l n : Nat} {lb' : Nat → Int32} {pr' : Nat → Int64} (hn : n < 8) (h1 : ∀ j, j ≠ n → lb' j = lb j) (h2 : ∀ j, j ≠ n → pr' j = pr j) (Y : YN g (l + 1) lb pr) : YN g (l + 1) lb' pr' := fun m hm => yn1_c rfl (h1 _ (by omega)) (h2 _ (by omega)) (Y m hm)
theorem YE_node {g : Nat → Int64} {n : Nat} (hn : n < 8) {w : Int64} {l : Nat} {fr to ty wt : Nat → Int32} (Y : YE g l fr to ty wt) : YE (vp_updL g n w) l fr to ty wt := fun m hm => ye1_c (pk_uLn (by omega)) rfl rfl rfl rfl (Y m hm)
theorem YN_edge {g : Nat → Int64} {e : Nat} {w : Int64} {l : Nat} {lb : Nat → Int32} {pr : Nat → Int64} (Y : YN g l lb pr) : YN (vp_updL g (8 + e) w) l lb pr := fun m hm => yn1_c (pk_uLn (by omega)) rfl rfl (Y m hm)
theorem YE_up {g : Nat → Int64} {fr to ty wt : Nat → Int32} {n : Nat} {w : Int64} {fr' to' ty' wt' : Nat → Int32} (h1 : ∀ j, j ≠ n → fr' j = fr j) (h2 : ∀ j, j ≠ n → to' j = to j) (h3 : ∀ j, j ≠ n → ty' j = ty j) (h4 : ∀ j, j ≠ n → wt' j = wt j) (Y : YE g 0 fr to ty wt) (hz : ye1 (vp_updL g (8 + n) w) 0 fr' to' ty' wt' n) : YE (vp_updL g (8 + n) w) 0 fr' to' ty' wt' := by
  intro m hm
  by_cases e : m = n
  · subst e; exact hz
  · exact ye1_c (pk_uLn (by omega)) (h1 _ (by omega)) (h2 _ (by omega)) (h3 _ (by omega)) (h4 _ (by omega)) (Y m hm)
theorem YE_far {g : Nat → Int64} {fr to ty wt : Nat → Int32} {l n : Nat} {fr' to' ty' wt' : Nat → Int32} (hn : n < 12) (h1 : ∀ j, j ≠ n → fr' j = fr j) (h2 : ∀ j, j ≠ n → to' j = to j) (h3 : ∀ j, j ≠ n → ty' j = ty j) (h4 : ∀ j, j ≠ n → wt' j = wt j) (Y : YE g (l + 1) fr to ty wt) : YE g (l + 1) fr' to' ty' wt' := fun m hm => ye1_c rfl (h1 _ (by omega)) (h2 _ (by omega)) (h3 _ (by omega)) (h4 _ (by omega)) (Y m hm)
/-- a node's word and what is held of it changed: the whole relation -/
theorem RG_node {L : Nat} {T : Nat → Nat → Int64} {st o o' : Nat → Int64} {k k' : Nat → Int32} {lb lb' : Nat → Int32} {pr pr' : Nat → Int64} {fr to ty wt : Nat → Int32} {n : Nat} {w : Int64} (hL : L ≤ 4) (hn : n < 8) (G : VG st ∧ YN st 0 lb pr ∧ YE st 0 fr to ty wt) (H : ∀ l, l < L → VG (T l) ∧ YN (T l) (l + 1) lb pr ∧ YE (T l) (l + 1) fr to ty wt) (S : SN L T (vp_updL st n w) o' k') (V : VG (vp_updL st n w)) (h1 : ∀ j, j ≠ n → lb' j = lb j) (h2 : ∀ j, j ≠ n → pr' j = pr j) (hz : yn1 (vp_updL st n w) 0 lb' pr' n) : RG (nI L) (nI L) (vp_updL st n w) o' k' lb' pr' fr to ty wt :=
  ⟨L, T, hL, rfl, rfl, S, ⟨V, YN_up h1 h2 G.2.1 hz, YE_node hn G.2.2⟩, fun l hl => ⟨(H l hl).1, YN_far hn h1 h2 (H l hl).2.1, (H l hl).2.2⟩⟩
theorem RG_edge {L : Nat} {T : Nat → Nat → Int64} {st o o' : Nat → Int64} {k k' : Nat → Int32} {lb : Nat → Int32} {pr : Nat → Int64} {fr to ty wt fr' to' ty' wt' : Nat → Int32} {n : Nat} {w : Int64} (hL : L ≤ 4) (hn : n < 12) (G : VG st ∧ YN st 0 lb pr ∧ YE st 0 fr to ty wt) (H : ∀ l, l < L → VG (T l) ∧ YN (T l) (l + 1) lb pr ∧ YE (T l) (l + 1) fr to ty wt) (S : SN L T (vp_updL st (8 + n) w) o' k') (V : VG (vp_updL st (8 + n) w)) (h1 : ∀ j, j ≠ n → fr' j = fr j) (h2 : ∀ j, j ≠ n → to' j = to j) (h3 : ∀ j, j ≠ n → ty' j = ty j) (h4 : ∀ j, j ≠ n → wt' j = wt j) (hz : ye1 (vp_updL st (8 + n) w) 0 fr' to' ty' wt' n) : RG (nI L) (nI L) (vp_updL st (8 + n) w) o' k' lb pr fr' to' ty' wt' :=
  ⟨L, T, hL, rfl, rfl, S, ⟨V, YN_edge G.2.1, YE_up h1 h2 h3 h4 G.2.2 hz⟩, fun l hl => ⟨(H l hl).1, (H l hl).2.1, YE_far hn h1 h2 h3 h4 (H l hl).2.2⟩⟩
end
section
/-! the sets that the component makes of the graph -/
def IXe (g : Nat → Int64) (m : Nat) (lv cm ot : Nat → Int32) : Prop := (∀ n, n < 8 → ∃ S, S < 2 ^ 12 ∧ lv n = nI S ∧ ∀ e, S.testBit e = true ↔ (e < m ∧ ¬ g (8 + e) = 0 ∧ eF g e = n)) ∧ (∀ n, n < 8 → ∃ S, S < 2 ^ 12 ∧ cm n = nI S ∧ ∀ e, S.testBit e = true ↔ (e < m ∧ ¬ g (8 + e) = 0 ∧ eT g e = n)) ∧ (∀ n, n < 3 → ∃ S, S < 2 ^ 12 ∧ ot n = nI S ∧ ∀ e, S.testBit e = true ↔ (e < m ∧ ¬ g (8 + e) = 0 ∧ eY g e = n))
def IXl (g : Nat → Int64) (m : Nat) (wl : Nat → Int32) : Prop := ∀ l, l < m → ∃ S, S < 2 ^ 8 ∧ wl l = nI S ∧ ∀ n, S.testBit n = true ↔ (n < 8 ∧ ¬ g n = 0 ∧ nL g n &&& l = l)
def IX (g : Nat → Int64) (lv cm ot wl : Nat → Int32) : Prop := IXe g 12 lv cm ot ∧ IXl g 16 wl
theorem IXs {g : Nat → Int64} {k : Nat → Nat} {m N : Nat} {f : Nat → Int32} (hm : m < 12) (hN : k m < N) (hz : ¬ g (8 + m) = 0) (h : ∀ n, n < N → ∃ S, S < 2 ^ 12 ∧ f n = nI S ∧ ∀ e, S.testBit e = true ↔ (e < m ∧ ¬ g (8 + e) = 0 ∧ k e = n)) : ∃ S, S < 2 ^ 12 ∧ f (k m) = nI S ∧ ∀ n, n < N → ∃ S', S' < 2 ^ 12 ∧ upd f (k m) (nI (S ||| 2 ^ m)) n = nI S' ∧ ∀ e, S'.testBit e = true ↔ (e < m + 1 ∧ ¬ g (8 + e) = 0 ∧ k e = n) := by
  obtain ⟨S, h1, h2, h3⟩ := h (k m) hN
  refine ⟨S, h1, h2, fun n hn => ?_⟩
  by_cases e : n = k m
  · subst e
    refine ⟨S ||| 2 ^ m, bb_or2_lt h1 hm, pk_us, fun x => ?_⟩
    rw [bb_or2, Bool.or_eq_true, decide_eq_true_eq, h3]
    constructor
    · rintro (⟨a, b⟩ | rfl)
      · exact ⟨by omega, b⟩
      · exact ⟨by omega, hz, rfl⟩
    · rintro ⟨a, b⟩
      by_cases z : x = m
      · exact Or.inr z.symm
      · exact Or.inl ⟨by omega, b⟩
  · obtain ⟨S', a1, a2, a3⟩ := h n hn
    refine ⟨S', a1, by rw [pk_un e]; exact a2, fun x => ?_⟩
    rw [a3]
    constructor
    · rintro ⟨a, b⟩; exact ⟨by omega, b⟩
    · rintro ⟨a, b, c⟩
      by_cases z : x = m
      · subst z; exact absurd c.symm e
      · exact ⟨by omega, b, c⟩
theorem IXk {g : Nat → Int64} {k : Nat → Nat} {m N : Nat} {f : Nat → Int32} (hz : g (8 + m) = 0) (h : ∀ n, n < N → ∃ S, S < 2 ^ 12 ∧ f n = nI S ∧ ∀ e, S.testBit e = true ↔ (e < m ∧ ¬ g (8 + e) = 0 ∧ k e = n)) : ∀ n, n < N → ∃ S, S < 2 ^ 12 ∧ f n = nI S ∧ ∀ e, S.testBit e = true ↔ (e < m + 1 ∧ ¬ g (8 + e) = 0 ∧ k e = n) := by
  intro n hn
  obtain ⟨S, h1, h2, h3⟩ := h n hn
  refine ⟨S, h1, h2, fun e => ?_⟩
  rw [h3]
  constructor
  · rintro ⟨a, b⟩; exact ⟨by omega, b⟩
  · rintro ⟨a, b, c⟩
    by_cases z : e = m
    · subst z; exact absurd hz b
    · exact ⟨by omega, b, c⟩
theorem IX0 {N m : Nat} {f : Nat → Int32} {Q : Nat → Nat → Prop} (h : ∀ n, n < N → f n = 0) (hm : m = 0) : ∀ n, n < N → ∃ S, S < 2 ^ 12 ∧ f n = nI S ∧ ∀ e, S.testBit e = true ↔ (e < m ∧ Q e n) := by
  intro n hn
  subst hm
  refine ⟨0, by decide, by rw [nI_0]; exact h n hn, fun e => ?_⟩
  rw [Nat.zero_testBit]
  exact ⟨fun z => absurd z (by decide), fun z => absurd z.1 (Nat.not_lt_zero e)⟩
section
variable {f_level f_indexed f_parts f_highs f_tokens f_conditionLength f_conditionNames f_depth f_found f_testAt f_count f_different f_cheapest f_positions f_starts f_accepts f_empty f_written f_target f_steps : Int32} {a_state a_old : Nat → Int64} {a_kept a_leaving a_coming a_ofType a_withLabels a_kind a_types a_direction a_low a_high a_variable a_labels a_token a_condition a_truth a_number a_variableOf a_atPart a_trail a_here a_bound a_named a_used a_weight a_left a_ends : Nat → Int32} {a_seen a_sum : Nat → Int64} {a_some a_letter a_follow a_firstOf a_lastOf a_nullable a_spelled a_visited a_front a_next : Nat → Int32} {post : SX → Prop}
theorem x_index_129 (V : VG a_state) (h : ∀ lv cm ot, IXe a_state 12 lv cm ot → post (f_level, f_indexed, f_parts, f_highs, f_tokens, f_conditionLength, f_conditionNames, f_depth, f_found, f_testAt, f_count, f_different, f_cheapest, f_positions, f_starts, f_accepts, f_empty, f_written, f_target, f_steps, a_state, a_old, a_kept, lv, cm, ot, a_withLabels, a_kind, a_types, a_direction, a_low, a_high, a_variable, a_labels, a_token, a_condition, a_truth, a_number, a_variableOf, a_atPart, a_trail, a_here, a_bound, a_named, a_used, a_weight, a_left, a_ends, a_seen, a_sum, a_some, a_letter, a_follow, a_firstOf, a_lastOf, a_nullable, a_spelled, a_visited, a_front, a_next)) : ∀ n m lv cm ot, m ≤ 12 → 12 - m < n → IXe a_state m lv cm ot → wX_index_129 post f_level f_indexed f_parts f_highs f_tokens f_conditionLength f_conditionNames f_depth f_found f_testAt f_count f_different f_cheapest f_positions f_starts f_accepts f_empty f_written f_target f_steps n (nI m) a_state a_old a_kept lv cm ot a_withLabels a_kind a_types a_direction a_low a_high a_variable a_labels a_token a_condition a_truth a_number a_variableOf a_atPart a_trail a_here a_bound a_named a_used a_weight a_left a_ends a_seen a_sum a_some a_letter a_follow a_firstOf a_lastOf a_nullable a_spelled a_visited a_front a_next := by
  intro n
  induction n with
  | zero => intro m lv cm ot _ hn; omega
  | succ n ih =>
    intro m lv cm ot hm hn I
    by_cases e : m = 12
    · subst e
      exact br_t (nI_le (b := 12) (Nat.le_refl _) (by omega)) (h lv cm ot I)
    · have hm : m < 12 := by omega
      have e8 : (8 : Int32) + nI m = nI (8 + m) := nI_add 8 m
      have c8 : ((8 : Int32) + nI m).toNatClampNeg = 8 + m := by rw [e8, nI_clamp (by omega)]
      have v8 : vp_in ((8 : Int32) + nI m) 20 := by rw [e8]; exact vp_in_nI (by omega) (by omega)
      refine br_f (nI_ge (b := 12) hm (by omega)) ⟨v8, ?_⟩
      by_cases z : a_state (8 + m) = 0
      · refine br_t (by rw [c8]; exact z) (nm_r (nI_1 m) ?_)
        exact ih (m + 1) lv cm ot (by omega) (by omega) ⟨IXk z I.1, IXk z I.2.1, IXk z I.2.2⟩
      · have f8 := (eF_e a_state m).2
        have t8 := (eT_e a_state m).2
        have y3 := (V.2 m hm z).2.1
        have ty : (((a_state ((8 : Int32) + nI m).toNatClampNeg).toInt32) >>> ((7 : Int32) &&& 31)) &&& 3 = nI (eY a_state m) := by rw [c8]; exact (eY_e a_state m).1
        obtain ⟨S1, s1, q1, I1⟩ := IXs (k := eF a_state) hm f8 z I.1
        obtain ⟨S2, s2, q2, I2⟩ := IXs (k := eT a_state) hm t8 z I.2.1
        obtain ⟨S3, s3, q3, I3⟩ := IXs (k := eY a_state) hm y3 z I.2.2
        have o1 := bb_or2_lt s1 hm
        have o2 := bb_or2_lt s2 hm
        have o3 := bb_or2_lt s3 hm
        refine br_f (by rw [c8]; exact z) (x_fromOf hm ⟨vp_in_nI f8 (by omega), vp_in_nI f8 (by omega), nm_r (e' := upd lv (eF a_state m) (nI (S1 ||| 2 ^ m))) ?_ (x_toOf hm ⟨vp_in_nI t8 (by omega), vp_in_nI t8 (by omega), nm_r (e' := upd cm (eT a_state m) (nI (S2 ||| 2 ^ m))) ?_ ⟨v8, ?_, ?_, nm_r (e' := upd ot (eY a_state m) (nI (S3 ||| 2 ^ m))) ?_ (nm_r (nI_1 m) ?_)⟩⟩)⟩)
        · rw [nI_clamp (by omega), q1, bb_1shl (by omega), bb_or, bb_sh (by omega)]
        · rw [nI_clamp (by omega), q2, bb_1shl (by omega), bb_or, bb_sh (by omega)]
        · rw [ty]; exact vp_in_nI y3 (by omega)
        · rw [ty]; exact vp_in_nI y3 (by omega)
        · rw [ty, nI_clamp (by omega), q3, bb_1shl (by omega), bb_or, bb_sh (by omega)]
        · exact ih (m + 1) _ _ _ (by omega) (by omega) ⟨I1, I2, I3⟩
theorem x_index_73 {J : Int32 → (Nat → Int64) → (Nat → Int64) → (Nat → Int32) → (Nat → Int32) → (Nat → Int32) → (Nat → Int32) → (Nat → Int32) → (Nat → Int32) → (Nat → Int32) → (Nat → Int32) → (Nat → Int32) → (Nat → Int32) → (Nat → Int32) → (Nat → Int32) → (Nat → Int32) → (Nat → Int32) → (Nat → Int32) → (Nat → Int32) → (Nat → Int32) → (Nat → Int32) → (Nat → Int32) → (Nat → Int32) → (Nat → Int32) → (Nat → Int32) → (Nat → Int32) → (Nat → Int32) → (Nat → Int32) → (Nat → Int32) → (Nat → Int64) → (Nat → Int64) → (Nat → Int32) → (Nat → Int32) → (Nat → Int32) → (Nat → Int32) → (Nat → Int32) → (Nat → Int32) → (Nat → Int32) → (Nat → Int32) → (Nat → Int32) → (Nat → Int32) → Prop} {l : Nat} (hl : l < 16) (h : ∀ S, S < 2 ^ 8 → (∀ n, S.testBit n = true ↔ (n < 8 ∧ ¬ a_state n = 0 ∧ nL a_state n &&& l = l)) → J (nI (l + 1)) a_state a_old a_kept a_leaving a_coming a_ofType (upd a_withLabels l (nI S)) a_kind a_types a_direction a_low a_high a_variable a_labels a_token a_condition a_truth a_number a_variableOf a_atPart a_trail a_here a_bound a_named a_used a_weight a_left a_ends a_seen a_sum a_some a_letter a_follow a_firstOf a_lastOf a_nullable a_spelled a_visited a_front a_next) : ∀ n m S, m ≤ 8 → 8 - m < n → S < 2 ^ 8 → (∀ n, S.testBit n = true ↔ (n < m ∧ ¬ a_state n = 0 ∧ nL a_state n &&& l = l)) → wX_index_73 post J (nI l) f_level f_indexed f_parts f_highs f_tokens f_conditionLength f_conditionNames f_depth f_found f_testAt f_count f_different f_cheapest f_positions f_starts f_accepts f_empty f_written f_target f_steps a_state a_old a_kept a_leaving a_coming a_ofType a_withLabels a_kind a_types a_direction a_low a_high a_variable a_labels a_token a_condition a_truth a_number a_variableOf a_atPart a_trail a_here a_bound a_named a_used a_weight a_left a_ends a_seen a_sum a_some a_letter a_follow a_firstOf a_lastOf a_nullable a_spelled a_visited a_front a_next n (nI S) (nI m) := by
  intro n
  induction n with
  | zero => intro m S _ hn; omega
  | succ n ih =>
    intro m S hm hn hS I
    by_cases e : m = 8
    · subst e
      refine br_t (nI_le (b := 8) (Nat.le_refl _) (by omega)) ⟨vp_in_nI hl (by omega), nm_r (e' := upd a_withLabels l (nI S)) ?_ (nm_r (nI_1 l) (h S hS I))⟩
      rw [nI_clamp (by omega), bb_sh (by omega)]
    · have hm : m < 8 := by omega
      refine br_f (nI_ge (b := 8) hm (by omega)) ⟨vp_in_nI (by omega) (by omega), ?_⟩
      have c : (nI m).toNatClampNeg = m := nI_clamp (by omega)
      by_cases z : a_state m = 0
      · refine br_t (by rw [c]; exact z) (nm_r (nI_1 m) (ih (m + 1) S (by omega) (by omega) hS fun x => ?_))
        rw [I]
        constructor
        · rintro ⟨a, b⟩; exact ⟨by omega, b⟩
        · rintro ⟨a, b⟩
          by_cases y : x = m
          · subst y; exact absurd z b.1
          · exact ⟨by omega, b⟩
      · refine br_f (by rw [c]; exact z) (x_labelsOf hm ?_)
        have q : (nI (nL a_state m) &&& nI l = nI l) ↔ nL a_state m &&& l = l := by
          have := (nL_e a_state m).2
          have : nL a_state m &&& l ≤ l := Nat.and_le_right
          rw [nx_and, nI_eq (by omega) (by omega)]
        by_cases y : nL a_state m &&& l = l
        · refine br_t (q.mpr y) (nm_r (e' := nI (S ||| 2 ^ m)) ?_ (nm_r (nI_1 m) (ih (m + 1) _ (by omega) (by omega) (bb_or2_lt hS hm) fun x => ?_)))
          · rw [bb_1shl (by omega), bb_or]
          · rw [bb_or2, Bool.or_eq_true, decide_eq_true_eq, I]
            constructor
            · rintro (⟨a, b⟩ | rfl)
              · exact ⟨by omega, b⟩
              · exact ⟨by omega, z, y⟩
            · rintro ⟨a, b⟩
              by_cases w : x = m
              · exact Or.inr w.symm
              · exact Or.inl ⟨by omega, b⟩
        · refine br_f (fun w => y (q.mp w)) (nm_r (nI_1 m) (ih (m + 1) S (by omega) (by omega) hS fun x => ?_))
          rw [I]
          constructor
          · rintro ⟨a, b⟩; exact ⟨by omega, b⟩
          · rintro ⟨a, b, d⟩
            by_cases w : x = m
            · subst w; exact absurd d y
            · exact ⟨by omega, b, d⟩
theorem x_index_63 (V : VG a_state) (hi : IXe a_state 0 a_leaving a_coming a_ofType) (h : ∀ lv cm ot wl, IX a_state lv cm ot wl → post (f_level, f_indexed, f_parts, f_highs, f_tokens, f_conditionLength, f_conditionNames, f_depth, f_found, f_testAt, f_count, f_different, f_cheapest, f_positions, f_starts, f_accepts, f_empty, f_written, f_target, f_steps, a_state, a_old, a_kept, lv, cm, ot, wl, a_kind, a_types, a_direction, a_low, a_high, a_variable, a_labels, a_token, a_condition, a_truth, a_number, a_variableOf, a_atPart, a_trail, a_here, a_bound, a_named, a_used, a_weight, a_left, a_ends, a_seen, a_sum, a_some, a_letter, a_follow, a_firstOf, a_lastOf, a_nullable, a_spelled, a_visited, a_front, a_next)) : ∀ n m wl, m ≤ 16 → 16 - m < n → IXl a_state m wl → wX_index_63 post f_level f_indexed f_parts f_highs f_tokens f_conditionLength f_conditionNames f_depth f_found f_testAt f_count f_different f_cheapest f_positions f_starts f_accepts f_empty f_written f_target f_steps n (nI m) a_state a_old a_kept a_leaving a_coming a_ofType wl a_kind a_types a_direction a_low a_high a_variable a_labels a_token a_condition a_truth a_number a_variableOf a_atPart a_trail a_here a_bound a_named a_used a_weight a_left a_ends a_seen a_sum a_some a_letter a_follow a_firstOf a_lastOf a_nullable a_spelled a_visited a_front a_next := by
  intro n
  induction n with
  | zero => intro m wl _ hn; omega
  | succ n ih =>
    intro m wl hm hn I
    by_cases e : m = 16
    · subst e
      exact br_t (nI_le (b := 16) (Nat.le_refl _) (by omega)) ⟨13, x_index_129 V (fun lv cm ot q => h lv cm ot wl ⟨q, I⟩) 13 0 _ _ _ (by omega) (by omega) hi⟩
    · have hm : m < 16 := by omega
      refine br_f (nI_ge (b := 16) hm (by omega)) ⟨9, ?_⟩
      refine x_index_73 hm (fun S hS hb => ih (m + 1) _ (by omega) (by omega) fun l hl => ?_) 9 0 0 (by omega) (by omega) (by decide) (fun x => ⟨fun z => by rw [Nat.zero_testBit] at z; exact absurd z (by decide), fun z => absurd z.1 (Nat.not_lt_zero x)⟩)
      by_cases y : l = m
      · subst y; exact ⟨S, hS, pk_us, hb⟩
      · rw [pk_un y]; exact I l (by omega)
theorem x_index_43 (V : VG a_state) (h1 : ∀ n, n < 8 → a_leaving n = 0) (h2 : ∀ n, n < 8 → a_coming n = 0) (h : ∀ lv cm ot wl, IX a_state lv cm ot wl → post (f_level, f_indexed, f_parts, f_highs, f_tokens, f_conditionLength, f_conditionNames, f_depth, f_found, f_testAt, f_count, f_different, f_cheapest, f_positions, f_starts, f_accepts, f_empty, f_written, f_target, f_steps, a_state, a_old, a_kept, lv, cm, ot, wl, a_kind, a_types, a_direction, a_low, a_high, a_variable, a_labels, a_token, a_condition, a_truth, a_number, a_variableOf, a_atPart, a_trail, a_here, a_bound, a_named, a_used, a_weight, a_left, a_ends, a_seen, a_sum, a_some, a_letter, a_follow, a_firstOf, a_lastOf, a_nullable, a_spelled, a_visited, a_front, a_next)) : ∀ n m ot, m ≤ 3 → 3 - m < n → (∀ x, x < m → ot x = 0) → wX_index_43 post f_level f_indexed f_parts f_highs f_tokens f_conditionLength f_conditionNames f_depth f_found f_testAt f_count f_different f_cheapest f_positions f_starts f_accepts f_empty f_written f_target f_steps n (nI m) a_state a_old a_kept a_leaving a_coming ot a_withLabels a_kind a_types a_direction a_low a_high a_variable a_labels a_token a_condition a_truth a_number a_variableOf a_atPart a_trail a_here a_bound a_named a_used a_weight a_left a_ends a_seen a_sum a_some a_letter a_follow a_firstOf a_lastOf a_nullable a_spelled a_visited a_front a_next := by
  intro n
  induction n with
  | zero => intro m ot _ hn; omega
  | succ n ih =>
    intro m ot hm hn I
    by_cases e : m = 3
    · subst e
      refine br_t (nI_le (b := 3) (Nat.le_refl _) (by omega)) ⟨17, ?_⟩
      exact x_index_63 V ⟨IX0 h1 rfl, IX0 h2 rfl, IX0 I rfl⟩ h 17 0 _ (by omega) (by omega) (fun l hl => absurd hl (Nat.not_lt_zero l))
    · have hm : m < 3 := by omega
      refine br_f (nI_ge (b := 3) hm (by omega)) ⟨vp_in_nI hm (by omega), nm_r (e' := upd ot m 0) ?_ (nm_r (nI_1 m) (ih (m + 1) _ (by omega) (by omega) fun x hx => ?_))⟩
      · rw [nI_clamp (by omega), bb_s0]
      · by_cases y : x = m
        · subst y; exact pk_us
        · rw [pk_un y]; exact I x (by omega)
theorem x_index_15 (V : VG a_state) (h : ∀ lv cm ot wl, IX a_state lv cm ot wl → post (f_level, f_indexed, f_parts, f_highs, f_tokens, f_conditionLength, f_conditionNames, f_depth, f_found, f_testAt, f_count, f_different, f_cheapest, f_positions, f_starts, f_accepts, f_empty, f_written, f_target, f_steps, a_state, a_old, a_kept, lv, cm, ot, wl, a_kind, a_types, a_direction, a_low, a_high, a_variable, a_labels, a_token, a_condition, a_truth, a_number, a_variableOf, a_atPart, a_trail, a_here, a_bound, a_named, a_used, a_weight, a_left, a_ends, a_seen, a_sum, a_some, a_letter, a_follow, a_firstOf, a_lastOf, a_nullable, a_spelled, a_visited, a_front, a_next)) : ∀ n m lv cm, m ≤ 8 → 8 - m < n → (∀ x, x < m → lv x = 0) → (∀ x, x < m → cm x = 0) → wX_index_15 post f_level f_indexed f_parts f_highs f_tokens f_conditionLength f_conditionNames f_depth f_found f_testAt f_count f_different f_cheapest f_positions f_starts f_accepts f_empty f_written f_target f_steps n (nI m) a_state a_old a_kept lv cm a_ofType a_withLabels a_kind a_types a_direction a_low a_high a_variable a_labels a_token a_condition a_truth a_number a_variableOf a_atPart a_trail a_here a_bound a_named a_used a_weight a_left a_ends a_seen a_sum a_some a_letter a_follow a_firstOf a_lastOf a_nullable a_spelled a_visited a_front a_next := by
  intro n
  induction n with
  | zero => intro m lv cm _ hn; omega
  | succ n ih =>
    intro m lv cm hm hn I I2
    by_cases e : m = 8
    · subst e
      exact br_t (nI_le (b := 8) (Nat.le_refl _) (by omega)) ⟨4, x_index_43 V I I2 h 4 0 _ (by omega) (by omega) (fun l hl => absurd hl (Nat.not_lt_zero l))⟩
    · have hm : m < 8 := by omega
      have c : (nI m).toNatClampNeg = m := nI_clamp (by omega)
      refine br_f (nI_ge (b := 8) hm (by omega)) ⟨vp_in_nI hm (by omega), nm_r (e' := upd lv m 0) (by rw [c, bb_s0]) ⟨vp_in_nI hm (by omega), nm_r (e' := upd cm m 0) (by rw [c, bb_s0]) (nm_r (nI_1 m) (ih (m + 1) _ _ (by omega) (by omega) (fun x hx => ?_) (fun x hx => ?_)))⟩⟩
      · by_cases y : x = m
        · subst y; exact pk_us
        · rw [pk_un y]; exact I x (by omega)
      · by_cases y : x = m
        · subst y; exact pk_us
        · rw [pk_un y]; exact I2 x (by omega)
end
def RI (ix : Int32) (g : Nat → Int64) (lv cm ot wl : Nat → Int32) : Prop := ix = 0 ∨ (ix = 1 ∧ IX g lv cm ot wl)
theorem x_index {f_level f_indexed f_parts f_highs f_tokens f_conditionLength f_conditionNames f_depth f_found f_testAt f_count f_different f_cheapest f_positions f_starts f_accepts f_empty f_written f_target f_steps : Int32} {a_state a_old : Nat → Int64} {a_kept a_leaving a_coming a_ofType a_withLabels a_kind a_types a_direction a_low a_high a_variable a_labels a_token a_condition a_truth a_number a_variableOf a_atPart a_trail a_here a_bound a_named a_used a_weight a_left a_ends : Nat → Int32} {a_seen a_sum : Nat → Int64} {a_some a_letter a_follow a_firstOf a_lastOf a_nullable a_spelled a_visited a_front a_next : Nat → Int32} {post : SX → Prop} (V : VG a_state) (I : RI f_indexed a_state a_leaving a_coming a_ofType a_withLabels) (h : ∀ lv cm ot wl, IX a_state lv cm ot wl → post (f_level, 1, f_parts, f_highs, f_tokens, f_conditionLength, f_conditionNames, f_depth, f_found, f_testAt, f_count, f_different, f_cheapest, f_positions, f_starts, f_accepts, f_empty, f_written, f_target, f_steps, a_state, a_old, a_kept, lv, cm, ot, wl, a_kind, a_types, a_direction, a_low, a_high, a_variable, a_labels, a_token, a_condition, a_truth, a_number, a_variableOf, a_atPart, a_trail, a_here, a_bound, a_named, a_used, a_weight, a_left, a_ends, a_seen, a_sum, a_some, a_letter, a_follow, a_firstOf, a_lastOf, a_nullable, a_spelled, a_visited, a_front, a_next)) : wpX_index post (f_level, f_indexed, f_parts, f_highs, f_tokens, f_conditionLength, f_conditionNames, f_depth, f_found, f_testAt, f_count, f_different, f_cheapest, f_positions, f_starts, f_accepts, f_empty, f_written, f_target, f_steps, a_state, a_old, a_kept, a_leaving, a_coming, a_ofType, a_withLabels, a_kind, a_types, a_direction, a_low, a_high, a_variable, a_labels, a_token, a_condition, a_truth, a_number, a_variableOf, a_atPart, a_trail, a_here, a_bound, a_named, a_used, a_weight, a_left, a_ends, a_seen, a_sum, a_some, a_letter, a_follow, a_firstOf, a_lastOf, a_nullable, a_spelled, a_visited, a_front, a_next) := by
  unfold wpX_index
  rcases I with I | ⟨I, J⟩
  · subst I
    exact br_t rfl ⟨9, x_index_15 V h 9 0 _ _ (by omega) (by omega) (fun l hl => absurd hl (Nat.not_lt_zero l)) (fun l hl => absurd hl (Nat.not_lt_zero l))⟩
  · subst I
    exact br_f (by decide) (h _ _ _ _ J)
end
section
/-! walks of the graph's methods -/
def gr_ff (f : Nat → Int64) (N j : Nat) : Prop := j ≤ N ∧ (∀ s, s < j → ¬ f s = 0) ∧ (j = N ∨ f j = 0)
theorem gr_ff_ex (f : Nat → Int64) : ∀ N, ∃ j, gr_ff f N j
  | 0 => ⟨0, Nat.le_refl _, fun s h => absurd h (Nat.not_lt_zero s), Or.inl rfl⟩
  | N + 1 => by
    obtain ⟨j, h1, h2, h3⟩ := gr_ff_ex f N
    rcases h3 with h3 | h3
    · subst h3
      by_cases z : f j = 0
      · exact ⟨j, by omega, h2, Or.inr z⟩
      · refine ⟨j + 1, Nat.le_refl _, fun s hs => ?_, Or.inl rfl⟩
        by_cases e : s = j
        · rw [e]; exact z
        · exact h2 s (by omega)
    · exact ⟨j, by omega, h2, Or.inr h3⟩
section
variable {f_level f_indexed f_parts f_highs f_tokens f_conditionLength f_conditionNames f_depth f_found f_testAt f_count f_different f_cheapest f_positions f_starts f_accepts f_empty f_written f_target f_steps : Int32} {a_state a_old : Nat → Int64} {a_kept a_leaving a_coming a_ofType a_withLabels a_kind a_types a_direction a_low a_high a_variable a_labels a_token a_condition a_truth a_number a_variableOf a_atPart a_trail a_here a_bound a_named a_used a_weight a_left a_ends : Nat → Int32} {a_seen a_sum : Nat → Int64} {a_some a_letter a_follow a_firstOf a_lastOf a_nullable a_spelled a_visited a_front a_next : Nat → Int32}
theorem x_node_14 {post : Int32 → SX → Prop} {x1 : Int32} {j : Nat} (F : gr_ff a_state 8 j) (h : wX_node_37 post x1 (nI j) f_level f_indexed f_parts f_highs f_tokens f_conditionLength f_conditionNames f_depth f_found f_testAt f_count f_different f_cheapest f_positions f_starts f_accepts f_empty f_written f_target f_steps a_state a_old a_kept a_leaving a_coming a_ofType a_withLabels a_kind a_types a_direction a_low a_high a_variable a_labels a_token a_condition a_truth a_number a_variableOf a_atPart a_trail a_here a_bound a_named a_used a_weight a_left a_ends a_seen a_sum a_some a_letter a_follow a_firstOf a_lastOf a_nullable a_spelled a_visited a_front a_next) : ∀ n i, i ≤ j → j - i < n → wX_node_14 post x1 f_level f_indexed f_parts f_highs f_tokens f_conditionLength f_conditionNames f_depth f_found f_testAt f_count f_different f_cheapest f_positions f_starts f_accepts f_empty f_written f_target f_steps a_state a_old a_kept a_leaving a_coming a_ofType a_withLabels a_kind a_types a_direction a_low a_high a_variable a_labels a_token a_condition a_truth a_number a_variableOf a_atPart a_trail a_here a_bound a_named a_used a_weight a_left a_ends a_seen a_sum a_some a_letter a_follow a_firstOf a_lastOf a_nullable a_spelled a_visited a_front a_next n (nI i) := by
  obtain ⟨h1, h2, h3⟩ := F
  intro n
  induction n with
  | zero => intro i _ hn; omega
  | succ n ih =>
    intro i hi hn
    by_cases e : i = j
    · subst e
      rcases h3 with h3 | h3
      · subst h3
        exact br_t (nI_le (b := 8) (Nat.le_refl _) (by omega)) h
      · by_cases y : i = 8
        · subst y
          exact br_t (nI_le (b := 8) (Nat.le_refl _) (by omega)) h
        · exact br_f (nI_ge (b := 8) (by omega) (by omega)) ⟨vp_in_nI (by omega) (by omega), br_t (by rw [nI_clamp (by omega)]; exact h3) h⟩
    · exact br_f (nI_ge (b := 8) (by omega) (by omega)) ⟨vp_in_nI (by omega) (by omega), br_f (by rw [nI_clamp (by omega)]; exact h2 i (by omega)) (nm_r (nI_1 i) (ih (i + 1) (by omega) (by omega)))⟩
theorem x_edge_41 {post : Int32 → SX → Prop} {x1 x2 x3 x4 : Int32} {j : Nat} (F : gr_ff (fun e => a_state (8 + e)) 12 j) (h : wX_edge_69 post x1 x2 x3 x4 (nI j) f_level f_indexed f_parts f_highs f_tokens f_conditionLength f_conditionNames f_depth f_found f_testAt f_count f_different f_cheapest f_positions f_starts f_accepts f_empty f_written f_target f_steps a_state a_old a_kept a_leaving a_coming a_ofType a_withLabels a_kind a_types a_direction a_low a_high a_variable a_labels a_token a_condition a_truth a_number a_variableOf a_atPart a_trail a_here a_bound a_named a_used a_weight a_left a_ends a_seen a_sum a_some a_letter a_follow a_firstOf a_lastOf a_nullable a_spelled a_visited a_front a_next) : ∀ n i, i ≤ j → j - i < n → wX_edge_41 post x1 x2 x3 x4 f_level f_indexed f_parts f_highs f_tokens f_conditionLength f_conditionNames f_depth f_found f_testAt f_count f_different f_cheapest f_positions f_starts f_accepts f_empty f_written f_target f_steps a_state a_old a_kept a_leaving a_coming a_ofType a_withLabels a_kind a_types a_direction a_low a_high a_variable a_labels a_token a_condition a_truth a_number a_variableOf a_atPart a_trail a_here a_bound a_named a_used a_weight a_left a_ends a_seen a_sum a_some a_letter a_follow a_firstOf a_lastOf a_nullable a_spelled a_visited a_front a_next n (nI i) := by
  obtain ⟨h1, h2, h3⟩ := F
  intro n
  induction n with
  | zero => intro i _ hn; omega
  | succ n ih =>
    intro i hi hn
    have e8 : (8 : Int32) + nI i = nI (8 + i) := nI_add 8 i
    have c8 : ((8 : Int32) + nI i).toNatClampNeg = 8 + i := by rw [e8, nI_clamp (by omega)]
    have v8 : i < 12 → vp_in ((8 : Int32) + nI i) 20 := fun q => by rw [e8]; exact vp_in_nI (by omega) (by omega)
    by_cases e : i = j
    · subst e
      by_cases y : i = 12
      · subst y
        exact br_t (nI_le (b := 12) (Nat.le_refl _) (by omega)) h
      · refine br_f (nI_ge (b := 12) (by omega) (by omega)) ⟨v8 (by omega), br_t (by rw [c8]; exact h3.resolve_left y) h⟩
    · exact br_f (nI_ge (b := 12) (by omega) (by omega)) ⟨v8 (by omega), br_f (by rw [c8]; exact h2 i (by omega)) (nm_r (nI_1 i) (ih (i + 1) (by omega) (by omega)))⟩
end
section
variable {yf_level yf_parts yf_pending yf_conditions yf_spelled yf_depth yf_used yf_weight yf_found yf_lightest yf_some : Int32} {yf_sum : Int64} {ya_labels : Nat → Int32} {ya_properties : Nat → Int64} {ya_from ya_to ya_types ya_weights ya_variable ya_wanted ya_among ya_direction ya_low ya_high ya_tokens ya_condition ya_expression ya_stack ya_part ya_steps ya_place ya_choice ya_bound ya_took ya_nodeOf ya_chosen ya_far : Nat → Int32} {g : Nat → Int64}
theorem y_node_14 {post : Int32 → SY → Prop} {x1 : Int32} {j : Nat} (G : YN g 0 ya_labels ya_properties) (F : gr_ff g 8 j) (h8 : j = 8 → post (-2) (yf_level, yf_parts, yf_pending, yf_conditions, yf_spelled, yf_depth, yf_used, yf_weight, yf_found, yf_lightest, yf_some, yf_sum, ya_labels, ya_properties, ya_from, ya_to, ya_types, ya_weights, ya_variable, ya_wanted, ya_among, ya_direction, ya_low, ya_high, ya_tokens, ya_condition, ya_expression, ya_stack, ya_part, ya_steps, ya_place, ya_choice, ya_bound, ya_took, ya_nodeOf, ya_chosen, ya_far)) (h : j < 8 → post (nI j) (yf_level, yf_parts, yf_pending, yf_conditions, yf_spelled, yf_depth, yf_used, yf_weight, yf_found, yf_lightest, yf_some, yf_sum, upd ya_labels j x1, vp_updL ya_properties j 9000000000000000000, ya_from, ya_to, ya_types, ya_weights, ya_variable, ya_wanted, ya_among, ya_direction, ya_low, ya_high, ya_tokens, ya_condition, ya_expression, ya_stack, ya_part, ya_steps, ya_place, ya_choice, ya_bound, ya_took, ya_nodeOf, ya_chosen, ya_far)) : ∀ n i, i ≤ j → j - i < n → wY_node_14 post x1 yf_level yf_parts yf_pending yf_conditions yf_spelled yf_depth yf_used yf_weight yf_found yf_lightest yf_some yf_sum ya_labels ya_properties ya_from ya_to ya_types ya_weights ya_variable ya_wanted ya_among ya_direction ya_low ya_high ya_tokens ya_condition ya_expression ya_stack ya_part ya_steps ya_place ya_choice ya_bound ya_took ya_nodeOf ya_chosen ya_far n (nI i) := by
  obtain ⟨h1, h2, h3⟩ := F
  intro n
  induction n with
  | zero => intro i _ hn; omega
  | succ n ih =>
    intro i hi hn
    by_cases e : i = 8
    · subst e
      exact br_t (nI_le (b := 8) (Nat.le_refl _) (by omega)) (h8 (by omega))
    · refine br_f (nI_ge (b := 8) (by omega) (by omega)) (y_isNode G (fun z => br_f (by decide) (nm_r (nI_1 i) (ih (i + 1) ?_ ?_))) (fun z => br_t rfl ⟨vp_in_nI (by omega) (by omega), nm_r (e' := upd ya_labels j x1) ?_ ⟨vp_in_nI (by omega) (by omega), nm_r (e' := vp_updL ya_properties j 9000000000000000000) ?_ ?_⟩⟩))
      · obtain ⟨m, hm, em, zm⟩ := z
        have : i = m := (nI_eq (by omega) (by omega)).mp em
        subst this
        by_cases y : i = j
        · subst y; exact absurd (h3.resolve_left e) zm
        · omega
      · obtain ⟨m, hm, em, zm⟩ := z
        have : i = m := (nI_eq (by omega) (by omega)).mp em
        subst this
        by_cases y : i = j
        · subst y; exact absurd (h3.resolve_left e) zm
        · omega
      all_goals
        have y : i = j := by
          by_cases y : i = j
          · exact y
          · exact absurd ⟨i, by omega, rfl, h2 i (by omega)⟩ z
        subst y
      · rw [nI_clamp (by omega)]
      · rw [nI_clamp (by omega)]
      · exact h (by omega)
theorem y_edge_41 {post : Int32 → SY → Prop} {x1 x2 x3 x4 : Int32} {j : Nat} (G : YE g 0 ya_from ya_to ya_types ya_weights) (F : gr_ff (fun e => g (8 + e)) 12 j) (h8 : j = 12 → post (-2) (yf_level, yf_parts, yf_pending, yf_conditions, yf_spelled, yf_depth, yf_used, yf_weight, yf_found, yf_lightest, yf_some, yf_sum, ya_labels, ya_properties, ya_from, ya_to, ya_types, ya_weights, ya_variable, ya_wanted, ya_among, ya_direction, ya_low, ya_high, ya_tokens, ya_condition, ya_expression, ya_stack, ya_part, ya_steps, ya_place, ya_choice, ya_bound, ya_took, ya_nodeOf, ya_chosen, ya_far)) (h : j < 12 → post (nI j) (yf_level, yf_parts, yf_pending, yf_conditions, yf_spelled, yf_depth, yf_used, yf_weight, yf_found, yf_lightest, yf_some, yf_sum, ya_labels, ya_properties, upd ya_from j x1, upd ya_to j x2, upd ya_types j x3, upd ya_weights j x4, ya_variable, ya_wanted, ya_among, ya_direction, ya_low, ya_high, ya_tokens, ya_condition, ya_expression, ya_stack, ya_part, ya_steps, ya_place, ya_choice, ya_bound, ya_took, ya_nodeOf, ya_chosen, ya_far)) : ∀ n i, i ≤ j → j - i < n → wY_edge_41 post x1 x2 x3 x4 yf_level yf_parts yf_pending yf_conditions yf_spelled yf_depth yf_used yf_weight yf_found yf_lightest yf_some yf_sum ya_labels ya_properties ya_from ya_to ya_types ya_weights ya_variable ya_wanted ya_among ya_direction ya_low ya_high ya_tokens ya_condition ya_expression ya_stack ya_part ya_steps ya_place ya_choice ya_bound ya_took ya_nodeOf ya_chosen ya_far n (nI i) := by
  obtain ⟨h1, h2, h3⟩ := F
  intro n
  induction n with
  | zero => intro i _ hn; omega
  | succ n ih =>
    intro i hi hn
    by_cases e : i = 12
    · subst e
      exact br_t (nI_le (b := 12) (Nat.le_refl _) (by omega)) (h8 (by omega))
    · have c : (nI i).toNatClampNeg = i := nI_clamp (by omega)
      have v : vp_in (nI i) 60 := vp_in_nI (by omega) (by omega)
      refine br_f (nI_ge (b := 12) (by omega) (by omega)) (y_isEdge G (fun z => br_f (by decide) (nm_r (nI_1 i) (ih (i + 1) ?_ ?_))) (fun z => br_t rfl ⟨v, nm_r (e' := upd ya_from j x1) ?_ ⟨v, nm_r (e' := upd ya_to j x2) ?_ ⟨v, nm_r (e' := upd ya_types j x3) ?_ ⟨v, nm_r (e' := upd ya_weights j x4) ?_ ?_⟩⟩⟩⟩))
      · obtain ⟨m, hm, em, zm⟩ := z
        have : i = m := (nI_eq (by omega) (by omega)).mp em
        subst this
        by_cases y : i = j
        · subst y; exact absurd (h3.resolve_left e) zm
        · omega
      · obtain ⟨m, hm, em, zm⟩ := z
        have : i = m := (nI_eq (by omega) (by omega)).mp em
        subst this
        by_cases y : i = j
        · subst y; exact absurd (h3.resolve_left e) zm
        · omega
      all_goals
        have y : i = j := by
          by_cases y : i = j
          · exact y
          · exact absurd ⟨i, by omega, rfl, h2 i (by omega)⟩ z
        subst y
      · rw [c]
      · rw [c]
      · rw [c]
      · rw [c]
      · exact h (by omega)
/-- copying the graph from copy a to copy b -/
theorem y_copy_60 {post : SY → Prop} {a b : Nat} (ha : a < 5) (hb : b < 5) (h : ∀ fr to ty wt, (∀ j, (∀ e, e < 12 → j ≠ 12 * b + e) → fr j = ya_from j ∧ to j = ya_to j ∧ ty j = ya_types j ∧ wt j = ya_weights j) → (∀ e, e < 12 → fr (12 * b + e) = ya_from (12 * a + e) ∧ to (12 * b + e) = ya_to (12 * a + e) ∧ ty (12 * b + e) = ya_types (12 * a + e) ∧ wt (12 * b + e) = ya_weights (12 * a + e)) → post (yf_level, yf_parts, yf_pending, yf_conditions, yf_spelled, yf_depth, yf_used, yf_weight, yf_found, yf_lightest, yf_some, yf_sum, ya_labels, ya_properties, fr, to, ty, wt, ya_variable, ya_wanted, ya_among, ya_direction, ya_low, ya_high, ya_tokens, ya_condition, ya_expression, ya_stack, ya_part, ya_steps, ya_place, ya_choice, ya_bound, ya_took, ya_nodeOf, ya_chosen, ya_far)) (hab : a ≠ b) : ∀ n m fr to ty wt, m ≤ 12 → 12 - m < n → (∀ j, (∀ e, e < m → j ≠ 12 * b + e) → fr j = ya_from j ∧ to j = ya_to j ∧ ty j = ya_types j ∧ wt j = ya_weights j) → (∀ e, e < m → fr (12 * b + e) = ya_from (12 * a + e) ∧ to (12 * b + e) = ya_to (12 * a + e) ∧ ty (12 * b + e) = ya_types (12 * a + e) ∧ wt (12 * b + e) = ya_weights (12 * a + e)) → wY_copy_60 post (nI a) (nI b) yf_level yf_parts yf_pending yf_conditions yf_spelled yf_depth yf_used yf_weight yf_found yf_lightest yf_some yf_sum n (nI m) ya_labels ya_properties fr to ty wt ya_variable ya_wanted ya_among ya_direction ya_low ya_high ya_tokens ya_condition ya_expression ya_stack ya_part ya_steps ya_place ya_choice ya_bound ya_took ya_nodeOf ya_chosen ya_far := by
  intro n
  induction n with
  | zero => intro m fr to ty wt _ hn; omega
  | succ n ih =>
    intro m fr to ty wt hm hn I1 I2
    by_cases e : m = 12
    · subst e
      exact br_t (nI_le (b := 12) (Nat.le_refl _) (by omega)) (h fr to ty wt I1 I2)
    · have hm : m < 12 := by omega
      have ea : (12 : Int32) * nI a + nI m = nI (12 * a + m) := by
        have : (12 : Int32) * nI a = nI (12 * a) := pk_mul 12 a
        rw [this, nI_add]
      have eb : (12 : Int32) * nI b + nI m = nI (12 * b + m) := by
        have : (12 : Int32) * nI b = nI (12 * b) := pk_mul 12 b
        rw [this, nI_add]
      have va : vp_in ((12 : Int32) * nI a + nI m) 60 := by rw [ea]; exact vp_in_nI (by omega) (by omega)
      have vb : vp_in ((12 : Int32) * nI b + nI m) 60 := by rw [eb]; exact vp_in_nI (by omega) (by omega)
      have ca : ((12 : Int32) * nI a + nI m).toNatClampNeg = 12 * a + m := by rw [ea, nI_clamp (by omega)]
      have cb : ((12 : Int32) * nI b + nI m).toNatClampNeg = 12 * b + m := by rw [eb, nI_clamp (by omega)]
      have src := I1 (12 * a + m) (fun e he => by omega)
      refine br_f (nI_ge (b := 12) hm (by omega)) ⟨va, vb, nm_r (e' := upd fr (12 * b + m) (ya_from (12 * a + m))) (by rw [ca, cb, src.1]) ⟨va, vb, nm_r (e' := upd to (12 * b + m) (ya_to (12 * a + m))) (by rw [ca, cb, src.2.1]) ⟨va, vb, nm_r (e' := upd ty (12 * b + m) (ya_types (12 * a + m))) (by rw [ca, cb, src.2.2.1]) ⟨va, vb, nm_r (e' := upd wt (12 * b + m) (ya_weights (12 * a + m))) (by rw [ca, cb, src.2.2.2]) (nm_r (nI_1 m) (ih (m + 1) _ _ _ _ (by omega) (by omega) (fun j hj => ?_) (fun e he => ?_)))⟩⟩⟩⟩
      · have q := hj m (by omega)
        rw [pk_un q, pk_un q, pk_un q, pk_un q]
        exact I1 j (fun e he => hj e (by omega))
      · by_cases y : e = m
        · subst y; rw [pk_us, pk_us, pk_us, pk_us]; exact ⟨rfl, rfl, rfl, rfl⟩
        · have q : 12 * b + e ≠ 12 * b + m := by omega
          rw [pk_un q, pk_un q, pk_un q, pk_un q]
          exact I2 e (by omega)
theorem y_copy {post : SY → Prop} {a b : Nat} (ha : a < 5) (hb : b < 5) (hab : a ≠ b) (h : ∀ lb pr fr to ty wt, (∀ j, (∀ e, e < 8 → j ≠ 8 * b + e) → lb j = ya_labels j ∧ pr j = ya_properties j) → (∀ e, e < 8 → lb (8 * b + e) = ya_labels (8 * a + e) ∧ pr (8 * b + e) = ya_properties (8 * a + e)) → (∀ j, (∀ e, e < 12 → j ≠ 12 * b + e) → fr j = ya_from j ∧ to j = ya_to j ∧ ty j = ya_types j ∧ wt j = ya_weights j) → (∀ e, e < 12 → fr (12 * b + e) = ya_from (12 * a + e) ∧ to (12 * b + e) = ya_to (12 * a + e) ∧ ty (12 * b + e) = ya_types (12 * a + e) ∧ wt (12 * b + e) = ya_weights (12 * a + e)) → post (yf_level, yf_parts, yf_pending, yf_conditions, yf_spelled, yf_depth, yf_used, yf_weight, yf_found, yf_lightest, yf_some, yf_sum, lb, pr, fr, to, ty, wt, ya_variable, ya_wanted, ya_among, ya_direction, ya_low, ya_high, ya_tokens, ya_condition, ya_expression, ya_stack, ya_part, ya_steps, ya_place, ya_choice, ya_bound, ya_took, ya_nodeOf, ya_chosen, ya_far)) : wpY_copy post (yf_level, yf_parts, yf_pending, yf_conditions, yf_spelled, yf_depth, yf_used, yf_weight, yf_found, yf_lightest, yf_some, yf_sum, ya_labels, ya_properties, ya_from, ya_to, ya_types, ya_weights, ya_variable, ya_wanted, ya_among, ya_direction, ya_low, ya_high, ya_tokens, ya_condition, ya_expression, ya_stack, ya_part, ya_steps, ya_place, ya_choice, ya_bound, ya_took, ya_nodeOf, ya_chosen, ya_far) (nI a) (nI b) := by
  unfold wpY_copy
  have key : ∀ n m lb pr, m ≤ 8 → 8 - m < n → (∀ j, (∀ e, e < m → j ≠ 8 * b + e) → lb j = ya_labels j ∧ pr j = ya_properties j) → (∀ e, e < m → lb (8 * b + e) = ya_labels (8 * a + e) ∧ pr (8 * b + e) = ya_properties (8 * a + e)) → wY_copy_2 post (nI a) (nI b) yf_level yf_parts yf_pending yf_conditions yf_spelled yf_depth yf_used yf_weight yf_found yf_lightest yf_some yf_sum n (nI m) lb pr ya_from ya_to ya_types ya_weights ya_variable ya_wanted ya_among ya_direction ya_low ya_high ya_tokens ya_condition ya_expression ya_stack ya_part ya_steps ya_place ya_choice ya_bound ya_took ya_nodeOf ya_chosen ya_far := by
    intro n
    induction n with
    | zero => intro m lb pr _ hn; omega
    | succ n ih =>
      intro m lb pr hm hn I1 I2
      by_cases e : m = 8
      · subst e
        exact br_t (nI_le (b := 8) (Nat.le_refl _) (by omega)) ⟨13, y_copy_60 ha hb (fun fr to ty wt q1 q2 => h lb pr fr to ty wt I1 I2 q1 q2) hab 13 0 _ _ _ _ (by omega) (by omega) (fun j _ => ⟨rfl, rfl, rfl, rfl⟩) (fun e he => absurd he (Nat.not_lt_zero e))⟩
      · have hm : m < 8 := by omega
        have ea : (8 : Int32) * nI a + nI m = nI (8 * a + m) := by
          have : (8 : Int32) * nI a = nI (8 * a) := pk_mul 8 a
          rw [this, nI_add]
        have eb : (8 : Int32) * nI b + nI m = nI (8 * b + m) := by
          have : (8 : Int32) * nI b = nI (8 * b) := pk_mul 8 b
          rw [this, nI_add]
        have va : vp_in ((8 : Int32) * nI a + nI m) 40 := by rw [ea]; exact vp_in_nI (by omega) (by omega)
        have vb : vp_in ((8 : Int32) * nI b + nI m) 40 := by rw [eb]; exact vp_in_nI (by omega) (by omega)
        have ca : ((8 : Int32) * nI a + nI m).toNatClampNeg = 8 * a + m := by rw [ea, nI_clamp (by omega)]
        have cb : ((8 : Int32) * nI b + nI m).toNatClampNeg = 8 * b + m := by rw [eb, nI_clamp (by omega)]
        have src := I1 (8 * a + m) (fun e he => by omega)
        refine br_f (nI_ge (b := 8) hm (by omega)) ⟨va, vb, nm_r (e' := upd lb (8 * b + m) (ya_labels (8 * a + m))) (by rw [ca, cb, src.1]) ⟨va, vb, nm_r (e' := vp_updL pr (8 * b + m) (ya_properties (8 * a + m))) (by rw [ca, cb, src.2]) (nm_r (nI_1 m) (ih (m + 1) _ _ (by omega) (by omega) (fun j hj => ?_) (fun e he => ?_)))⟩⟩
        · have q := hj m (by omega)
          rw [pk_un q, pk_uLn q]
          exact I1 j (fun e he => hj e (by omega))
        · by_cases y : e = m
          · subst y; rw [pk_us, pk_uLs]; exact ⟨rfl, rfl⟩
          · have q : 8 * b + e ≠ 8 * b + m := by omega
            rw [pk_un q, pk_uLn q]
            exact I2 e (by omega)
  exact ⟨9, key 9 0 _ _ (by omega) (by omega) (fun j _ => ⟨rfl, rfl⟩) (fun e he => absurd he (Nat.not_lt_zero e))⟩
end
end
section
/-! walks spelled by an expression; positions (plain law) -/
abbrev WW := Nat → Nat → Nat → Prop
def wk_L (t : Nat) : WW → WW := fun st i j n => n = 1 ∧ st t i j
def wk_C (A B : WW → WW) : WW → WW := fun st i j n => ∃ m a b, A st i m a ∧ B st m j b ∧ n = a + b
def wk_U (A B : WW → WW) : WW → WW := fun st i j n => A st i j n ∨ B st i j n
def wk_P (A : WW) : Nat → WW
  | 0 => fun i j n => i = j ∧ n = 0
  | k + 1 => fun i j n => ∃ m a b, A i m a ∧ wk_P A k m j b ∧ n = a + b
def wk_S (A : WW → WW) : WW → WW := fun st i j n => ∃ k, wk_P (A st) k i j n
def wk_O (A : WW → WW) : WW → WW := fun st i j n => A st i j n ∨ (i = j ∧ n = 0)
theorem wk_P_app {A : WW} : ∀ {k i x a m b}, wk_P A k i x a → A x m b → wk_P A (k + 1) i m (a + b)
  | 0, i, x, a, m, b, h, q => by
    obtain ⟨rfl, rfl⟩ := h
    exact ⟨m, b, 0, q, ⟨rfl, rfl⟩, by omega⟩
  | k + 1, i, x, a, m, b, h, q => by
    obtain ⟨y, c, d, h1, h2, rfl⟩ := h
    exact ⟨y, c, d + b, h1, wk_P_app h2 q, by omega⟩
def wk_R (st : WW) (le : Nat → Nat) (F : Nat → Prop) (fo : Nat → Nat → Prop) (i : Nat) : Nat → Nat → Nat → Prop
  | 0 => fun p m => F p ∧ st (le p) i m
  | k + 1 => fun p m => ∃ p' m', wk_R st le F fo i k p' m' ∧ fo p' p ∧ st (le p) m' m
def wk_G (st : WW) (le : Nat → Nat) (F L : Nat → Prop) (nul : Prop) (fo : Nat → Nat → Prop) : WW := fun i j n => (nul ∧ i = j ∧ n = 0) ∨ ∃ k p, n = k + 1 ∧ L p ∧ wk_R st le F fo i k p j
section
variable {st : WW} {le le' : Nat → Nat} {F F' L : Nat → Prop} {fo fo' : Nat → Nat → Prop} {r : Nat → Prop}
theorem wk_R_mono (h1 : ∀ p, F p → F' p) (h2 : ∀ p' p, fo p' p → fo' p' p) {i : Nat} : ∀ {k p m}, wk_R st le F fo i k p m → wk_R st le F' fo' i k p m
  | 0, p, m, h => ⟨h1 p h.1, h.2⟩
  | k + 1, p, m, h => by
    obtain ⟨p', m', a, b, c⟩ := h
    exact ⟨p', m', wk_R_mono h1 h2 a, h2 _ _ b, c⟩
theorem wk_R_in (h1 : ∀ p, F p → r p) (h2 : ∀ p' p, r p' → fo p' p → r p) {i : Nat} : ∀ {k p m}, wk_R st le F fo i k p m → r p
  | 0, p, m, h => h1 p h.1
  | k + 1, p, m, h => by
    obtain ⟨p', m', a, b, c⟩ := h
    exact h2 _ _ (wk_R_in h1 h2 a) b
theorem wk_R_cong (h1 : ∀ p, F p → r p) (h2 : ∀ p' p, r p' → fo p' p → r p) (h3 : ∀ p, r p → le p = le' p) (h4 : ∀ p' p, r p' → fo p' p → fo' p' p) {i : Nat} : ∀ {k p m}, wk_R st le F fo i k p m → wk_R st le' F fo' i k p m
  | 0, p, m, h => ⟨h.1, by rw [← h3 p (h1 p h.1)]; exact h.2⟩
  | k + 1, p, m, h => by
    obtain ⟨p', m', a, b, c⟩ := h
    have q := wk_R_in h1 h2 a
    exact ⟨p', m', wk_R_cong h1 h2 h3 h4 a, h4 _ _ q b, by rw [← h3 p (h2 _ _ q b)]; exact c⟩
theorem wk_R_app {i k p' x : Nat} (h : wk_R st le F fo i k p' x) {F2 : Nat → Prop} {fo2 : Nat → Nat → Prop} (h1 : ∀ p, F2 p → fo p' p) (h2 : ∀ a b, fo2 a b → fo a b) : ∀ {l p m}, wk_R st le F2 fo2 x l p m → wk_R st le F fo i (k + 1 + l) p m
  | 0, p, m, q => ⟨p', x, h, h1 p q.1, q.2⟩
  | l + 1, p, m, q => by
    obtain ⟨p2, m2, a, b, c⟩ := q
    exact ⟨p2, m2, wk_R_app h h1 h2 a, h2 _ _ b, c⟩
end
/-- an entry of the stack: its positions, closed -/
def wk_cl (r F L : Nat → Prop) (fo : Nat → Nat → Prop) : Prop := (∀ p, F p → r p) ∧ (∀ p, L p → r p) ∧ (∀ p' p, r p' → fo p' p → r p)
theorem wk_G_cong {st : WW} {le le' : Nat → Nat} {F L r : Nat → Prop} {fo fo' : Nat → Nat → Prop} {nul : Prop} (c : wk_cl r F L fo) (h3 : ∀ p, r p → le p = le' p) (h4 : ∀ p' p, r p' → (fo p' p ↔ fo' p' p)) (i j n : Nat) : wk_G st le F L nul fo i j n ↔ wk_G st le' F L nul fo' i j n := by
  constructor
  · rintro (h | ⟨k, p, e, l, h⟩)
    · exact Or.inl h
    · exact Or.inr ⟨k, p, e, l, wk_R_cong c.1 c.2.2 h3 (fun a b q => (h4 a b q).mp) h⟩
  · rintro (h | ⟨k, p, e, l, h⟩)
    · exact Or.inl h
    · exact Or.inr ⟨k, p, e, l, wk_R_cong c.1 (fun a b q z => c.2.2 a b q ((h4 a b q).mpr z)) (fun p q => (h3 p q).symm) (fun a b q => (h4 a b q).mpr) h⟩
theorem wk_cat {st : WW} {le : Nat → Nat} {A B : WW} {ra rb Fa La Fb Lb : Nat → Prop} {na nb : Prop} {fo fo1 : Nat → Nat → Prop} (hA : ∀ i j n, A i j n ↔ wk_G st le Fa La na fo i j n) (hB : ∀ i j n, B i j n ↔ wk_G st le Fb Lb nb fo i j n) (ca : wk_cl ra Fa La fo) (cb : wk_cl rb Fb Lb fo) (hd : ∀ p, ra p → rb p → False) (h1 : ∀ p' p, fo1 p' p ↔ fo p' p ∨ (La p' ∧ Fb p)) (i j n : Nat) : (∃ m a b, A i m a ∧ B m j b ∧ n = a + b) ↔ wk_G st le (fun p => Fa p ∨ (na ∧ Fb p)) (fun p => Lb p ∨ (nb ∧ La p)) (na ∧ nb) fo1 i j n := by
  have m1 : ∀ p' p, fo p' p → fo1 p' p := fun a b q => (h1 a b).mpr (Or.inl q)
  constructor
  · rintro ⟨m, a, b, x, y, rfl⟩
    rw [hA] at x
    rw [hB] at y
    rcases x with ⟨q, rfl, rfl⟩ | ⟨k, p, rfl, l, x⟩
    · rcases y with ⟨q2, rfl, rfl⟩ | ⟨k, p, rfl, l, y⟩
      · exact Or.inl ⟨⟨q, q2⟩, rfl, rfl⟩
      · exact Or.inr ⟨k, p, by omega, Or.inl l, wk_R_mono (fun p z => Or.inr ⟨q, z⟩) m1 y⟩
    · rcases y with ⟨q2, rfl, rfl⟩ | ⟨k2, p2, rfl, l2, y⟩
      · exact Or.inr ⟨k, p, by omega, Or.inr ⟨q2, l⟩, wk_R_mono (fun p z => Or.inl z) m1 x⟩
      · refine Or.inr ⟨k + 1 + k2, p2, by omega, Or.inl l2, ?_⟩
        exact wk_R_app (wk_R_mono (fun p z => Or.inl z) m1 x) (fun p z => (h1 _ _).mpr (Or.inr ⟨l, z⟩)) m1 y
  · have key : ∀ k p m, wk_R st le (fun p => Fa p ∨ (na ∧ Fb p)) fo1 i k p m → (ra p ∧ wk_R st le Fa fo i k p m) ∨ (rb p ∧ ((na ∧ wk_R st le Fb fo i k p m) ∨ ∃ x c d pa, La pa ∧ wk_R st le Fa fo i c pa x ∧ wk_R st le Fb fo x d p m ∧ k = c + 1 + d)) := by
      intro k
      induction k with
      | zero =>
        rintro p m ⟨z | ⟨z, z2⟩, q⟩
        · exact Or.inl ⟨ca.1 p z, z, q⟩
        · exact Or.inr ⟨cb.1 p z2, Or.inl ⟨z, z2, q⟩⟩
      | succ k ih =>
        rintro p m ⟨p', m', a, b, c⟩
        rcases ih p' m' a with ⟨z, y⟩ | ⟨z, y⟩
        · rcases (h1 _ _).mp b with b | ⟨b1, b2⟩
          · exact Or.inl ⟨ca.2.2 _ _ z b, p', m', y, b, c⟩
          · exact Or.inr ⟨cb.1 p b2, Or.inr ⟨m', k, 0, p', b1, y, ⟨b2, c⟩, by omega⟩⟩
        · have b : fo p' p := by
            rcases (h1 _ _).mp b with b | ⟨b1, _⟩
            · exact b
            · exact (hd p' (ca.2.1 _ b1) z).elim
          refine Or.inr ⟨cb.2.2 _ _ z b, ?_⟩
          rcases y with ⟨y1, y2⟩ | ⟨x, c', d, pa, l, y1, y2, e⟩
          · exact Or.inl ⟨y1, p', m', y2, b, c⟩
          · exact Or.inr ⟨x, c', d + 1, pa, l, y1, ⟨p', m', y2, b, c⟩, by omega⟩
    rintro (⟨⟨q, q2⟩, rfl, rfl⟩ | ⟨k, p, rfl, l, x⟩)
    · exact ⟨i, 0, 0, (hA _ _ _).mpr (Or.inl ⟨q, rfl, rfl⟩), (hB _ _ _).mpr (Or.inl ⟨q2, rfl, rfl⟩), rfl⟩
    · rcases key k p j x with ⟨z, y⟩ | ⟨z, y⟩
      · rcases l with l | ⟨l1, l2⟩
        · exact (hd p z (cb.2.1 p l)).elim
        · exact ⟨j, k + 1, 0, (hA _ _ _).mpr (Or.inr ⟨k, p, rfl, l2, y⟩), (hB _ _ _).mpr (Or.inl ⟨l1, rfl, rfl⟩), rfl⟩
      · have l : Lb p := by
          rcases l with l | ⟨_, l2⟩
          · exact l
          · exact (hd p (ca.2.1 p l2) z).elim
        rcases y with ⟨y1, y2⟩ | ⟨x, c', d, pa, lp, y1, y2, e⟩
        · exact ⟨i, 0, k + 1, (hA _ _ _).mpr (Or.inl ⟨y1, rfl, rfl⟩), (hB _ _ _).mpr (Or.inr ⟨k, p, rfl, l, y2⟩), by omega⟩
        · exact ⟨x, c' + 1, d + 1, (hA _ _ _).mpr (Or.inr ⟨c', pa, rfl, lp, y1⟩), (hB _ _ _).mpr (Or.inr ⟨d, p, rfl, l, y2⟩), by omega⟩
theorem wk_alt {st : WW} {le : Nat → Nat} {A B : WW} {ra rb Fa La Fb Lb : Nat → Prop} {na nb : Prop} {fo : Nat → Nat → Prop} (hA : ∀ i j n, A i j n ↔ wk_G st le Fa La na fo i j n) (hB : ∀ i j n, B i j n ↔ wk_G st le Fb Lb nb fo i j n) (ca : wk_cl ra Fa La fo) (cb : wk_cl rb Fb Lb fo) (hd : ∀ p, ra p → rb p → False) (i j n : Nat) : (A i j n ∨ B i j n) ↔ wk_G st le (fun p => Fa p ∨ Fb p) (fun p => Lb p ∨ La p) (na ∨ nb) fo i j n := by
  constructor
  · rintro (x | y)
    · rw [hA] at x
      rcases x with ⟨q, rfl, rfl⟩ | ⟨k, p, rfl, l, x⟩
      · exact Or.inl ⟨Or.inl q, rfl, rfl⟩
      · exact Or.inr ⟨k, p, rfl, Or.inr l, wk_R_mono (fun p z => Or.inl z) (fun _ _ z => z) x⟩
    · rw [hB] at y
      rcases y with ⟨q, rfl, rfl⟩ | ⟨k, p, rfl, l, y⟩
      · exact Or.inl ⟨Or.inr q, rfl, rfl⟩
      · exact Or.inr ⟨k, p, rfl, Or.inl l, wk_R_mono (fun p z => Or.inr z) (fun _ _ z => z) y⟩
  · have key : ∀ k p m, wk_R st le (fun p => Fa p ∨ Fb p) fo i k p m → (ra p ∧ wk_R st le Fa fo i k p m) ∨ (rb p ∧ wk_R st le Fb fo i k p m) := by
      intro k
      induction k with
      | zero =>
        rintro p m ⟨z | z, q⟩
        · exact Or.inl ⟨ca.1 p z, z, q⟩
        · exact Or.inr ⟨cb.1 p z, z, q⟩
      | succ k ih =>
        rintro p m ⟨p', m', a, b, c⟩
        rcases ih p' m' a with ⟨z, y⟩ | ⟨z, y⟩
        · exact Or.inl ⟨ca.2.2 _ _ z b, p', m', y, b, c⟩
        · exact Or.inr ⟨cb.2.2 _ _ z b, p', m', y, b, c⟩
    rintro (⟨q | q, rfl, rfl⟩ | ⟨k, p, rfl, l, x⟩)
    · exact Or.inl ((hA _ _ _).mpr (Or.inl ⟨q, rfl, rfl⟩))
    · exact Or.inr ((hB _ _ _).mpr (Or.inl ⟨q, rfl, rfl⟩))
    · rcases key k p j x with ⟨z, y⟩ | ⟨z, y⟩
      · rcases l with l | l
        · exact (hd p z (cb.2.1 p l)).elim
        · exact Or.inl ((hA _ _ _).mpr (Or.inr ⟨k, p, rfl, l, y⟩))
      · rcases l with l | l
        · exact Or.inr ((hB _ _ _).mpr (Or.inr ⟨k, p, rfl, l, y⟩))
        · exact (hd p (ca.2.1 p l) z).elim
section
variable {st : WW} {le : Nat → Nat} {A : WW} {F L : Nat → Prop} {na : Prop} {fo fo1 : Nat → Nat → Prop}
theorem wk_star1 (hA : ∀ i j n, A i j n ↔ wk_G st le F L na fo i j n) (h1 : ∀ p' p, fo1 p' p ↔ fo p' p ∨ (L p' ∧ F p)) : ∀ k i j n, wk_P A k i j n → wk_G st le F L True fo1 i j n := by
  have m1 : ∀ p' p, fo p' p → fo1 p' p := fun a b q => (h1 a b).mpr (Or.inl q)
  intro k
  induction k with
  | zero => rintro i j n ⟨rfl, rfl⟩; exact Or.inl ⟨trivial, rfl, rfl⟩
  | succ k ih =>
    rintro i j n ⟨m, a, b, x, y, rfl⟩
    have y := ih m j b y
    rw [hA] at x
    rcases x with ⟨q, rfl, rfl⟩ | ⟨k, p, rfl, l, x⟩
    · rw [Nat.zero_add]; exact y
    · rcases y with ⟨q2, rfl, rfl⟩ | ⟨k2, p2, rfl, l2, y⟩
      · exact Or.inr ⟨k, p, by omega, l, wk_R_mono (fun p z => z) m1 x⟩
      · exact Or.inr ⟨k + 1 + k2, p2, by omega, l2, wk_R_app (wk_R_mono (fun p z => z) m1 x) (fun p z => (h1 _ _).mpr (Or.inr ⟨l, z⟩)) (fun _ _ z => z) y⟩
theorem wk_star2 (hA : ∀ i j n, A i j n ↔ wk_G st le F L na fo i j n) (h1 : ∀ p' p, fo1 p' p ↔ fo p' p ∨ (L p' ∧ F p)) (i : Nat) : ∀ k p m, wk_R st le F fo1 i k p m → ∃ q x a b, wk_P A q i x a ∧ wk_R st le F fo x b p m ∧ k = a + b := by
  intro k
  induction k with
  | zero => rintro p m h; exact ⟨0, i, 0, 0, ⟨rfl, rfl⟩, h, rfl⟩
  | succ k ih =>
    rintro p m ⟨p', m', y, b, c⟩
    obtain ⟨q, x, a, d, s, t, e⟩ := ih p' m' y
    rcases (h1 _ _).mp b with b | ⟨b1, b2⟩
    · exact ⟨q, x, a, d + 1, s, ⟨p', m', t, b, c⟩, by omega⟩
    · exact ⟨q + 1, m', a + (d + 1), 0, wk_P_app s ((hA _ _ _).mpr (Or.inr ⟨d, p', rfl, b1, t⟩)), ⟨b2, c⟩, by omega⟩
theorem wk_star (hA : ∀ i j n, A i j n ↔ wk_G st le F L na fo i j n) (h1 : ∀ p' p, fo1 p' p ↔ fo p' p ∨ (L p' ∧ F p)) (i j n : Nat) : (∃ k, wk_P A k i j n) ↔ wk_G st le F L True fo1 i j n := by
  constructor
  · rintro ⟨k, h⟩
    exact wk_star1 hA h1 k i j n h
  · rintro (⟨_, rfl, rfl⟩ | ⟨k, p, rfl, l, x⟩)
    · exact ⟨0, rfl, rfl⟩
    · obtain ⟨q, x, a, d, s, t, e⟩ := wk_star2 hA h1 i k p j x
      have z := wk_P_app s ((hA _ _ _).mpr (Or.inr ⟨d, p, rfl, l, t⟩))
      exact ⟨q + 1, by rw [show k + 1 = a + (d + 1) by omega]; exact z⟩
theorem wk_plus (hA : ∀ i j n, A i j n ↔ wk_G st le F L na fo i j n) (h1 : ∀ p' p, fo1 p' p ↔ fo p' p ∨ (L p' ∧ F p)) (i j n : Nat) : (∃ m a b, A i m a ∧ (∃ k, wk_P A k m j b) ∧ n = a + b) ↔ wk_G st le F L na fo1 i j n := by
  have m1 : ∀ p' p, fo p' p → fo1 p' p := fun a b q => (h1 a b).mpr (Or.inl q)
  constructor
  · rintro ⟨m, a, b, x, ⟨k, y⟩, rfl⟩
    rw [hA] at x
    have y := wk_star1 hA h1 k m j b y
    rcases x with ⟨q, rfl, rfl⟩ | ⟨k, p, rfl, l, x⟩
    · rw [Nat.zero_add]
      rcases y with ⟨q2, z⟩ | y
      · exact Or.inl ⟨q, z⟩
      · exact Or.inr y
    · rcases y with ⟨q2, rfl, rfl⟩ | ⟨k2, p2, rfl, l2, y⟩
      · exact Or.inr ⟨k, p, by omega, l, wk_R_mono (fun p z => z) m1 x⟩
      · exact Or.inr ⟨k + 1 + k2, p2, by omega, l2, wk_R_app (wk_R_mono (fun p z => z) m1 x) (fun p z => (h1 _ _).mpr (Or.inr ⟨l, z⟩)) (fun _ _ z => z) y⟩
  · rintro (⟨q, rfl, rfl⟩ | ⟨k, p, rfl, l, x⟩)
    · exact ⟨i, 0, 0, (hA _ _ _).mpr (Or.inl ⟨q, rfl, rfl⟩), ⟨0, rfl, rfl⟩, rfl⟩
    · obtain ⟨q, x, a, d, s, t, e⟩ := wk_star2 hA h1 i k p j x
      have z := wk_P_app s ((hA _ _ _).mpr (Or.inr ⟨d, p, rfl, l, t⟩))
      obtain ⟨m, a1, b1, u, v, w⟩ := z
      exact ⟨m, a1, b1, u, ⟨q, v⟩, by omega⟩
end
theorem wk_opt {st : WW} {le : Nat → Nat} {A : WW} {F L : Nat → Prop} {na : Prop} {fo : Nat → Nat → Prop} (hA : ∀ i j n, A i j n ↔ wk_G st le F L na fo i j n) (i j n : Nat) : (A i j n ∨ (i = j ∧ n = 0)) ↔ wk_G st le F L True fo i j n := by
  rw [hA]
  constructor
  · rintro ((⟨_, h⟩ | h) | h)
    · exact Or.inl ⟨trivial, h⟩
    · exact Or.inr h
    · exact Or.inl ⟨trivial, h⟩
  · rintro (⟨_, h⟩ | h)
    · exact Or.inr h
    · exact Or.inl (Or.inr h)
theorem wk_let {st : WW} {le : Nat → Nat} {t q : Nat} {fo : Nat → Nat → Prop} (hq : le q = t) (hf : ∀ p, ¬ fo q p) (i j n : Nat) : (n = 1 ∧ st t i j) ↔ wk_G st le (fun p => p = q) (fun p => p = q) False fo i j n := by
  constructor
  · rintro ⟨rfl, h⟩
    exact Or.inr ⟨0, q, rfl, rfl, rfl, by rw [hq]; exact h⟩
  · rintro (⟨h, _⟩ | ⟨k, p, rfl, rfl, x⟩)
    · exact h.elim
    · have e : ∀ k p m, wk_R st le (fun x => x = p) fo i k p m → True := fun _ _ _ _ => trivial
      cases k with
      | zero => exact ⟨rfl, by rw [← hq]; exact x.2⟩
      | succ k =>
        obtain ⟨p', m', a, b, c⟩ := x
        have z : p' = p := wk_R_in (r := fun x => x = p) (fun _ h => h) (fun a b h1 h2 => by subst h1; exact (hf _ h2).elim) a
        subst z
        exact (hf _ b).elim
end
section
/-! tables of least distances (plain law) -/
def fw_M (A : WW) (D : Nat → Nat → Nat) : Prop := ∀ i j, i < 8 → j < 8 → D i j ≤ 1000000 ∧ ∀ n, n < 1000000 → (D i j ≤ n ↔ ∃ n', n' ≤ n ∧ A i j n')
def fw_8 (A : WW) : Prop := ∀ i j n, A i j n → i < 8 → j < 8
theorem fw_8C {A B : WW → WW} {st : WW} (a : fw_8 (A st)) (b : fw_8 (B st)) : fw_8 (wk_C A B st) := by
  rintro i j n ⟨m, x, y, h1, h2, _⟩ hi
  exact b _ _ _ h2 (a _ _ _ h1 hi)
theorem fw_8U {A B : WW → WW} {st : WW} (a : fw_8 (A st)) (b : fw_8 (B st)) : fw_8 (wk_U A B st) := by
  rintro i j n (h | h) hi
  · exact a _ _ _ h hi
  · exact b _ _ _ h hi
theorem fw_8P {A : WW} (a : fw_8 A) : ∀ k i j n, wk_P A k i j n → i < 8 → j < 8 := by
  intro k
  induction k with
  | zero => rintro i j n ⟨rfl, _⟩ hi; exact hi
  | succ k ih =>
    rintro i j n ⟨m, x, y, h1, h2, _⟩ hi
    exact ih _ _ _ h2 (a _ _ _ h1 hi)
theorem fw_8S {A : WW → WW} {st : WW} (a : fw_8 (A st)) : fw_8 (wk_S A st) := by
  rintro i j n ⟨k, h⟩ hi
  exact fw_8P a k i j n h hi
theorem fw_8O {A : WW → WW} {st : WW} (a : fw_8 (A st)) : fw_8 (wk_O A st) := by
  rintro i j n (h | ⟨rfl, _⟩) hi
  · exact a _ _ _ h hi
  · exact hi
theorem fw_8L {st : WW} {t : Nat} (a : ∀ i j, st t i j → j < 8) : fw_8 (wk_L t st) := by
  rintro i j n ⟨_, h⟩ _
  exact a _ _ h
theorem fw_let {st : WW} {t : Nat} {D : Nat → Nat → Nat} (h : ∀ i j, i < 8 → j < 8 → (st t i j ∧ D i j = 1) ∨ (¬ st t i j ∧ D i j = 1000000)) : fw_M (wk_L t st) D := by
  intro i j hi hj
  rcases h i j hi hj with ⟨a, b⟩ | ⟨a, b⟩
  · refine ⟨by omega, fun n hn => ⟨fun q => ⟨1, by omega, rfl, a⟩, ?_⟩⟩
    rintro ⟨n', q, rfl, _⟩
    omega
  · refine ⟨by omega, fun n hn => ⟨fun q => by omega, ?_⟩⟩
    rintro ⟨n', q, _, z⟩
    exact (a z).elim
theorem fw_comp {A B : WW → WW} {st : WW} {Da Db D : Nat → Nat → Nat} (c : fw_8 (A st)) (hA : fw_M (A st) Da) (hB : fw_M (B st) Db) (h : ∀ i j, i < 8 → j < 8 → D i j ≤ 1000000 ∧ (∀ m, m < 8 → D i j ≤ Da i m + Db m j) ∧ (D i j = 1000000 ∨ ∃ m, m < 8 ∧ D i j = Da i m + Db m j)) : fw_M (wk_C A B st) D := by
  intro i j hi hj
  obtain ⟨h1, h2, h3⟩ := h i j hi hj
  refine ⟨h1, fun n hn => ⟨fun q => ?_, ?_⟩⟩
  · rcases h3 with h3 | ⟨m, hm, e⟩
    · omega
    · obtain ⟨a, ha, xa⟩ := ((hA i m hi hm).2 (Da i m) (by omega)).mp (Nat.le_refl _)
      obtain ⟨b, hb, xb⟩ := ((hB m j hm hj).2 (Db m j) (by omega)).mp (Nat.le_refl _)
      exact ⟨a + b, by omega, m, a, b, xa, xb, rfl⟩
  · rintro ⟨n', q, m, a, b, xa, xb, rfl⟩
    have hm := c _ _ _ xa hi
    have u := ((hA i m hi hm).2 a (by omega)).mpr ⟨a, Nat.le_refl _, xa⟩
    have v := ((hB m j hm hj).2 b (by omega)).mpr ⟨b, Nat.le_refl _, xb⟩
    have w := h2 m hm
    omega
theorem fw_min {A B : WW → WW} {st : WW} {Da Db D : Nat → Nat → Nat} (hA : fw_M (A st) Da) (hB : fw_M (B st) Db) (h : ∀ i j, i < 8 → j < 8 → D i j ≤ Da i j ∧ D i j ≤ Db i j ∧ (D i j = Da i j ∨ D i j = Db i j)) : fw_M (wk_U A B st) D := by
  intro i j hi hj
  obtain ⟨h1, h2, h3⟩ := h i j hi hj
  have a1 := hA i j hi hj
  have b1 := hB i j hi hj
  refine ⟨by omega, fun n hn => ⟨fun q => ?_, ?_⟩⟩
  · rcases h3 with h3 | h3
    · obtain ⟨a, ha, xa⟩ := (a1.2 n hn).mp (by omega)
      exact ⟨a, ha, Or.inl xa⟩
    · obtain ⟨a, ha, xa⟩ := (b1.2 n hn).mp (by omega)
      exact ⟨a, ha, Or.inr xa⟩
  · rintro ⟨n', q, x | x⟩
    · have := (a1.2 n hn).mpr ⟨n', q, x⟩
      omega
    · have := (b1.2 n hn).mpr ⟨n', q, x⟩
      omega
theorem fw_opt {A : WW → WW} {st : WW} {Da D : Nat → Nat → Nat} (hA : fw_M (A st) Da) (h : ∀ i j, i < 8 → j < 8 → D i j = if i = j then 0 else Da i j) : fw_M (wk_O A st) D := by
  intro i j hi hj
  have h1 := h i j hi hj
  have a1 := hA i j hi hj
  by_cases e : i = j
  · rw [if_pos e] at h1
    refine ⟨by omega, fun n hn => ⟨fun q => ⟨0, by omega, Or.inr ⟨e, rfl⟩⟩, fun _ => by omega⟩⟩
  · rw [if_neg e] at h1
    rw [h1]
    refine ⟨a1.1, fun n hn => ⟨fun q => ?_, ?_⟩⟩
    · obtain ⟨a, ha, xa⟩ := (a1.2 n hn).mp q
      exact ⟨a, ha, Or.inl xa⟩
    · rintro ⟨n', q, x | ⟨x, _⟩⟩
      · exact (a1.2 n hn).mpr ⟨n', q, x⟩
      · exact (e x).elim
/-! the closure by stages -/
def fw_P (D0 : Nat → Nat → Nat) (m : Nat) : Nat → WW
  | 0 => fun i j n => D0 i j ≤ n
  | k + 1 => fun i j n => ∃ x, x < m ∧ ∃ a b, D0 i x ≤ a ∧ fw_P D0 m k x j b ∧ a + b ≤ n
theorem fw_split (D0 : Nat → Nat → Nat) (m : Nat) : ∀ k i j n, fw_P D0 (m + 1) k i j n → (∃ k', fw_P D0 m k' i j n) ∨ ∃ k1 k2 a b, fw_P D0 m k1 i m a ∧ fw_P D0 m k2 m j b ∧ a + b ≤ n := by
  intro k
  induction k with
  | zero => intro i j n h; exact Or.inl ⟨0, h⟩
  | succ k ih =>
    rintro i j n ⟨x, hx, a, b, h1, h2, h3⟩
    by_cases e : x = m
    · subst e
      rcases ih _ _ _ h2 with ⟨k', z⟩ | ⟨k1, k2, a', b', z1, z2, z3⟩
      · exact Or.inr ⟨0, k', a, b, h1, z, h3⟩
      · exact Or.inr ⟨0, k2, a, b', h1, z2, by omega⟩
    · have hx : x < m := by omega
      rcases ih _ _ _ h2 with ⟨k', z⟩ | ⟨k1, k2, a', b', z1, z2, z3⟩
      · exact Or.inl ⟨k' + 1, x, hx, a, b, h1, z, h3⟩
      · exact Or.inr ⟨k1 + 1, k2, a + a', b', ⟨x, hx, a, a', h1, z1, Nat.le_refl _⟩, z2, by omega⟩
def fw_I (D0 : Nat → Nat → Nat) (A : WW) (m q : Nat) (D : Nat → Nat → Nat) : Prop := (∀ i j, i < 8 → j < 8 → D i j ≤ 1000000) ∧ (∀ i j, i < 8 → j < 8 → D i j < 1000000 → ∃ n k, n ≤ D i j ∧ wk_P A k i j n) ∧ (∀ i j, i < 8 → j < 8 → ∀ k n, fw_P D0 m k i j n → n < 1000000 → D i j ≤ n) ∧ (∀ i j, i < 8 → j < 8 → 8 * i + j < q → ∀ k n, fw_P D0 (m + 1) k i j n → n < 1000000 → D i j ≤ n)
theorem wk_P_cat {A : WW} : ∀ k i x a, wk_P A k i x a → ∀ l j b, wk_P A l x j b → wk_P A (k + l) i j (a + b) := by
  intro k
  induction k with
  | zero =>
    rintro i x a ⟨rfl, rfl⟩ l j b h
    rw [Nat.zero_add, Nat.zero_add]
    exact h
  | succ k ih =>
    rintro i x a ⟨m, c, d, h1, h2, rfl⟩ l j b h
    rw [show k + 1 + l = k + l + 1 by omega]
    exact ⟨m, c, d + b, h1, ih _ _ _ h2 _ _ _ h, by omega⟩
theorem fw_step {D0 : Nat → Nat → Nat} {A : WW} {m i0 j0 : Nat} {D D' : Nat → Nat → Nat} (hm : m < 8) (hi : i0 < 8) (hj : j0 < 8) (I : fw_I D0 A m (8 * i0 + j0) D) (hs : D' i0 j0 ≤ D i0 j0 ∧ D' i0 j0 ≤ D i0 m + D m j0 ∧ (D' i0 j0 = D i0 j0 ∨ D' i0 j0 = D i0 m + D m j0)) (hn : ∀ i j, i < 8 → j < 8 → ¬ (i = i0 ∧ j = j0) → D' i j = D i j) : fw_I D0 A m (8 * i0 + j0 + 1) D' := by
  obtain ⟨I1, I2, I3, I4⟩ := I
  have le : ∀ i j, i < 8 → j < 8 → D' i j ≤ D i j := by
    intro i j a b
    by_cases e : i = i0 ∧ j = j0
    · obtain ⟨rfl, rfl⟩ := e; exact hs.1
    · exact Nat.le_of_eq (hn i j a b e)
  refine ⟨fun i j a b => Nat.le_trans (le i j a b) (I1 i j a b), fun i j a b q => ?_, fun i j a b k n h z => Nat.le_trans (le i j a b) (I3 i j a b k n h z), fun i j a b q k n h z => ?_⟩
  · by_cases e : i = i0 ∧ j = j0
    · obtain ⟨rfl, rfl⟩ := e
      rcases hs.2.2 with e | e
      · rw [e] at q ⊢; exact I2 i j a b q
      · obtain ⟨n1, k1, u1, w1⟩ := I2 i m a hm (by omega)
        obtain ⟨n2, k2, u2, w2⟩ := I2 m j hm b (by omega)
        exact ⟨n1 + n2, k1 + k2, by omega, wk_P_cat _ _ _ _ w1 _ _ _ w2⟩
    · rw [hn i j a b e] at q ⊢; exact I2 i j a b q
  · by_cases e : i = i0 ∧ j = j0
    · obtain ⟨rfl, rfl⟩ := e
      rcases fw_split _ _ _ _ _ _ h with ⟨k', y⟩ | ⟨k1, k2, a', b', y1, y2, y3⟩
      · exact Nat.le_trans (le i j a b) (I3 i j a b k' n y z)
      · have u := I3 i m a hm k1 a' y1 (by omega)
        have v := I3 m j hm b k2 b' y2 (by omega)
        have := hs.2.1
        omega
    · exact Nat.le_trans (le i j a b) (I4 i j a b (by omega) k n h z)
theorem fw_next {D0 : Nat → Nat → Nat} {A : WW} {m : Nat} {D : Nat → Nat → Nat} (I : fw_I D0 A m 64 D) : fw_I D0 A (m + 1) 0 D :=
  ⟨I.1, I.2.1, fun i j a b k n h z => I.2.2.2 i j a b (by omega) k n h z, fun i j a b q => absurd q (Nat.not_lt_zero _)⟩
theorem fw_init {A : WW} {Da D0 : Nat → Nat → Nat} (hA : fw_M A Da) (h : ∀ i j, i < 8 → j < 8 → D0 i j = if i = j then 0 else Da i j) : fw_I D0 A 0 0 D0 := by
  have b0 : ∀ i j, i < 8 → j < 8 → D0 i j ≤ 1000000 := by
    intro i j a b
    rw [h i j a b]
    have := (hA i j a b).1
    split <;> omega
  refine ⟨b0, fun i j a b q => ?_, fun i j a b k n p z => ?_, fun i j a b q => absurd q (Nat.not_lt_zero _)⟩
  · rw [h i j a b] at q ⊢
    by_cases e : i = j
    · rw [if_pos e]; exact ⟨0, 0, Nat.le_refl _, e, rfl⟩
    · rw [if_neg e] at q ⊢
      obtain ⟨n, hn, x⟩ := ((hA i j a b).2 _ q).mp (Nat.le_refl _)
      exact ⟨n, 1, hn, j, n, 0, x, ⟨rfl, rfl⟩, rfl⟩
  · cases k with
    | zero => exact p
    | succ k =>
      obtain ⟨x, hx, _⟩ := p
      exact absurd hx (Nat.not_lt_zero x)
theorem fw_fin {A : WW → WW} {st : WW} {Da D0 D : Nat → Nat → Nat} (c : fw_8 (A st)) (hA : fw_M (A st) Da) (h : ∀ i j, i < 8 → j < 8 → D0 i j = if i = j then 0 else Da i j) (I : fw_I D0 (A st) 8 0 D) : fw_M (wk_S A st) D := by
  have le : ∀ i j n, i < 8 → n < 1000000 → A st i j n → D0 i j ≤ n := by
    intro i j n hi hn x
    have hj := c _ _ _ x hi
    rw [h i j hi hj]
    have := ((hA i j hi hj).2 n hn).mpr ⟨n, Nat.le_refl _, x⟩
    split <;> omega
  have key : ∀ k i j n, wk_P (A st) (k + 1) i j n → i < 8 → n < 1000000 → ∃ k', fw_P D0 8 k' i j n := by
    intro k
    induction k with
    | zero =>
      rintro i j n ⟨m, a, b, x, ⟨rfl, rfl⟩, rfl⟩ hi hn
      exact ⟨0, le _ _ _ hi hn x⟩
    | succ k ih =>
      rintro i j n ⟨m, a, b, x, y, rfl⟩ hi hn
      have hm := c _ _ _ x hi
      obtain ⟨k', z⟩ := ih m j b y hm (by omega)
      exact ⟨k' + 1, m, hm, a, b, le _ _ _ hi (by omega) x, z, Nat.le_refl _⟩
  intro i j hi hj
  refine ⟨I.1 i j hi hj, fun n hn => ⟨fun q => ?_, ?_⟩⟩
  · obtain ⟨n', k, a, b⟩ := I.2.1 i j hi hj (by omega)
    exact ⟨n', by omega, k, b⟩
  · rintro ⟨n', q, k, x⟩
    cases k with
    | zero =>
      obtain ⟨rfl, rfl⟩ := x
      refine I.2.2.1 i i hi hj 0 n ?_ hn
      show D0 i i ≤ n
      rw [h i i hi hj, if_pos rfl]
      exact Nat.zero_le _
    | succ k =>
      obtain ⟨k', z⟩ := key k i j n' x hi (by omega)
      exact Nat.le_trans (I.2.2.1 i j hi hj k' n' z (by omega)) q
end
section
/-! going by rounds (plain law): R k p m: position p at node m after k + 1 edges -/
section
variable {R : Nat → Nat → Nat → Prop} {X : Nat → Nat → Nat → Nat → Prop}
def bf_I (R : Nat → Nat → Nat → Prop) (l : Nat) (vis nx : Nat → Nat) : Prop := ∀ m, m < 8 → ∀ p, ((vis m).testBit p = true ↔ ∃ k, k < l ∧ R k p m) ∧ ((nx m).testBit p = true → R l p m) ∧ (R l p m → (nx m).testBit p = true ∨ (vis m).testBit p = true)
theorem bf_step (hR : ∀ k p m, R (k + 1) p m ↔ ∃ p' m', R k p' m' ∧ X p' m' p m) (h8 : ∀ k p m, R k p m → m < 8) {l : Nat} {vis nx nx' : Nat → Nat} (I : bf_I R l vis nx) (hx : ∀ m, m < 8 → ∀ p, (nx' m).testBit p = true ↔ ∃ p' m', m' < 8 ∧ (bb_nd (nx m') (vis m')).testBit p' = true ∧ X p' m' p m) : bf_I R (l + 1) (fun m => vis m ||| bb_nd (nx m) (vis m)) nx' := by
  intro m hm p
  obtain ⟨a, b, c⟩ := I m hm p
  refine ⟨?_, ?_, ?_⟩
  · dsimp only
    rw [Nat.testBit_or, bb_nd_t, Bool.or_eq_true, Bool.and_eq_true]
    constructor
    · rintro (z | ⟨z, _⟩)
      · obtain ⟨k, hk, y⟩ := a.mp z
        exact ⟨k, by omega, y⟩
      · exact ⟨l, by omega, b z⟩
    · rintro ⟨k, hk, y⟩
      by_cases e : k = l
      · subst e
        rcases c y with z | z
        · cases q : (vis m).testBit p
          · exact Or.inr ⟨z, rfl⟩
          · exact Or.inl rfl
        · exact Or.inl z
      · exact Or.inl (a.mpr ⟨k, by omega, y⟩)
  · intro z
    obtain ⟨p', m', h1, h2, h3⟩ := (hx m hm p).mp z
    rw [bb_nd_t, Bool.and_eq_true] at h2
    exact (hR l p m).mpr ⟨p', m', (I m' h1 p').2.1 h2.1, h3⟩
  · intro z
    obtain ⟨p', m', h1, h2⟩ := (hR l p m).mp z
    have hm' := h8 _ _ _ h1
    cases q : (vis m').testBit p'
    · left
      refine (hx m hm p).mpr ⟨p', m', hm', ?_, h2⟩
      rw [bb_nd_t, Bool.and_eq_true]
      refine ⟨?_, by rw [q]; rfl⟩
      rcases (I m' hm' p').2.2 h1 with y | y
      · exact y
      · rw [q] at y; exact absurd y (by decide)
    · right
      obtain ⟨k, hk, y⟩ := (I m' hm' p').1.mp q
      have y2 := (hR k p m).mpr ⟨p', m', y, h2⟩
      dsimp only
      rw [Nat.testBit_or, bb_nd_t, Bool.or_eq_true, Bool.and_eq_true]
      by_cases e : k + 1 = l
      · rw [e] at y2
        rcases c y2 with w | w
        · cases q2 : (vis m).testBit p
          · exact Or.inr ⟨w, rfl⟩
          · exact Or.inl rfl
        · exact Or.inl w
      · exact Or.inl (a.mpr ⟨k + 1, by omega, y2⟩)
theorem bf_end (hR : ∀ k p m, R (k + 1) p m ↔ ∃ p' m', R k p' m' ∧ X p' m' p m) (h8 : ∀ k p m, R k p m → m < 8) {l : Nat} {vis nx : Nat → Nat} (I : bf_I R l vis nx) (h0 : ∀ m, m < 8 → bb_nd (nx m) (vis m) = 0) : ∀ k p m, R k p m → ∃ k', k' < l ∧ R k' p m := by
  have hl : ∀ p m, R l p m → ∃ k', k' < l ∧ R k' p m := by
    intro p m y
    have hm := h8 _ _ _ y
    obtain ⟨a, b, c⟩ := I m hm p
    apply a.mp
    rcases c y with z | z
    · cases q : (vis m).testBit p
      · have t : (bb_nd (nx m) (vis m)).testBit p = true := by rw [bb_nd_t, z, q]; rfl
        rw [h0 m hm, Nat.zero_testBit] at t
        exact absurd t (by decide)
      · rfl
    · exact z
  intro k
  induction k with
  | zero =>
    intro p m y
    cases l with
    | zero => exact hl p m y
    | succ l => exact ⟨0, by omega, y⟩
  | succ k ih =>
    intro p m y
    obtain ⟨p', m', h1, h2⟩ := (hR k p m).mp y
    obtain ⟨k', hk, z⟩ := ih p' m' h1
    have z2 := (hR k' p m).mpr ⟨p', m', z, h2⟩
    by_cases e : k' + 1 = l
    · rw [e] at z2; exact hl p m z2
    · exact ⟨k' + 1, by omega, z2⟩
end
/-- what is still unvisited -/
def bf_mu (vis : Nat → Nat) : Nat → Nat
  | 0 => 0
  | n + 1 => bf_mu vis n + (1024 - vis n)
theorem bf_mu_le {a b : Nat → Nat} : ∀ n, (∀ m, m < n → a m ≤ b m) → bf_mu b n ≤ bf_mu a n
  | 0, _ => Nat.le_refl _
  | n + 1, h => by
    have := bf_mu_le n (fun m hm => h m (by omega))
    have := h n (by omega)
    simp only [bf_mu]
    omega
theorem bf_mu_lt {a b : Nat → Nat} {x : Nat} : ∀ n, (∀ m, m < n → a m ≤ b m) → x < n → a x < b x → b x < 1024 → bf_mu b n < bf_mu a n
  | 0, _, hx, _, _ => absurd hx (Nat.not_lt_zero x)
  | n + 1, h, hx, h1, h2 => by
    simp only [bf_mu]
    by_cases e : x = n
    · subst e
      have := bf_mu_le x (fun m hm => h m (by omega))
      omega
    · have := bf_mu_lt n (fun m hm => h m (by omega)) (by omega) h1 h2
      have := h n (by omega)
      omega
theorem bf_mu0 : ∀ n, bf_mu (fun _ => 0) n = 1024 * n
  | 0 => rfl
  | n + 1 => by simp only [bf_mu]; rw [bf_mu0 n]; omega
theorem bb_or_le (a b : Nat) : a ≤ a ||| b := by
  have h : a = a &&& (a ||| b) := by
    apply Nat.eq_of_testBit_eq
    intro i
    rw [Nat.testBit_and, Nat.testBit_or]
    cases a.testBit i <;> cases b.testBit i <;> rfl
  exact Nat.le_trans (Nat.le_of_eq h) Nat.and_le_right
theorem bb_or_lt {a b : Nat} (h : bb_nd b a ≠ 0) : a < a ||| bb_nd b a := by
  rcases Nat.lt_or_ge a (a ||| bb_nd b a) with z | z
  · exact z
  · have e : a ||| bb_nd b a = a := Nat.le_antisymm z (bb_or_le _ _)
    exfalso
    apply h
    apply Nat.eq_of_testBit_eq
    intro i
    have t : (a ||| bb_nd b a).testBit i = a.testBit i := by rw [e]
    rw [Nat.testBit_or] at t
    rw [Nat.zero_testBit]
    have u := bb_nd_t b a i
    cases q : a.testBit i <;> rw [q] at t u
    · cases w : (bb_nd b a).testBit i
      · rfl
      · rw [w] at t; exact absurd t (by decide)
    · rw [u]; cases b.testBit i <;> rfl
end
section
/-! conditions (plain law): tokens c 0 .. c (m - 1), worked out from the back -/
abbrev EE := Int32 × Int32 × Nat × Nat
def ev_h (l : List EE) : EE := l.headD (0, 0, 0, 0)
def ev_p (g : Nat → Int64) (N t : Nat) : EE := if nH g (bb_dg N t) = true then (2, (gr_pr (g (bb_dg N t))).toInt32, t, bb_dg N t) else (1, 0, t, bb_dg N t)
def ev_b (t : Nat) (a b : EE) : Int32 :=
  if t = 14 then (if b.1 ≤ a.1 then b.1 else a.1)
  else if t = 15 then (if a.1 ≤ b.1 then b.1 else a.1)
  else if t = 13 then (if a.2.2.2 = b.2.2.2 then 2 else 0)
  else if a.1 = 1 ∨ b.1 = 1 then 1
  else if t = 10 then (if b.2.1 ≤ a.2.1 then 0 else 2)
  else if a.2.1 = b.2.1 then 2 else 0
def ev_s (g : Nat → Int64) (N t : Nat) (l : List EE) : List EE :=
  if 1000 ≤ t then (2, nI (t - 1000), 99, 0) :: l
  else if t < 4 then ev_p g N t :: l
  else if t = 12 then (if (ev_h l).1 = 1 then 2 else 0, (ev_h l).2) :: l.tail
  else if t = 16 then (2 - (ev_h l).1, (ev_h l).2) :: l.tail
  else (ev_b t (ev_h l) (ev_h l.tail), (ev_h l.tail).2) :: l.tail.tail
def ev (g : Nat → Int64) (c : Nat → Nat) (N m : Nat) : Nat → List EE
  | 0 => []
  | j + 1 => ev_s g N (c (m - 1 - j)) (ev g c N m j)
def ev_c (g : Nat → Int64) (c : Nat → Nat) (m N : Nat) : Bool := decide (m = 0 ∨ (ev_h (ev g c N m m)).1 = 2)
theorem ev_s_ext {g : Nat → Int64} {N N' t : Nat} (h : t < 4 → bb_dg N t = bb_dg N' t) (l : List EE) : ev_s g N t l = ev_s g N' t l := by
  unfold ev_s
  by_cases a : 1000 ≤ t
  · rw [if_pos a, if_pos a]
  · rw [if_neg a, if_neg a]
    by_cases b : t < 4
    · rw [if_pos b, if_pos b]
      unfold ev_p
      rw [h b]
    · rw [if_neg b, if_neg b]
theorem ev_ext {g : Nat → Int64} {c : Nat → Nat} {N N' m : Nat} (h : ∀ k, k < m → c k < 4 → bb_dg N (c k) = bb_dg N' (c k)) : ∀ j, j ≤ m → ev g c N m j = ev g c N' m j
  | 0, _ => rfl
  | j + 1, hj => by
    simp only [ev]
    rw [ev_ext h j (by omega), ev_s_ext (h _ (by omega))]
theorem ev_c_ext {g : Nat → Int64} {c : Nat → Nat} {N N' m : Nat} (h : ∀ k, k < m → c k < 4 → bb_dg N (c k) = bb_dg N' (c k)) : ev_c g c m N = ev_c g c m N' := by
  unfold ev_c
  rw [ev_ext h m (Nat.le_refl _)]
theorem ev_congr {g : Nat → Int64} {c c' : Nat → Nat} {N m : Nat} (h : ∀ k, k < m → c k = c' k) : ∀ j, j ≤ m → ev g c N m j = ev g c' N m j
  | 0, _ => rfl
  | j + 1, hj => by
    simp only [ev]
    rw [ev_congr h j (by omega), h _ (by omega)]
/-! what is awaited: 0 a condition, 1 a number or property, 2 a variable -/
def ev_fit (w t : Nat) : Prop := (w = 0 ∧ 10 ≤ t ∧ t ≤ 16) ∨ (w = 1 ∧ (t < 4 ∨ 1000 ≤ t)) ∨ (w = 2 ∧ t < 4)
def ev_o (t : Nat) : List Nat := if t < 10 ∨ 1000 ≤ t then [] else if t = 12 then [1] else if t = 16 then [0] else if t < 13 then [1, 1] else if t = 13 then [2, 2] else [0, 0]
def ev_A (c : Nat → Nat) (m : Nat) (A : Nat → List Nat) : Prop := A 0 = [0] ∧ A m = [] ∧ ∀ k, k < m → ∃ w r, A k = w :: r ∧ ev_fit w (c k) ∧ A (k + 1) = ev_o (c k) ++ r
def ev_ty (N w : Nat) (e : EE) : Prop := (e.2.2.1 < 4 → e.2.2.2 = bb_dg N e.2.2.1) ∧ ((w = 0 ∧ (e.1 = 0 ∨ e.1 = 1 ∨ e.1 = 2)) ∨ (w = 1 ∧ (e.1 = 1 ∨ e.1 = 2)) ∨ (w = 2 ∧ (e.1 = 1 ∨ e.1 = 2) ∧ e.2.2.1 < 4))
def ev_T (N : Nat) : List Nat → List EE → Prop
  | [], [] => True
  | w :: ws, e :: es => ev_ty N w e ∧ ev_T N ws es
  | _, _ => False
theorem ev_T_nil {N : Nat} {l : List EE} (h : ev_T N [] l) : l = [] := by
  cases l with
  | nil => rfl
  | cons a l => exact h.elim
theorem ev_T_cons {N w : Nat} {ws : List Nat} {l : List EE} (h : ev_T N (w :: ws) l) : ∃ e es, l = e :: es ∧ ev_ty N w e ∧ ev_T N ws es := by
  cases l with
  | nil => exact h.elim
  | cons a l => exact ⟨a, l, rfl, h.1, h.2⟩
theorem ev_p_ty (g : Nat → Int64) (N : Nat) {t w : Nat} (ht : t < 4) (hw : w = 1 ∨ w = 2) : ev_ty N w (ev_p g N t) := by
  unfold ev_p ev_ty
  split
  · refine ⟨fun _ => rfl, ?_⟩
    rcases hw with rfl | rfl
    · exact Or.inr (Or.inl ⟨rfl, Or.inr rfl⟩)
    · exact Or.inr (Or.inr ⟨rfl, Or.inr rfl, ht⟩)
  · refine ⟨fun _ => rfl, ?_⟩
    rcases hw with rfl | rfl
    · exact Or.inr (Or.inl ⟨rfl, Or.inl rfl⟩)
    · exact Or.inr (Or.inr ⟨rfl, Or.inl rfl, ht⟩)
theorem ev_b_012 {t : Nat} {a b : EE} (ha : t = 14 ∨ t = 15 → a.1 = 0 ∨ a.1 = 1 ∨ a.1 = 2) (hb : t = 14 ∨ t = 15 → b.1 = 0 ∨ b.1 = 1 ∨ b.1 = 2) : ev_b t a b = 0 ∨ ev_b t a b = 1 ∨ ev_b t a b = 2 := by
  unfold ev_b
  split
  · split
    · exact hb (by omega)
    · exact ha (by omega)
  · split
    · split
      · exact hb (by omega)
      · exact ha (by omega)
    · split
      · split
        · exact Or.inr (Or.inr rfl)
        · exact Or.inl rfl
      · split
        · exact Or.inr (Or.inl rfl)
        · split
          · split
            · exact Or.inl rfl
            · exact Or.inr (Or.inr rfl)
          · split
            · exact Or.inr (Or.inr rfl)
            · exact Or.inl rfl
/-- the shape of a token's work -/
def ev_sh (g : Nat → Int64) (N t w : Nat) (r : List Nat) (l : List EE) : Prop :=
  (1000 ≤ t ∧ w = 1 ∧ ev_T N r l)
  ∨ (t < 4 ∧ (w = 1 ∨ w = 2) ∧ ev_T N r l)
  ∨ (t = 12 ∧ w = 0 ∧ ∃ a es, l = a :: es ∧ ev_ty N 1 a ∧ ev_T N r es)
  ∨ (t = 16 ∧ w = 0 ∧ ∃ a es, l = a :: es ∧ ev_ty N 0 a ∧ ev_T N r es)
  ∨ ((t = 10 ∨ t = 11) ∧ w = 0 ∧ ∃ a b es, l = a :: b :: es ∧ ev_ty N 1 a ∧ ev_ty N 1 b ∧ ev_T N r es)
  ∨ (t = 13 ∧ w = 0 ∧ ∃ a b es, l = a :: b :: es ∧ ev_ty N 2 a ∧ ev_ty N 2 b ∧ ev_T N r es)
  ∨ ((t = 14 ∨ t = 15) ∧ w = 0 ∧ ∃ a b es, l = a :: b :: es ∧ ev_ty N 0 a ∧ ev_ty N 0 b ∧ ev_T N r es)
theorem ev_shape {g : Nat → Int64} {N t w : Nat} {r : List Nat} {l : List EE} (hf : ev_fit w t) (h : ev_T N (ev_o t ++ r) l) : ev_sh g N t w r l := by
  unfold ev_sh
  rcases hf with ⟨rfl, h1, h2⟩ | ⟨rfl, h1 | h1⟩ | ⟨rfl, h1⟩
  · have ht : t = 10 ∨ t = 11 ∨ t = 12 ∨ t = 13 ∨ t = 14 ∨ t = 15 ∨ t = 16 := by omega
    have two : ∀ x y : Nat, ev_T N (x :: y :: r) l → ∃ a b es, l = a :: b :: es ∧ ev_ty N x a ∧ ev_ty N y b ∧ ev_T N r es := by
      intro x y q
      obtain ⟨a, l1, e1, q1, q2⟩ := ev_T_cons q
      obtain ⟨b, l2, e2, q3, q4⟩ := ev_T_cons q2
      subst e1 e2
      exact ⟨a, b, l2, rfl, q1, q3, q4⟩
    rcases ht with rfl | rfl | rfl | rfl | rfl | rfl | rfl
    · exact Or.inr (Or.inr (Or.inr (Or.inr (Or.inl ⟨Or.inl rfl, rfl, two 1 1 h⟩))))
    · exact Or.inr (Or.inr (Or.inr (Or.inr (Or.inl ⟨Or.inr rfl, rfl, two 1 1 h⟩))))
    · exact Or.inr (Or.inr (Or.inl ⟨rfl, rfl, ev_T_cons (ws := r) h⟩))
    · exact Or.inr (Or.inr (Or.inr (Or.inr (Or.inr (Or.inl ⟨rfl, rfl, two 2 2 h⟩)))))
    · exact Or.inr (Or.inr (Or.inr (Or.inr (Or.inr (Or.inr ⟨Or.inl rfl, rfl, two 0 0 h⟩)))))
    · exact Or.inr (Or.inr (Or.inr (Or.inr (Or.inr (Or.inr ⟨Or.inr rfl, rfl, two 0 0 h⟩)))))
    · exact Or.inr (Or.inr (Or.inr (Or.inl ⟨rfl, rfl, ev_T_cons (ws := r) h⟩)))
  · have e : ev_o t = [] := if_pos (Or.inl (by omega))
    rw [e] at h
    exact Or.inr (Or.inl ⟨h1, Or.inl rfl, h⟩)
  · have e : ev_o t = [] := if_pos (Or.inr h1)
    rw [e] at h
    exact Or.inl ⟨h1, rfl, h⟩
  · have e : ev_o t = [] := if_pos (Or.inl (by omega))
    rw [e] at h
    exact Or.inr (Or.inl ⟨h1, Or.inr rfl, h⟩)
theorem ev_s_n {g : Nat → Int64} {N t : Nat} {l : List EE} (h : 1000 ≤ t) : ev_s g N t l = (2, nI (t - 1000), 99, 0) :: l := if_pos h
theorem ev_s_v {g : Nat → Int64} {N t : Nat} {l : List EE} (h : t < 4) : ev_s g N t l = ev_p g N t :: l := by
  unfold ev_s
  rw [if_neg (by omega), if_pos h]
theorem ev_s_12 {g : Nat → Int64} {N : Nat} {a : EE} {l : List EE} : ev_s g N 12 (a :: l) = (if a.1 = 1 then 2 else 0, a.2) :: l := rfl
theorem ev_s_16 {g : Nat → Int64} {N : Nat} {a : EE} {l : List EE} : ev_s g N 16 (a :: l) = (2 - a.1, a.2) :: l := rfl
theorem ev_s_b {g : Nat → Int64} {N t : Nat} {a b : EE} {l : List EE} (h : t = 10 ∨ t = 11 ∨ t = 13 ∨ t = 14 ∨ t = 15) : ev_s g N t (a :: b :: l) = (ev_b t a b, b.2) :: l := by
  unfold ev_s
  rw [if_neg (by omega), if_neg (by omega), if_neg (by omega), if_neg (by omega)]
  rfl
theorem ev_sh_ty {g : Nat → Int64} {N t w : Nat} {r : List Nat} {l : List EE} (h : ev_sh g N t w r l) : ev_T N (w :: r) (ev_s g N t l) := by
  rcases h with ⟨h1, rfl, h⟩ | ⟨h1, hw, h⟩ | ⟨rfl, rfl, a, es, rfl, ha, h⟩ | ⟨rfl, rfl, a, es, rfl, ha, h⟩ | ⟨ht, rfl, a, b, es, rfl, ha, hb, h⟩ | ⟨rfl, rfl, a, b, es, rfl, ha, hb, h⟩ | ⟨ht, rfl, a, b, es, rfl, ha, hb, h⟩
  · rw [ev_s_n h1]
    exact ⟨⟨fun q => absurd q (show ¬ 99 < 4 by decide), Or.inr (Or.inl ⟨rfl, Or.inr rfl⟩)⟩, h⟩
  · rw [ev_s_v h1]
    exact ⟨ev_p_ty g N h1 hw, h⟩
  · rw [ev_s_12]
    refine ⟨⟨ha.1, Or.inl ⟨rfl, ?_⟩⟩, h⟩
    dsimp only
    split
    · exact Or.inr (Or.inr rfl)
    · exact Or.inl rfl
  · rw [ev_s_16]
    refine ⟨⟨ha.1, Or.inl ⟨rfl, ?_⟩⟩, h⟩
    have q : a.1 = 0 ∨ a.1 = 1 ∨ a.1 = 2 := by
      rcases ha.2 with ⟨_, z⟩ | ⟨z, _⟩ | ⟨z, _⟩
      · exact z
      · exact absurd z (by decide)
      · exact absurd z (by decide)
    dsimp only
    rcases q with q | q | q <;> rw [q]
    · exact Or.inr (Or.inr rfl)
    · exact Or.inr (Or.inl rfl)
    · exact Or.inl rfl
  · rw [ev_s_b (by omega)]
    exact ⟨⟨hb.1, Or.inl ⟨rfl, ev_b_012 (fun z => absurd z (by omega)) (fun z => absurd z (by omega))⟩⟩, h⟩
  · rw [ev_s_b (by omega)]
    exact ⟨⟨hb.1, Or.inl ⟨rfl, ev_b_012 (t := 13) (fun z => absurd z (by decide)) (fun z => absurd z (by decide))⟩⟩, h⟩
  · rw [ev_s_b (by omega)]
    have q : ∀ e : EE, ev_ty N 0 e → e.1 = 0 ∨ e.1 = 1 ∨ e.1 = 2 := by
      intro e he
      rcases he.2 with ⟨_, z⟩ | ⟨z, _⟩ | ⟨z, _⟩
      · exact z
      · exact absurd z (by decide)
      · exact absurd z (by decide)
    exact ⟨⟨hb.1, Or.inl ⟨rfl, ev_b_012 (fun _ => q a ha) (fun _ => q b hb)⟩⟩, h⟩
theorem ev_T_all {g : Nat → Int64} {c : Nat → Nat} {N m : Nat} {A : Nat → List Nat} (hA : ev_A c m A) : ∀ j, j ≤ m → ev_T N (A (m - j)) (ev g c N m j) := by
  intro j
  induction j with
  | zero =>
    intro _
    rw [Nat.sub_zero, hA.2.1]
    exact True.intro
  | succ j ih =>
    intro hj
    have h := ih (by omega)
    obtain ⟨w, r, e1, e2, e3⟩ := hA.2.2 (m - 1 - j) (by omega)
    rw [show m - 1 - j + 1 = m - j by omega] at e3
    rw [e3] at h
    rw [show m - (j + 1) = m - 1 - j by omega, e1]
    exact ev_sh_ty (ev_shape (g := g) e2 h)
/-- each step by its shape -/
theorem ev_at {g : Nat → Int64} {c : Nat → Nat} {N m : Nat} {A : Nat → List Nat} (hA : ev_A c m A) {j : Nat} (hj : j < m) : ∃ w r, A (m - 1 - j) = w :: r ∧ ev_sh g N (c (m - 1 - j)) w r (ev g c N m j) := by
  have h := ev_T_all (g := g) (N := N) hA j (by omega)
  obtain ⟨w, r, e1, e2, e3⟩ := hA.2.2 (m - 1 - j) (by omega)
  rw [show m - 1 - j + 1 = m - j by omega] at e3
  rw [e3] at h
  exact ⟨w, r, e1, ev_shape (g := g) e2 h⟩
theorem ev_len {N : Nat} : ∀ {ws : List Nat} {l : List EE}, ev_T N ws l → l.length = ws.length
  | [], [], _ => rfl
  | w :: ws, e :: es, h => by simp only [List.length_cons]; rw [ev_len h.2]
  | [], _ :: _, h => h.elim
  | _ :: _, [], h => h.elim
theorem ev_len_le {g : Nat → Int64} {c : Nat → Nat} {N m : Nat} {A : Nat → List Nat} (hA : ev_A c m A) : ∀ j, j ≤ m → (ev g c N m j).length ≤ j := by
  intro j
  induction j with
  | zero => intro _; exact Nat.le_refl _
  | succ j ih =>
    intro hj
    have h := ih (by omega)
    obtain ⟨w, r, _, hs⟩ := ev_at (g := g) (N := N) hA (show j < m by omega)
    show (ev_s g N (c (m - 1 - j)) (ev g c N m j)).length ≤ j + 1
    rcases hs with ⟨h1, _, _⟩ | ⟨h1, _, _⟩ | ⟨h1, _, a, es, e, _, _⟩ | ⟨h1, _, a, es, e, _, _⟩ | ⟨h1, _, a, b, es, e, _, _⟩ | ⟨h1, _, a, b, es, e, _, _⟩ | ⟨h1, _, a, b, es, e, _, _⟩
    · rw [ev_s_n h1, List.length_cons]; omega
    · rw [ev_s_v h1, List.length_cons]; omega
    · rw [h1, e, ev_s_12, List.length_cons]; rw [e, List.length_cons] at h; omega
    · rw [h1, e, ev_s_16, List.length_cons]; rw [e, List.length_cons] at h; omega
    · rw [e, ev_s_b (by omega), List.length_cons]; rw [e, List.length_cons, List.length_cons] at h; omega
    · rw [e, ev_s_b (by omega), List.length_cons]; rw [e, List.length_cons, List.length_cons] at h; omega
    · rw [e, ev_s_b (by omega), List.length_cons]; rw [e, List.length_cons, List.length_cons] at h; omega
end
section
/-! matches (plain law): q i p: of part p its kind (0), types (1), direction (2), low (3), high (4), variable (5), labels (6) -/
def fm {α : Type} (f : Nat → List α) (a : Nat) : Nat → List α
  | 0 => []
  | c + 1 => f a ++ fm f (a + 1) c
theorem fm_ext {α : Type} {f f' : Nat → List α} : ∀ {c a}, (∀ x, a ≤ x → x < a + c → f x = f' x) → fm f a c = fm f' a c
  | 0, a, _ => rfl
  | c + 1, a, h => by
    simp only [fm]
    rw [h a (Nat.le_refl _) (by omega), fm_ext (fun x h1 h2 => h x (by omega) (by omega))]
theorem fm_nil {α : Type} {f : Nat → List α} : ∀ {c a}, (∀ x, a ≤ x → x < a + c → f x = []) → fm f a c = []
  | 0, a, _ => rfl
  | c + 1, a, h => by
    simp only [fm]
    rw [h a (Nat.le_refl _) (by omega), fm_nil (fun x h1 h2 => h x (by omega) (by omega))]
    rfl
theorem fm_mem {α : Type} {f : Nat → List α} {y : α} : ∀ {c a}, y ∈ fm f a c → ∃ x, a ≤ x ∧ x < a + c ∧ y ∈ f x
  | 0, a, h => by simp only [fm] at h; exact absurd h (List.not_mem_nil)
  | c + 1, a, h => by
    simp only [fm] at h
    rcases List.mem_append.mp h with h | h
    · exact ⟨a, Nat.le_refl _, by omega, h⟩
    · obtain ⟨x, h1, h2, h3⟩ := fm_mem h
      exact ⟨x, by omega, by omega, h3⟩
/-- the lowest of a set taken -/
theorem fm_low {α : Type} {K : Nat → List α} {S S' b : Nat} (hb : S.testBit b = true) (h0 : ∀ i, i < b → S.testBit i = false) (hS : ∀ i, S'.testBit i = (S.testBit i && decide (i ≠ b))) : ∀ c a, a ≤ b → b < a + c → fm (fun n => if S.testBit n = true then K n else []) a c = K b ++ fm (fun n => if S'.testBit n = true then K n else []) a c := by
  intro c
  induction c with
  | zero => intro a h1 h2; omega
  | succ c ih =>
    intro a h1 h2
    simp only [fm]
    by_cases e : a = b
    · subst e
      have z : S'.testBit a = false := by rw [hS, decide_eq_false (fun z => z rfl), Bool.and_false]
      rw [if_pos hb, z]
      simp only [Bool.false_eq_true, if_false, List.nil_append]
      congr 1
      apply fm_ext
      intro x g1 _
      rw [hS, decide_eq_true (show x ≠ a by omega), Bool.and_true]
    · have z : S.testBit a = false := h0 a (by omega)
      have z' : S'.testBit a = false := by rw [hS, z, Bool.false_and]
      rw [z, z']
      simp only [Bool.false_eq_true, if_false, List.nil_append]
      exact ih (a + 1) (by omega) (by omega)
abbrev LF := Nat × Nat × Nat
section
variable (g : Nat → Int64) (q : Nat → Nat → Nat) (P : Nat)
def se_al (p N W n : Nat) : Bool := (decide (¬ g n = 0) && decide (nL g n &&& q 6 p = q 6 p)) && (!W.testBit (q 5 p) || decide (bb_dg N (q 5 p) = n))
def se_ok (p h u e : Nat) : Bool := ((decide (¬ g (8 + e) = 0) && !u.testBit e) && (q 1 p).testBit (eY g e)) && ((decide (q 2 p ≠ 1) && decide (eF g e = h)) || (decide (q 2 p ≠ 0) && decide (eT g e = h)))
def se_t (p h e : Nat) : Nat := if q 2 p ≠ 1 ∧ eF g e = h then eT g e else eF g e
def se_lv : Nat → Nat → Nat → Nat → Nat → Nat → Nat → Nat → List LF
  | 0 => fun p _ _ N W _ w => if p = P then [(N, W, w)] else []
  | k + 1 => fun p t h N W u w => if p = P then [(N, W, w)] else
      if q 0 p = 0 then fm (fun n => if se_al g q p N W n = true then se_lv k (p + 1) 0 n (bb_st N (q 5 p) n) (W ||| 2 ^ q 5 p) u w else []) 0 8
      else (if q 3 p ≤ t ∧ se_al g q p N W h = true then se_lv k (p + 1) 0 h (bb_st N (q 5 p) h) (W ||| 2 ^ q 5 p) u w else []) ++ fm (fun e => if t < q 4 p ∧ se_ok g q p h u e = true then se_lv k p (t + 1) (se_t g q p h e) N W (u ||| 2 ^ e) (w + eW g e) else []) 0 12
def se_kb (k p n N W u w : Nat) : List LF := se_lv g q P k (p + 1) 0 n (bb_st N (q 5 p) n) (W ||| 2 ^ q 5 p) u w
def se_ke (k p t h N W u w e : Nat) : List LF := se_lv g q P k p (t + 1) (se_t g q p h e) N W (u ||| 2 ^ e) (w + eW g e)
/-- what the component's frame has left: whether the hop may end, the choices left -/
def se_xs (k p N W u w S : Nat) : List LF := fm (fun n => if S.testBit n = true then se_kb g q P k p n N W u w else []) 0 8
def se_xe (k p t h N W u w S : Nat) : List LF := fm (fun e => if S.testBit e = true then se_ke g q P k p t h N W u w e else []) 0 12
def se_X (k p t h N W u w : Nat) (E : Bool) (S : Nat) : List LF := if q 0 p = 0 then se_xs g q P k p N W u w S else (if E = true then se_kb g q P k p h N W u w else []) ++ se_xe g q P k p t h N W u w S
/-- what the reference's frame has left from choice c on -/
def se_fs (k p N W u w n : Nat) : List LF := if se_al g q p N W n = true then se_kb g q P k p n N W u w else []
def se_fh (k p t h N W u w : Nat) : List LF := if q 3 p ≤ t ∧ se_al g q p N W h = true then se_kb g q P k p h N W u w else []
def se_fe (k p t h N W u w e : Nat) : List LF := if t < q 4 p ∧ se_ok g q p h u e = true then se_ke g q P k p t h N W u w e else []
def se_ya (k p t h N W u w e : Nat) : List LF := if q 2 p ≠ 1 ∧ eF g e = h then se_fe g q P k p t h N W u w e else []
def se_yb (k p t h N W u w e : Nat) : List LF := if q 2 p ≠ 1 ∧ eF g e = h then [] else se_fe g q P k p t h N W u w e
def se_Y (k p t h N W u w c : Nat) : List LF := if q 0 p = 0 then fm (se_fs g q P k p N W u w) c (8 - c) else
  if c = 0 then se_fh g q P k p t h N W u w ++ fm (se_fe g q P k p t h N W u w) 0 12
  else if (c - 1) % 2 = 0 then fm (se_fe g q P k p t h N W u w) ((c - 1) / 2) (12 - (c - 1) / 2)
  else se_yb g q P k p t h N W u w ((c - 1) / 2) ++ fm (se_fe g q P k p t h N W u w) ((c - 1) / 2 + 1) (11 - (c - 1) / 2)
end
section
variable {g : Nat → Int64} {q : Nat → Nat → Nat} {P : Nat}
theorem fm_s {α : Type} (f : Nat → List α) (a c : Nat) : fm f a (c + 1) = f a ++ fm f (a + 1) c := rfl
theorem fm_0 {α : Type} (f : Nat → List α) (a : Nat) : fm f a 0 = [] := rfl
theorem se_lv_P {k t h N W u w : Nat} : se_lv g q P k P t h N W u w = [(N, W, w)] := by
  cases k with
  | zero => exact if_pos rfl
  | succ k => exact if_pos rfl
theorem se_lv_s {k p t h N W u w : Nat} (hp : p ≠ P) : se_lv g q P (k + 1) p t h N W u w = if q 0 p = 0 then fm (se_fs g q P k p N W u w) 0 8 else se_fh g q P k p t h N W u w ++ fm (se_fe g q P k p t h N W u w) 0 12 := if_neg hp
theorem se_lv_Y {k p t h N W u w : Nat} (hp : p ≠ P) : se_lv g q P (k + 1) p t h N W u w = se_Y g q P k p t h N W u w 0 := by
  rw [se_lv_s hp, se_Y]
  by_cases z : q 0 p = 0
  · rw [if_pos z, if_pos z]
  · rw [if_neg z, if_neg z, if_pos rfl]
theorem se_if {α : Type} {a b : Prop} [Decidable a] [Decidable b] (h : a ↔ b) (x y : α) : (if a then x else y) = if b then x else y := by
  by_cases z : a
  · rw [if_pos z, if_pos (h.mp z)]
  · rw [if_neg z, if_neg (fun w => z (h.mpr w))]
theorem se_lv_X {k p t h N W u w : Nat} {E : Bool} {S : Nat} (hp : p ≠ P) (h0 : q 0 p = 0 → ∀ n, n < 8 → (S.testBit n = true ↔ se_al g q p N W n = true)) (h1 : ¬ q 0 p = 0 → (E = true ↔ q 3 p ≤ t ∧ se_al g q p N W h = true) ∧ ∀ e, e < 12 → (S.testBit e = true ↔ t < q 4 p ∧ se_ok g q p h u e = true)) : se_lv g q P (k + 1) p t h N W u w = se_X g q P k p t h N W u w E S := by
  rw [se_lv_s hp, se_X]
  by_cases z : q 0 p = 0
  · rw [if_pos z, if_pos z, se_xs]
    exact fm_ext fun x _ hx => se_if (h0 z x (by omega)).symm _ _
  · rw [if_neg z, if_neg z, se_xe, se_fh, se_if (h1 z).1]
    exact congrArg _ (fm_ext fun x _ hx => se_if ((h1 z).2 x (by omega)).symm _ _)
theorem se_X_start {k p t h N W u w S S' b : Nat} {E : Bool} (hk : q 0 p = 0) (hb : S.testBit b = true) (h8 : b < 8) (h0 : ∀ i, i < b → S.testBit i = false) (hS : ∀ i, S'.testBit i = (S.testBit i && decide (i ≠ b))) : se_X g q P k p t h N W u w E S = se_kb g q P k p b N W u w ++ se_X g q P k p t h N W u w E S' := by
  rw [se_X, se_X, if_pos hk, if_pos hk, se_xs, se_xs]
  exact fm_low hb h0 hS 8 0 (Nat.zero_le _) (by omega)
theorem se_X_edge {k p t h N W u w S S' b : Nat} (hk : ¬ q 0 p = 0) (hb : S.testBit b = true) (h8 : b < 12) (h0 : ∀ i, i < b → S.testBit i = false) (hS : ∀ i, S'.testBit i = (S.testBit i && decide (i ≠ b))) : se_X g q P k p t h N W u w false S = se_ke g q P k p t h N W u w b ++ se_X g q P k p t h N W u w false S' := by
  rw [se_X, se_X, if_neg hk, if_neg hk, if_neg Bool.false_ne_true, List.nil_append, List.nil_append, se_xe, se_xe]
  exact fm_low (K := se_ke g q P k p t h N W u w) hb h0 hS 12 0 (Nat.zero_le _) (by omega)
theorem se_X_end {k p t h N W u w S : Nat} (hk : ¬ q 0 p = 0) : se_X g q P k p t h N W u w true S = se_kb g q P k p h N W u w ++ se_X g q P k p t h N W u w false S := by
  rw [se_X, se_X, if_neg hk, if_neg hk, if_pos rfl, if_neg Bool.false_ne_true, List.nil_append]
theorem se_X_nil {k p t h N W u w : Nat} : se_X g q P k p t h N W u w false 0 = [] := by
  have z : ∀ x, ¬ (0 : Nat).testBit x = true := fun x y => by rw [Nat.zero_testBit] at y; exact absurd y (by decide)
  rw [se_X]
  by_cases hk : q 0 p = 0
  · rw [if_pos hk, se_xs]
    exact fm_nil fun x _ _ => if_neg (z x)
  · rw [if_neg hk, if_neg Bool.false_ne_true, List.nil_append, se_xe]
    exact fm_nil fun x _ _ => if_neg (z x)
theorem se_Y_s8 {k p t h N W u w : Nat} (hk : q 0 p = 0) : se_Y g q P k p t h N W u w 8 = [] := by
  rw [se_Y, if_pos hk, Nat.sub_self, fm_0]
theorem se_Y_s {k p t h N W u w c : Nat} (hk : q 0 p = 0) (hc : c < 8) : se_Y g q P k p t h N W u w c = se_fs g q P k p N W u w c ++ se_Y g q P k p t h N W u w (c + 1) := by
  rw [se_Y, se_Y, if_pos hk, if_pos hk, show 8 - c = (8 - (c + 1)) + 1 by omega, fm_s]
theorem se_Y_h1 {k p t h N W u w c : Nat} (hk : ¬ q 0 p = 0) (h0 : ¬ c = 0) (h1 : (c - 1) % 2 = 0) : se_Y g q P k p t h N W u w c = fm (se_fe g q P k p t h N W u w) ((c - 1) / 2) (12 - (c - 1) / 2) := by
  rw [se_Y, if_neg hk, if_neg h0, if_pos h1]
theorem se_Y_h2 {k p t h N W u w c : Nat} (hk : ¬ q 0 p = 0) (h0 : ¬ c = 0) (h1 : ¬ (c - 1) % 2 = 0) : se_Y g q P k p t h N W u w c = se_yb g q P k p t h N W u w ((c - 1) / 2) ++ fm (se_fe g q P k p t h N W u w) ((c - 1) / 2 + 1) (11 - (c - 1) / 2) := by
  rw [se_Y, if_neg hk, if_neg h0, if_neg h1]
theorem se_Y_h0 {k p t h N W u w : Nat} (hk : ¬ q 0 p = 0) : se_Y g q P k p t h N W u w 0 = se_fh g q P k p t h N W u w ++ se_Y g q P k p t h N W u w 1 := by
  rw [se_Y_h1 (c := 1) hk (by decide) (by decide), se_Y, if_neg hk, if_pos rfl]
theorem se_Y_h25 {k p t h N W u w : Nat} (hk : ¬ q 0 p = 0) : se_Y g q P k p t h N W u w 25 = [] := by
  rw [se_Y_h1 (c := 25) hk (by decide) (by decide), show 12 - (25 - 1) / 2 = 0 by decide, fm_0]
theorem se_Y_al {k p t h N W u w e : Nat} (hk : ¬ q 0 p = 0) (he : e < 12) : se_Y g q P k p t h N W u w (2 * e + 1) = se_ya g q P k p t h N W u w e ++ se_Y g q P k p t h N W u w (2 * e + 2) := by
  rw [se_Y_h1 hk (by omega) (by omega), se_Y_h2 hk (by omega) (by omega), show (2 * e + 1 - 1) / 2 = e by omega, show (2 * e + 2 - 1) / 2 = e by omega, show 12 - e = (11 - e) + 1 by omega, fm_s, ← List.append_assoc, se_ya, se_yb]
  by_cases z : q 2 p ≠ 1 ∧ eF g e = h
  · rw [if_pos z, if_pos z, List.append_nil]
  · rw [if_neg z, if_neg z, List.nil_append]
theorem se_Y_ag {k p t h N W u w e : Nat} (hk : ¬ q 0 p = 0) (he : e < 12) : se_Y g q P k p t h N W u w (2 * e + 2) = se_yb g q P k p t h N W u w e ++ se_Y g q P k p t h N W u w (2 * e + 3) := by
  rw [se_Y_h2 hk (by omega) (by omega), se_Y_h1 (c := 2 * e + 3) hk (by omega) (by omega), show (2 * e + 2 - 1) / 2 = e by omega, show (2 * e + 3 - 1) / 2 = e + 1 by omega, show 12 - (e + 1) = 11 - e by omega]
/-! a leaf agrees with its frame on what is bound -/
theorem se_al_b {p N W n : Nat} (h : se_al g q p N W n = true) : ¬ g n = 0 ∧ nL g n &&& q 6 p = q 6 p ∧ (W.testBit (q 5 p) = true → bb_dg N (q 5 p) = n) := by
  unfold se_al at h
  simp only [Bool.and_eq_true, Bool.or_eq_true, decide_eq_true_eq, Bool.not_eq_true'] at h
  refine ⟨h.1.1, h.1.2, fun z => ?_⟩
  rcases h.2 with y | y
  · rw [y] at z; exact absurd z (by decide)
  · exact y
theorem se_bind_dg {p N W n v : Nat} (hN : N < 4096) (hq : q 5 p < 4) (hn : n < 8) (ha : W.testBit (q 5 p) = true → bb_dg N (q 5 p) = n) (hv : v < 4) (hW : W.testBit v = true) : bb_dg (bb_st N (q 5 p) n) v = bb_dg N v := by
  by_cases e : v = q 5 p
  · subst e
    rw [bb_st_s hN hv hn, ha hW]
  · exact bb_st_n hN hq hn hv e
theorem se_agree (hq : ∀ p, p < P → q 5 p < 4) : ∀ k p t h N W u w, p ≤ P → N < 4096 → h < 8 → ∀ x, x ∈ se_lv g q P k p t h N W u w → ∀ v, v < 4 → W.testBit v = true → bb_dg x.1 v = bb_dg N v := by
  intro k
  induction k with
  | zero =>
    intro p t h N W u w hp hN hh x hx v hv hW
    simp only [se_lv] at hx
    split at hx
    · rw [List.mem_singleton] at hx; rw [hx]
    · exact absurd hx (List.not_mem_nil)
  | succ k ih =>
    intro p t h N W u w hp hN hh x hx v hv hW
    by_cases e : p = P
    · subst e
      rw [se_lv_P, List.mem_singleton] at hx
      rw [hx]
    · have hq5 := hq p (by omega)
      have bind : ∀ n, n < 8 → se_al g q p N W n = true → x ∈ se_lv g q P k (p + 1) 0 n (bb_st N (q 5 p) n) (W ||| 2 ^ q 5 p) u w → bb_dg x.1 v = bb_dg N v := by
        intro n hn ha hx
        have r := ih (p + 1) 0 n _ _ u w (by omega) (bb_st_lt hN hq5 hn) hn x hx v hv (by rw [bb_or2, hW, Bool.true_or])
        rw [r, se_bind_dg hN hq5 hn (se_al_b ha).2.2 hv hW]
      rw [se_lv_s e] at hx
      by_cases z : q 0 p = 0
      · rw [if_pos z] at hx
        obtain ⟨n, _, hn, hx⟩ := fm_mem hx
        unfold se_fs at hx
        split at hx
        · rename_i ha
          exact bind n (by omega) ha hx
        · exact absurd hx (List.not_mem_nil)
      · rw [if_neg z] at hx
        rcases List.mem_append.mp hx with hx | hx
        · unfold se_fh at hx
          split at hx
          · rename_i ha
            exact bind h hh ha.2 hx
          · exact absurd hx (List.not_mem_nil)
        · obtain ⟨n, _, hn, hx⟩ := fm_mem hx
          unfold se_fe at hx
          split at hx
          · refine ih p (t + 1) _ N W _ _ hp hN ?_ x hx v hv hW
            unfold se_t
            split
            · exact (eT_e g n).2
            · exact (eF_e g n).2
          · exact absurd hx (List.not_mem_nil)
end
end
section
/-! what a list of matches adds up to (plain law) -/
def cq (f : Nat → Bool) : Nat → Nat
  | 0 => 0
  | n + 1 => cq f n + (if f n = true then 1 else 0)
theorem cq_le (f : Nat → Bool) : ∀ n, cq f n ≤ n
  | 0 => Nat.le_refl _
  | n + 1 => by
    have := cq_le f n
    simp only [cq]
    split <;> omega
theorem cq_mono (f : Nat → Bool) {m : Nat} : ∀ n, m ≤ n → cq f m ≤ cq f n
  | 0, h => by rw [Nat.le_zero.mp h]; exact Nat.le_refl _
  | n + 1, h => by
    by_cases e : m = n + 1
    · rw [e]; exact Nat.le_refl _
    · have := cq_mono f (m := m) n (by omega)
      simp only [cq]
      omega
theorem cq_ext {f f' : Nat → Bool} : ∀ n, (∀ k, k < n → f k = f' k) → cq f n = cq f' n
  | 0, _ => rfl
  | n + 1, h => by
    simp only [cq]
    rw [cq_ext n (fun k hk => h k (by omega)), h n (by omega)]
theorem cq_add {f f' : Nat → Bool} {k : Nat} (h0 : f k = false) (h1 : f' k = true) (hn : ∀ x, x ≠ k → f' x = f x) : ∀ n, k < n → cq f' n = cq f n + 1
  | 0, h => absurd h (Nat.not_lt_zero k)
  | n + 1, h => by
    simp only [cq]
    by_cases e : k = n
    · subst e
      rw [cq_ext k (fun x hx => hn x (by omega)), h0, h1]
      simp
    · rw [cq_add h0 h1 hn n (by omega), hn n (fun z => e z.symm)]
      omega
theorem cq_0 {f : Nat → Bool} : ∀ n, (∀ k, k < n → f k = false) → cq f n = 0
  | 0, _ => rfl
  | n + 1, h => by
    simp only [cq]
    rw [cq_0 n (fun k hk => h k (by omega)), h n (by omega)]
    simp
theorem cq_pick {f : Nat → Bool} {k : Nat} : ∀ n, k < cq f n → ∃ c, c < n ∧ f c = true ∧ cq f c = k
  | 0, h => absurd h (Nat.not_lt_zero k)
  | n + 1, h => by
    by_cases e : k < cq f n
    · obtain ⟨c, h1, h2⟩ := cq_pick n e
      exact ⟨c, by omega, h2⟩
    · simp only [cq] at h
      cases z : f n
      · rw [z] at h; simp at h; omega
      · rw [z] at h; simp at h; exact ⟨n, by omega, z, by omega⟩
def se_in (ms : List LF) (k : Nat) : Bool := ms.any (fun x => decide (bb_key x.1 = k))
theorem se_in_app (ms : List LF) (x : LF) (k : Nat) : se_in (ms ++ [x]) k = (se_in ms k || decide (bb_key x.1 = k)) := by
  unfold se_in
  rw [List.any_append]
  simp
def se_hs (g : Nat → Int64) (v : Nat) (x : LF) : Bool := x.2.1.testBit v && nH g (bb_dg x.1 v)
def se_sm (g : Nat → Int64) (v : Nat) (ms : List LF) : Int64 := ms.foldl (fun s x => if se_hs g v x = true then s + gr_pr (g (bb_dg x.1 v)) else s) 0
def se_so (g : Nat → Int64) (v : Nat) (ms : List LF) : Bool := ms.any (se_hs g v)
theorem se_sm_app (g : Nat → Int64) (v : Nat) (ms : List LF) (x : LF) : se_sm g v (ms ++ [x]) = if se_hs g v x = true then se_sm g v ms + gr_pr (g (bb_dg x.1 v)) else se_sm g v ms := by
  unfold se_sm
  rw [List.foldl_append]
  rfl
theorem se_so_app (g : Nat → Int64) (v : Nat) (ms : List LF) (x : LF) : se_so g v (ms ++ [x]) = (se_so g v ms || se_hs g v x) := by
  unfold se_so
  rw [List.any_append]
  simp
def se_mn (ms : List LF) (m : Nat) : Prop := m < 2 ^ 15 ∧ (∃ x, x ∈ ms ∧ x.2.2 = m) ∧ ∀ x, x ∈ ms → m ≤ x.2.2
theorem se_mn_u {ms : List LF} {m m' : Nat} (h : se_mn ms m) (h' : se_mn ms m') : m = m' := by
  obtain ⟨_, ⟨x, hx, e⟩, a⟩ := h
  obtain ⟨_, ⟨x', hx', e'⟩, a'⟩ := h'
  have := a x' hx'
  have := a' x hx
  omega
theorem se_mn_1 {x : LF} (hx : x.2.2 < 2 ^ 15) : se_mn [x] x.2.2 := ⟨hx, ⟨x, List.mem_singleton.mpr rfl, rfl⟩, fun y hy => by rw [List.mem_singleton.mp hy]; exact Nat.le_refl _⟩
theorem se_mn_lt {ms : List LF} {x : LF} {m : Nat} (h : se_mn ms m) (hx : x.2.2 < m) : se_mn (ms ++ [x]) x.2.2 := by
  refine ⟨by have := h.1; omega, ⟨x, List.mem_append.mpr (Or.inr (List.mem_singleton.mpr rfl)), rfl⟩, fun y hy => ?_⟩
  rcases List.mem_append.mp hy with z | z
  · have := h.2.2 y z; omega
  · rw [List.mem_singleton.mp z]; exact Nat.le_refl _
theorem se_mn_ge {ms : List LF} {x : LF} {m : Nat} (h : se_mn ms m) (hx : m ≤ x.2.2) : se_mn (ms ++ [x]) m := by
  obtain ⟨a, ⟨y, hy, e⟩, b⟩ := h
  refine ⟨a, ⟨y, List.mem_append.mpr (Or.inl hy), e⟩, fun y hy => ?_⟩
  rcases List.mem_append.mp hy with z | z
  · exact b y z
  · rw [List.mem_singleton.mp z]; exact hx
/-- the component's sums, the reference's -/
def se_CA (g : Nat → Int64) (ms : List LF) (count diff cheap : Int32) (seen sum : Nat → Int64) (some : Nat → Int32) : Prop := count = nI ms.length ∧ diff = nI (cq (se_in ms) 4096) ∧ ((ms = [] ∧ cheap = -1) ∨ ∃ m, cheap = nI m ∧ se_mn ms m) ∧ (∀ k, k < 4096 → bl (seen (k / 64)) (k % 64) = se_in ms k) ∧ (∀ v, v < 4 → sum v = se_sm g v ms) ∧ (∀ v, v < 4 → some v = if se_so g v ms = true then 1 else 0)
def se_CB (g : Nat → Int64) (v : Nat) (ms : List LF) (found light some : Int32) (sum : Int64) (chosen : Nat → Int32) : Prop := found = nI ms.length ∧ ((ms = [] ∧ light = 1000000) ∨ ∃ m, light = nI m ∧ se_mn ms m) ∧ (some = if se_so g v ms = true then 1 else 0) ∧ sum = se_sm g v ms ∧ (∀ k, k < 4096 → chosen k = if se_in ms k = true then 1 else 0)
end
section
/-! the component works a condition out -/
def ev_X (tr nu vo : Nat → Int32) : List EE → Prop
  | [] => True
  | e :: es => (tr es.length = e.1 ∧ nu es.length = e.2.1 ∧ (e.2.2.1 < 4 → vo es.length = nI e.2.2.1)) ∧ ev_X tr nu vo es
theorem ev_X_c {tr nu vo tr' nu' vo' : Nat → Int32} : ∀ {es : List EE}, (∀ j, j < es.length → tr' j = tr j ∧ nu' j = nu j ∧ vo' j = vo j) → ev_X tr nu vo es → ev_X tr' nu' vo' es
  | [], _, _ => True.intro
  | e :: es, h, q => by
    obtain ⟨a, b, c⟩ := h es.length (by rw [List.length_cons]; omega)
    refine ⟨?_, ev_X_c (fun j hj => h j (by rw [List.length_cons]; omega)) q.2⟩
    rw [a, b, c]
    exact q.1
def dn (r : Nat) : Int32 := if r = 0 then -1 else nI (r - 1)
theorem dn_s (r : Nat) : dn (r + 1) = nI r := rfl
theorem dn_m (r : Nat) : nI r + (-1) = dn r := by
  cases r with
  | zero => rfl
  | succ r => rw [pk_m1, dn_s]
section
variable {f_level f_indexed f_parts f_highs f_tokens f_conditionLength f_conditionNames f_depth f_found f_testAt f_count f_different f_cheapest f_positions f_starts f_accepts f_empty f_written f_target f_steps : Int32} {a_state a_old : Nat → Int64} {a_kept a_leaving a_coming a_ofType a_withLabels a_kind a_types a_direction a_low a_high a_variable a_labels a_token a_condition a_truth a_number a_variableOf a_atPart a_trail a_here a_bound a_named a_used a_weight a_left a_ends : Nat → Int32} {a_seen a_sum : Nat → Int64} {a_some a_letter a_follow a_firstOf a_lastOf a_nullable a_spelled a_visited a_front a_next : Nat → Int32} {post : SX → Prop}
theorem x_push {d : Nat} (hd : d < 12) {p p' v : Int32} (hp : vp_nar .byte p.toInt8.toInt32 = p') (h : post (f_level, f_indexed, f_parts, f_highs, f_tokens, f_conditionLength, f_conditionNames, nI (d + 1), f_found, f_testAt, f_count, f_different, f_cheapest, f_positions, f_starts, f_accepts, f_empty, f_written, f_target, f_steps, a_state, a_old, a_kept, a_leaving, a_coming, a_ofType, a_withLabels, a_kind, a_types, a_direction, a_low, a_high, a_variable, a_labels, a_token, a_condition, upd a_truth d p', upd a_number d v, a_variableOf, a_atPart, a_trail, a_here, a_bound, a_named, a_used, a_weight, a_left, a_ends, a_seen, a_sum, a_some, a_letter, a_follow, a_firstOf, a_lastOf, a_nullable, a_spelled, a_visited, a_front, a_next)) : wpX_push post (f_level, f_indexed, f_parts, f_highs, f_tokens, f_conditionLength, f_conditionNames, nI d, f_found, f_testAt, f_count, f_different, f_cheapest, f_positions, f_starts, f_accepts, f_empty, f_written, f_target, f_steps, a_state, a_old, a_kept, a_leaving, a_coming, a_ofType, a_withLabels, a_kind, a_types, a_direction, a_low, a_high, a_variable, a_labels, a_token, a_condition, a_truth, a_number, a_variableOf, a_atPart, a_trail, a_here, a_bound, a_named, a_used, a_weight, a_left, a_ends, a_seen, a_sum, a_some, a_letter, a_follow, a_firstOf, a_lastOf, a_nullable, a_spelled, a_visited, a_front, a_next) p v := by
  have c : (nI d).toNatClampNeg = d := nI_clamp (by omega)
  unfold wpX_push
  refine ⟨vp_in_nI hd (by omega), nm_r (e' := upd a_truth d p') (by rw [c, hp]) (nm_r (nI_1 d) ⟨vp_in_nI hd (by omega), nm_r (e' := upd a_number d v) (by rw [c]) h⟩)⟩
theorem x_pushProperty {d N t : Nat} (hd : d < 12) (ht : t < 4) (h : post (f_level, f_indexed, f_parts, f_highs, f_tokens, f_conditionLength, f_conditionNames, nI (d + 1), f_found, f_testAt, f_count, f_different, f_cheapest, f_positions, f_starts, f_accepts, f_empty, f_written, f_target, f_steps, a_state, a_old, a_kept, a_leaving, a_coming, a_ofType, a_withLabels, a_kind, a_types, a_direction, a_low, a_high, a_variable, a_labels, a_token, a_condition, upd a_truth d (ev_p a_state N t).1, upd a_number d (ev_p a_state N t).2.1, upd a_variableOf d (nI t), a_atPart, a_trail, a_here, a_bound, a_named, a_used, a_weight, a_left, a_ends, a_seen, a_sum, a_some, a_letter, a_follow, a_firstOf, a_lastOf, a_nullable, a_spelled, a_visited, a_front, a_next)) : wpX_pushProperty post (f_level, f_indexed, f_parts, f_highs, f_tokens, f_conditionLength, f_conditionNames, nI d, f_found, f_testAt, f_count, f_different, f_cheapest, f_positions, f_starts, f_accepts, f_empty, f_written, f_target, f_steps, a_state, a_old, a_kept, a_leaving, a_coming, a_ofType, a_withLabels, a_kind, a_types, a_direction, a_low, a_high, a_variable, a_labels, a_token, a_condition, a_truth, a_number, a_variableOf, a_atPart, a_trail, a_here, a_bound, a_named, a_used, a_weight, a_left, a_ends, a_seen, a_sum, a_some, a_letter, a_follow, a_firstOf, a_lastOf, a_nullable, a_spelled, a_visited, a_front, a_next) (nI (bb_dg N t)) (nI t) := by
  have n8 := bb_dg_lt N t
  have c : (nI (bb_dg N t)).toNatClampNeg = bb_dg N t := nI_clamp (by omega)
  have v : vp_in (nI (bb_dg N t)) 20 := vp_in_nI (by omega) (by omega)
  have hv : vp_nar .byte (nI t).toInt8.toInt32 = nI t := bb_by (by omega)
  have fin : ∀ tr nu, post (f_level, f_indexed, f_parts, f_highs, f_tokens, f_conditionLength, f_conditionNames, nI (d + 1), f_found, f_testAt, f_count, f_different, f_cheapest, f_positions, f_starts, f_accepts, f_empty, f_written, f_target, f_steps, a_state, a_old, a_kept, a_leaving, a_coming, a_ofType, a_withLabels, a_kind, a_types, a_direction, a_low, a_high, a_variable, a_labels, a_token, a_condition, tr, nu, upd a_variableOf d (nI t), a_atPart, a_trail, a_here, a_bound, a_named, a_used, a_weight, a_left, a_ends, a_seen, a_sum, a_some, a_letter, a_follow, a_firstOf, a_lastOf, a_nullable, a_spelled, a_visited, a_front, a_next) → (vp_in (nI (d + 1) - 1) 12 ∧ ∀ a : Nat → Int32, a = upd a_variableOf (nI (d + 1) - 1).toNatClampNeg (vp_nar .byte (nI t).toInt8.toInt32) → post (f_level, f_indexed, f_parts, f_highs, f_tokens, f_conditionLength, f_conditionNames, nI (d + 1), f_found, f_testAt, f_count, f_different, f_cheapest, f_positions, f_starts, f_accepts, f_empty, f_written, f_target, f_steps, a_state, a_old, a_kept, a_leaving, a_coming, a_ofType, a_withLabels, a_kind, a_types, a_direction, a_low, a_high, a_variable, a_labels, a_token, a_condition, tr, nu, a, a_atPart, a_trail, a_here, a_bound, a_named, a_used, a_weight, a_left, a_ends, a_seen, a_sum, a_some, a_letter, a_follow, a_firstOf, a_lastOf, a_nullable, a_spelled, a_visited, a_front, a_next)) := by
    intro tr nu q
    rw [nI_pred, nI_clamp (by omega), hv]
    exact ⟨vp_in_nI hd (by omega), nm_e q⟩
  unfold wpX_pushProperty
  refine ⟨v, ?_⟩
  rw [c]
  unfold ev_p at h
  have hb := bl_has (a_state (bb_dg N t))
  by_cases z : nH a_state (bb_dg N t) = true
  · rw [if_pos z] at h
    have z' : ¬ (a_state (bb_dg N t) &&& 32) = 0 := fun y => by unfold nH at z; rw [hb.mp y] at z; exact absurd z (by decide)
    refine br_f z' (br_f (by decide) (br_f (by decide) ⟨v, x_push hd (p' := 2) (by decide) ?_⟩))
    rw [c]
    exact fin _ _ h
  · rw [if_neg z] at h
    have z' : (a_state (bb_dg N t) &&& 32) = 0 := hb.mpr (ts_nt z)
    exact br_t z' (br_t rfl (br_t rfl (x_push hd (p' := 1) (by decide) (fin _ _ h))))
/-- the outcome of a step on a list of entries: depth, truths -/
theorem x_logic2 {N t : Nat} {a b : EE} {es : List EE} (ht : t = 14 ∨ t = 15) (hl : es.length + 2 ≤ 12) (ha : ev_ty N 0 a) (hb : ev_ty N 0 b) (X : ev_X a_truth a_number a_variableOf (a :: b :: es)) (h : ∀ tr, ev_X tr a_number a_variableOf ((ev_b t a b, b.2) :: es) → post (f_level, f_indexed, f_parts, f_highs, f_tokens, f_conditionLength, f_conditionNames, nI (es.length + 1), f_found, f_testAt, f_count, f_different, f_cheapest, f_positions, f_starts, f_accepts, f_empty, f_written, f_target, f_steps, a_state, a_old, a_kept, a_leaving, a_coming, a_ofType, a_withLabels, a_kind, a_types, a_direction, a_low, a_high, a_variable, a_labels, a_token, a_condition, tr, a_number, a_variableOf, a_atPart, a_trail, a_here, a_bound, a_named, a_used, a_weight, a_left, a_ends, a_seen, a_sum, a_some, a_letter, a_follow, a_firstOf, a_lastOf, a_nullable, a_spelled, a_visited, a_front, a_next)) : wpX_logic post (f_level, f_indexed, f_parts, f_highs, f_tokens, f_conditionLength, f_conditionNames, nI (es.length + 2), f_found, f_testAt, f_count, f_different, f_cheapest, f_positions, f_starts, f_accepts, f_empty, f_written, f_target, f_steps, a_state, a_old, a_kept, a_leaving, a_coming, a_ofType, a_withLabels, a_kind, a_types, a_direction, a_low, a_high, a_variable, a_labels, a_token, a_condition, a_truth, a_number, a_variableOf, a_atPart, a_trail, a_here, a_bound, a_named, a_used, a_weight, a_left, a_ends, a_seen, a_sum, a_some, a_letter, a_follow, a_firstOf, a_lastOf, a_nullable, a_spelled, a_visited, a_front, a_next) (nI t) := by
  obtain ⟨⟨a1, a2, a3⟩, ⟨b1, b2, b3⟩, X⟩ := X
  rw [List.length_cons] at a1 a2 a3
  have p1 : nI (es.length + 2) - 1 = nI (es.length + 1) := nI_pred _
  have p2 : nI (es.length + 1) - 1 = nI es.length := nI_pred _
  have c1 : (nI (es.length + 1)).toNatClampNeg = es.length + 1 := nI_clamp (by omega)
  have c2 : (nI es.length).toNatClampNeg = es.length := nI_clamp (by omega)
  have v1 : vp_in (nI (es.length + 1)) 12 := vp_in_nI (by omega) (by omega)
  have v2 : vp_in (nI es.length) 12 := vp_in_nI (by omega) (by omega)
  have q0 : ∀ e : EE, ev_ty N 0 e → vp_nar .byte e.1 = e.1 := by
    intro e he
    rcases he.2 with ⟨_, z⟩ | ⟨z, _⟩ | ⟨z, _⟩
    · rcases z with z | z | z <;> rw [z] <;> decide
    · exact absurd z (by decide)
    · exact absurd z (by decide)
  have keep : ev_b t a b = b.1 → post (f_level, f_indexed, f_parts, f_highs, f_tokens, f_conditionLength, f_conditionNames, nI (es.length + 1), f_found, f_testAt, f_count, f_different, f_cheapest, f_positions, f_starts, f_accepts, f_empty, f_written, f_target, f_steps, a_state, a_old, a_kept, a_leaving, a_coming, a_ofType, a_withLabels, a_kind, a_types, a_direction, a_low, a_high, a_variable, a_labels, a_token, a_condition, a_truth, a_number, a_variableOf, a_atPart, a_trail, a_here, a_bound, a_named, a_used, a_weight, a_left, a_ends, a_seen, a_sum, a_some, a_letter, a_follow, a_firstOf, a_lastOf, a_nullable, a_spelled, a_visited, a_front, a_next) := fun e => h a_truth ⟨⟨by rw [b1, e], b2, b3⟩, X⟩
  have take : ev_b t a b = a.1 → vp_in (nI (es.length + 1)) 12 ∧ vp_in (nI es.length) 12 ∧ ∀ x : Nat → Int32, x = upd a_truth (nI es.length).toNatClampNeg (vp_nar .byte (a_truth (nI (es.length + 1)).toNatClampNeg)) → post (f_level, f_indexed, f_parts, f_highs, f_tokens, f_conditionLength, f_conditionNames, nI (es.length + 1), f_found, f_testAt, f_count, f_different, f_cheapest, f_positions, f_starts, f_accepts, f_empty, f_written, f_target, f_steps, a_state, a_old, a_kept, a_leaving, a_coming, a_ofType, a_withLabels, a_kind, a_types, a_direction, a_low, a_high, a_variable, a_labels, a_token, a_condition, x, a_number, a_variableOf, a_atPart, a_trail, a_here, a_bound, a_named, a_used, a_weight, a_left, a_ends, a_seen, a_sum, a_some, a_letter, a_follow, a_firstOf, a_lastOf, a_nullable, a_spelled, a_visited, a_front, a_next) := by
    intro e
    refine ⟨v1, v2, nm_r (e' := upd a_truth es.length a.1) (by rw [c1, c2, a1, q0 a ha]) (h _ ⟨⟨by rw [pk_us, e], b2, b3⟩, ev_X_c (fun j hj => ⟨pk_un (by omega), rfl, rfl⟩) X⟩)⟩
  unfold wpX_logic
  refine nm_r p1 ?_
  rcases ht with rfl | rfl
  · refine br_f (by decide) (nm_r p1 (nm_r p2 (br_t rfl ⟨v1, v2, ?_⟩)))
    rw [c1, c2, a1, b1]
    by_cases z : b.1 ≤ a.1
    · exact br_t z (br_t rfl (keep (if_pos z)))
    · exact br_f z (br_f (by decide) (take (if_neg z)))
  · refine br_f (by decide) (nm_r p1 (nm_r p2 (br_f (by decide) ⟨v1, v2, ?_⟩)))
    rw [c1, c2, a1, b1]
    by_cases z : a.1 ≤ b.1
    · exact br_t z (br_t rfl (keep (if_pos z)))
    · exact br_f z (br_f (by decide) (take (if_neg z)))
theorem x_logic1 {N : Nat} {a : EE} {es : List EE} (hl : es.length + 1 ≤ 12) (ha : ev_ty N 0 a) (X : ev_X a_truth a_number a_variableOf (a :: es)) (h : ∀ tr, ev_X tr a_number a_variableOf ((2 - a.1, a.2) :: es) → post (f_level, f_indexed, f_parts, f_highs, f_tokens, f_conditionLength, f_conditionNames, nI (es.length + 1), f_found, f_testAt, f_count, f_different, f_cheapest, f_positions, f_starts, f_accepts, f_empty, f_written, f_target, f_steps, a_state, a_old, a_kept, a_leaving, a_coming, a_ofType, a_withLabels, a_kind, a_types, a_direction, a_low, a_high, a_variable, a_labels, a_token, a_condition, tr, a_number, a_variableOf, a_atPart, a_trail, a_here, a_bound, a_named, a_used, a_weight, a_left, a_ends, a_seen, a_sum, a_some, a_letter, a_follow, a_firstOf, a_lastOf, a_nullable, a_spelled, a_visited, a_front, a_next)) : wpX_logic post (f_level, f_indexed, f_parts, f_highs, f_tokens, f_conditionLength, f_conditionNames, nI (es.length + 1), f_found, f_testAt, f_count, f_different, f_cheapest, f_positions, f_starts, f_accepts, f_empty, f_written, f_target, f_steps, a_state, a_old, a_kept, a_leaving, a_coming, a_ofType, a_withLabels, a_kind, a_types, a_direction, a_low, a_high, a_variable, a_labels, a_token, a_condition, a_truth, a_number, a_variableOf, a_atPart, a_trail, a_here, a_bound, a_named, a_used, a_weight, a_left, a_ends, a_seen, a_sum, a_some, a_letter, a_follow, a_firstOf, a_lastOf, a_nullable, a_spelled, a_visited, a_front, a_next) 16 := by
  obtain ⟨⟨a1, a2, a3⟩, X⟩ := X
  have p2 : nI (es.length + 1) - 1 = nI es.length := nI_pred _
  have c2 : (nI es.length).toNatClampNeg = es.length := nI_clamp (by omega)
  have v2 : vp_in (nI es.length) 12 := vp_in_nI (by omega) (by omega)
  have q0 : vp_nar .byte (2 - a.1).toInt8.toInt32 = 2 - a.1 := by
    rcases ha.2 with ⟨_, z⟩ | ⟨z, _⟩ | ⟨z, _⟩
    · rcases z with z | z | z <;> rw [z] <;> decide
    · exact absurd z (by decide)
    · exact absurd z (by decide)
  unfold wpX_logic
  exact nm_r p2 (br_t rfl ⟨v2, v2, nm_r (e' := upd a_truth es.length (2 - a.1)) (by rw [c2, a1, q0]) (h _ ⟨⟨pk_us, a2, a3⟩, ev_X_c (fun j hj => ⟨pk_un (by omega), rfl, rfl⟩) X⟩)⟩)
theorem x_compare1 {N : Nat} {x1 : Int32} {a : EE} {es : List EE} (hl : es.length + 1 ≤ 12) (X : ev_X a_truth a_number a_variableOf (a :: es)) (h : ∀ tr, ev_X tr a_number a_variableOf ((if a.1 = 1 then 2 else 0, a.2) :: es) → post (f_level, f_indexed, f_parts, f_highs, f_tokens, f_conditionLength, f_conditionNames, nI (es.length + 1), f_found, f_testAt, f_count, f_different, f_cheapest, f_positions, f_starts, f_accepts, f_empty, f_written, f_target, f_steps, a_state, a_old, a_kept, a_leaving, a_coming, a_ofType, a_withLabels, a_kind, a_types, a_direction, a_low, a_high, a_variable, a_labels, a_token, a_condition, tr, a_number, a_variableOf, a_atPart, a_trail, a_here, a_bound, a_named, a_used, a_weight, a_left, a_ends, a_seen, a_sum, a_some, a_letter, a_follow, a_firstOf, a_lastOf, a_nullable, a_spelled, a_visited, a_front, a_next)) : wpX_compare post (f_level, f_indexed, f_parts, f_highs, f_tokens, f_conditionLength, f_conditionNames, nI (es.length + 1), f_found, f_testAt, f_count, f_different, f_cheapest, f_positions, f_starts, f_accepts, f_empty, f_written, f_target, f_steps, a_state, a_old, a_kept, a_leaving, a_coming, a_ofType, a_withLabels, a_kind, a_types, a_direction, a_low, a_high, a_variable, a_labels, a_token, a_condition, a_truth, a_number, a_variableOf, a_atPart, a_trail, a_here, a_bound, a_named, a_used, a_weight, a_left, a_ends, a_seen, a_sum, a_some, a_letter, a_follow, a_firstOf, a_lastOf, a_nullable, a_spelled, a_visited, a_front, a_next) 12 x1 := by
  obtain ⟨⟨a1, a2, a3⟩, X⟩ := X
  have p2 : nI (es.length + 1) - 1 = nI es.length := nI_pred _
  have c2 : (nI es.length).toNatClampNeg = es.length := nI_clamp (by omega)
  have v2 : vp_in (nI es.length) 12 := vp_in_nI (by omega) (by omega)
  unfold wpX_compare
  refine nm_r p2 (nm_e (br_t rfl ⟨v2, ?_⟩))
  rw [c2, a1]
  by_cases z : a.1 = 1
  · exact br_t z ⟨v2, nm_r (e' := upd a_truth es.length 2) (by rw [show vp_nar .byte (2 : Int32).toInt8.toInt32 = 2 by decide]) (h _ ⟨⟨by rw [pk_us, if_pos z], a2, a3⟩, ev_X_c (fun j hj => ⟨pk_un (by omega), rfl, rfl⟩) X⟩)⟩
  · exact br_f z ⟨v2, nm_r (e' := upd a_truth es.length 0) (by rw [show vp_nar .byte (0 : Int32).toInt8.toInt32 = 0 by decide]) (h _ ⟨⟨by rw [pk_us, if_neg z], a2, a3⟩, ev_X_c (fun j hj => ⟨pk_un (by omega), rfl, rfl⟩) X⟩)⟩
theorem x_compare2 {N t : Nat} {a b : EE} {es : List EE} (ht : t = 10 ∨ t = 11 ∨ t = 13) (hN : N < 4096) (hl : es.length + 2 ≤ 12) (ha : t = 13 → a.2.2.1 < 4 ∧ a.2.2.2 = bb_dg N a.2.2.1) (hb : t = 13 → b.2.2.1 < 4 ∧ b.2.2.2 = bb_dg N b.2.2.1) (X : ev_X a_truth a_number a_variableOf (a :: b :: es)) (h : ∀ tr, ev_X tr a_number a_variableOf ((ev_b t a b, b.2) :: es) → post (f_level, f_indexed, f_parts, f_highs, f_tokens, f_conditionLength, f_conditionNames, nI (es.length + 1), f_found, f_testAt, f_count, f_different, f_cheapest, f_positions, f_starts, f_accepts, f_empty, f_written, f_target, f_steps, a_state, a_old, a_kept, a_leaving, a_coming, a_ofType, a_withLabels, a_kind, a_types, a_direction, a_low, a_high, a_variable, a_labels, a_token, a_condition, tr, a_number, a_variableOf, a_atPart, a_trail, a_here, a_bound, a_named, a_used, a_weight, a_left, a_ends, a_seen, a_sum, a_some, a_letter, a_follow, a_firstOf, a_lastOf, a_nullable, a_spelled, a_visited, a_front, a_next)) : wpX_compare post (f_level, f_indexed, f_parts, f_highs, f_tokens, f_conditionLength, f_conditionNames, nI (es.length + 2), f_found, f_testAt, f_count, f_different, f_cheapest, f_positions, f_starts, f_accepts, f_empty, f_written, f_target, f_steps, a_state, a_old, a_kept, a_leaving, a_coming, a_ofType, a_withLabels, a_kind, a_types, a_direction, a_low, a_high, a_variable, a_labels, a_token, a_condition, a_truth, a_number, a_variableOf, a_atPart, a_trail, a_here, a_bound, a_named, a_used, a_weight, a_left, a_ends, a_seen, a_sum, a_some, a_letter, a_follow, a_firstOf, a_lastOf, a_nullable, a_spelled, a_visited, a_front, a_next) (nI t) (nI N) := by
  obtain ⟨⟨a1, a2, a3⟩, ⟨b1, b2, b3⟩, X⟩ := X
  rw [List.length_cons] at a1 a2 a3
  have p1 : nI (es.length + 2) - 1 = nI (es.length + 1) := nI_pred _
  have p2 : nI (es.length + 2) - 2 = nI es.length := pk_sub (a := es.length + 2) (b := 2) (by omega)
  have c1 : (nI (es.length + 1)).toNatClampNeg = es.length + 1 := nI_clamp (by omega)
  have c2 : (nI es.length).toNatClampNeg = es.length := nI_clamp (by omega)
  have v1 : vp_in (nI (es.length + 1)) 12 := vp_in_nI (by omega) (by omega)
  have v2 : vp_in (nI es.length) 12 := vp_in_nI (by omega) (by omega)
  have put : ∀ r : Int32, ev_b t a b = r → post (f_level, f_indexed, f_parts, f_highs, f_tokens, f_conditionLength, f_conditionNames, nI (es.length + 1), f_found, f_testAt, f_count, f_different, f_cheapest, f_positions, f_starts, f_accepts, f_empty, f_written, f_target, f_steps, a_state, a_old, a_kept, a_leaving, a_coming, a_ofType, a_withLabels, a_kind, a_types, a_direction, a_low, a_high, a_variable, a_labels, a_token, a_condition, upd a_truth es.length r, a_number, a_variableOf, a_atPart, a_trail, a_here, a_bound, a_named, a_used, a_weight, a_left, a_ends, a_seen, a_sum, a_some, a_letter, a_follow, a_firstOf, a_lastOf, a_nullable, a_spelled, a_visited, a_front, a_next) := by
    intro r e
    exact h _ ⟨⟨by rw [pk_us, e], b2, b3⟩, ev_X_c (fun j hj => ⟨pk_un (by omega), rfl, rfl⟩) X⟩
  have n0 : vp_nar .byte (0 : Int32).toInt8.toInt32 = 0 := by decide
  have n1 : vp_nar .byte (1 : Int32).toInt8.toInt32 = 1 := by decide
  have n2 : vp_nar .byte (2 : Int32).toInt8.toInt32 = 2 := by decide
  have fin0 : ev_b t a b = 0 → wX_compare_181 post (nI es.length) 0 f_level f_indexed f_parts f_highs f_tokens f_conditionLength f_conditionNames (nI (es.length + 1)) f_found f_testAt f_count f_different f_cheapest f_positions f_starts f_accepts f_empty f_written f_target f_steps a_state a_old a_kept a_leaving a_coming a_ofType a_withLabels a_kind a_types a_direction a_low a_high a_variable a_labels a_token a_condition a_truth a_number a_variableOf a_atPart a_trail a_here a_bound a_named a_used a_weight a_left a_ends a_seen a_sum a_some a_letter a_follow a_firstOf a_lastOf a_nullable a_spelled a_visited a_front a_next := fun e => br_t rfl (br_t rfl ⟨v2, nm_r (e' := upd a_truth es.length 0) (by rw [c2, n0]) (put 0 e)⟩)
  have fin2 : ev_b t a b = 2 → wX_compare_181 post (nI es.length) 1 f_level f_indexed f_parts f_highs f_tokens f_conditionLength f_conditionNames (nI (es.length + 1)) f_found f_testAt f_count f_different f_cheapest f_positions f_starts f_accepts f_empty f_written f_target f_steps a_state a_old a_kept a_leaving a_coming a_ofType a_withLabels a_kind a_types a_direction a_low a_high a_variable a_labels a_token a_condition a_truth a_number a_variableOf a_atPart a_trail a_here a_bound a_named a_used a_weight a_left a_ends a_seen a_sum a_some a_letter a_follow a_firstOf a_lastOf a_nullable a_spelled a_visited a_front a_next := fun e => br_t rfl (br_f (by decide) ⟨v2, nm_r (e' := upd a_truth es.length 2) (by rw [c2, n2]) (put 2 e)⟩)
  have fin1 : ∀ z, ev_b t a b = 1 → wX_compare_177 post (nI es.length) z f_level f_indexed f_parts f_highs f_tokens f_conditionLength f_conditionNames (nI (es.length + 1)) f_found f_testAt f_count f_different f_cheapest f_positions f_starts f_accepts f_empty f_written f_target f_steps a_state a_old a_kept a_leaving a_coming a_ofType a_withLabels a_kind a_types a_direction a_low a_high a_variable a_labels a_token a_condition a_truth a_number a_variableOf a_atPart a_trail a_here a_bound a_named a_used a_weight a_left a_ends a_seen a_sum a_some a_letter a_follow a_firstOf a_lastOf a_nullable a_spelled a_visited a_front a_next := fun z e => br_f (by decide) ⟨v2, nm_r (e' := upd a_truth es.length 1) (by rw [c2, n1]) (put 1 e)⟩
  have num : t = 10 ∨ t = 11 → ∀ z : Int32, (z = 0 → ¬ (a.1 = 1 ∨ b.1 = 1) → ev_b t a b = 0) → (z = 1 → ¬ (a.1 = 1 ∨ b.1 = 1) → ev_b t a b = 2) → (z = 0 ∨ z = 1) → wX_compare_150 post (nI t) (nI (es.length + 1)) (nI es.length) z f_level f_indexed f_parts f_highs f_tokens f_conditionLength f_conditionNames (nI (es.length + 1)) f_found f_testAt f_count f_different f_cheapest f_positions f_starts f_accepts f_empty f_written f_target f_steps a_state a_old a_kept a_leaving a_coming a_ofType a_withLabels a_kind a_types a_direction a_low a_high a_variable a_labels a_token a_condition a_truth a_number a_variableOf a_atPart a_trail a_here a_bound a_named a_used a_weight a_left a_ends a_seen a_sum a_some a_letter a_follow a_firstOf a_lastOf a_nullable a_spelled a_visited a_front a_next := by
    intro ht z h0 h2 hz
    have t13 : ¬ nI t = 13 := by rcases ht with rfl | rfl <;> decide
    have one : a.1 = 1 ∨ b.1 = 1 → ev_b t a b = 1 := by
      intro y
      unfold ev_b
      rw [if_neg (by omega), if_neg (by omega), if_neg (by omega), if_pos y]
    refine br_f t13 ⟨v1, ?_⟩
    rw [c1, c2, a1, b1]
    by_cases y1 : a.1 = 1
    · exact br_t y1 (fin1 z (one (Or.inl y1)))
    · refine br_f y1 ⟨v2, ?_⟩
      by_cases y2 : b.1 = 1
      · exact br_t y2 (fin1 z (one (Or.inr y2)))
      · refine br_f y2 ?_
        have no : ¬ (a.1 = 1 ∨ b.1 = 1) := fun w => w.elim y1 y2
        rcases hz with rfl | rfl
        · exact fin0 (h0 rfl no)
        · exact fin2 (h2 rfl no)
  have same : t = 13 → ∀ z, wX_compare_105 post (nI t) (nI N) (nI (es.length + 1)) (nI es.length) z f_level f_indexed f_parts f_highs f_tokens f_conditionLength f_conditionNames (nI (es.length + 1)) f_found f_testAt f_count f_different f_cheapest f_positions f_starts f_accepts f_empty f_written f_target f_steps a_state a_old a_kept a_leaving a_coming a_ofType a_withLabels a_kind a_types a_direction a_low a_high a_variable a_labels a_token a_condition a_truth a_number a_variableOf a_atPart a_trail a_here a_bound a_named a_used a_weight a_left a_ends a_seen a_sum a_some a_letter a_follow a_firstOf a_lastOf a_nullable a_spelled a_visited a_front a_next := by
    intro e z
    subst e
    obtain ⟨x1, x2⟩ := ha rfl
    obtain ⟨y1, y2⟩ := hb rfl
    refine br_t rfl ⟨v1, v2, ?_⟩
    rw [c1, c2, a3 x1, b3 y1, bb_dgX (by omega) (by omega), bb_dgX (by omega) (by omega), ← x2, ← y2]
    have l1 : a.2.2.2 < 8 := by rw [x2]; exact bb_dg_lt _ _
    have l2 : b.2.2.2 < 8 := by rw [y2]; exact bb_dg_lt _ _
    by_cases w : a.2.2.2 = b.2.2.2
    · exact br_t (congrArg nI w) (br_t rfl (fin2 (by unfold ev_b; rw [if_neg (by decide), if_neg (by decide), if_pos rfl, if_pos w])))
    · exact br_f (fun y => w ((nI_eq (by omega) (by omega)).mp y)) (br_t rfl (fin0 (by unfold ev_b; rw [if_neg (by decide), if_neg (by decide), if_pos rfl, if_neg w])))
  unfold wpX_compare
  refine nm_r p1 (nm_r p2 (br_f (by rcases ht with rfl | rfl | rfl <;> decide) (nm_r p1 ?_)))
  rw [c1, c2, a2, b2]
  rcases ht with rfl | rfl | rfl
  · refine br_t rfl ⟨v1, v2, ?_⟩
    by_cases z : b.2.1 ≤ a.2.1
    · exact br_t z (br_f (by decide) (num (Or.inl rfl) 0 (fun _ no => by unfold ev_b; rw [if_neg (by decide), if_neg (by decide), if_neg (by decide), if_neg no, if_pos rfl, if_pos z]) (fun y => absurd y (by decide)) (Or.inl rfl)))
    · exact br_f z (br_f (by decide) (num (Or.inl rfl) 1 (fun y => absurd y (by decide)) (fun _ no => by unfold ev_b; rw [if_neg (by decide), if_neg (by decide), if_neg (by decide), if_neg no, if_pos rfl, if_neg z]) (Or.inr rfl)))
  · refine br_f (by decide) ⟨v1, v2, ?_⟩
    by_cases z : a.2.1 = b.2.1
    · exact br_t z (br_f (by decide) (num (Or.inr rfl) 1 (fun y => absurd y (by decide)) (fun _ no => by unfold ev_b; rw [if_neg (by decide), if_neg (by decide), if_neg (by decide), if_neg no, if_neg (by decide), if_pos z]) (Or.inr rfl)))
    · exact br_f z (br_f (by decide) (num (Or.inr rfl) 0 (fun _ no => by unfold ev_b; rw [if_neg (by decide), if_neg (by decide), if_neg (by decide), if_neg no, if_neg (by decide), if_neg z]) (fun y => absurd y (by decide)) (Or.inl rfl)))
  · refine br_f (by decide) ⟨v1, v2, ?_⟩
    by_cases z : a.2.1 = b.2.1
    · exact br_t z (same rfl _)
    · exact br_f z (same rfl _)
end
end
section
/-! the component works a condition out: the loop -/
section
variable {f_level f_indexed f_parts f_highs f_tokens f_conditionLength f_conditionNames f_depth f_found f_testAt f_count f_different f_cheapest f_positions f_starts f_accepts f_empty f_written f_target f_steps : Int32} {a_state a_old : Nat → Int64} {a_kept a_leaving a_coming a_ofType a_withLabels a_kind a_types a_direction a_low a_high a_variable a_labels a_token a_condition a_truth a_number a_variableOf a_atPart a_trail a_here a_bound a_named a_used a_weight a_left a_ends : Nat → Int32} {a_seen a_sum : Nat → Int64} {a_some a_letter a_follow a_firstOf a_lastOf a_nullable a_spelled a_visited a_front a_next : Nat → Int32} {post : Int32 → SX → Prop}
theorem x_holds_21 {c : Nat → Nat} {N m : Nat} {A : Nat → List Nat} (hA : ev_A c m A) (hm : m ≤ 12) (hN : N < 4096) (hc : ∀ k, k < m → a_condition k = nI (c k) ∧ c k < 11000) (h : ∀ d tr nu vo, ev_X tr nu vo (ev a_state c N m m) → post (tr 0) (f_level, f_indexed, f_parts, f_highs, f_tokens, f_conditionLength, f_conditionNames, d, f_found, f_testAt, f_count, f_different, f_cheapest, f_positions, f_starts, f_accepts, f_empty, f_written, f_target, f_steps, a_state, a_old, a_kept, a_leaving, a_coming, a_ofType, a_withLabels, a_kind, a_types, a_direction, a_low, a_high, a_variable, a_labels, a_token, a_condition, tr, nu, vo, a_atPart, a_trail, a_here, a_bound, a_named, a_used, a_weight, a_left, a_ends, a_seen, a_sum, a_some, a_letter, a_follow, a_firstOf, a_lastOf, a_nullable, a_spelled, a_visited, a_front, a_next)) : ∀ r n j, j + r = m → r < n → ∀ tr nu vo, ev_X tr nu vo (ev a_state c N m j) → wX_holds_21 post (nI N) n (dn r) f_level f_indexed f_parts f_highs f_tokens f_conditionLength f_conditionNames (nI (ev a_state c N m j).length) f_found f_testAt f_count f_different f_cheapest f_positions f_starts f_accepts f_empty f_written f_target f_steps a_state a_old a_kept a_leaving a_coming a_ofType a_withLabels a_kind a_types a_direction a_low a_high a_variable a_labels a_token a_condition tr nu vo a_atPart a_trail a_here a_bound a_named a_used a_weight a_left a_ends a_seen a_sum a_some a_letter a_follow a_firstOf a_lastOf a_nullable a_spelled a_visited a_front a_next := by
  intro r
  induction r with
  | zero =>
    intro n j hj hn tr nu vo X
    obtain ⟨n, rfl⟩ : ∃ k, n = k + 1 := ⟨n - 1, by omega⟩
    have hj : j = m := hj
    rw [hj] at X ⊢
    exact br_t (by decide) (h _ tr nu vo X)
  | succ r ih =>
    intro n j hj hn tr nu vo X
    obtain ⟨n, rfl⟩ : ∃ k, n = k + 1 := ⟨n - 1, by omega⟩
    have e : m - 1 - j = r := by omega
    have E : ev a_state c N m (j + 1) = ev_s a_state N (c r) (ev a_state c N m j) := by
      show ev_s a_state N (c (m - 1 - j)) _ = _
      rw [e]
    obtain ⟨w, rr, _, sh⟩ := ev_at (g := a_state) (N := N) hA (show j < m by omega)
    rw [e] at sh
    have hl := ev_len_le (g := a_state) (N := N) hA j (by omega)
    have ih2 := ih n (j + 1) (by omega) (by omega)
    rw [E] at ih2
    have hj : j < 12 := by omega
    generalize ev a_state c N m j = l at X sh hl ih2 ⊢
    have K : ∀ (es : List EE) (tr nu vo : Nat → Int32), ev_s a_state N (c r) l = es → ev_X tr nu vo es → ∀ x, x = nI r + (-1) → wX_holds_21 post (nI N) n x f_level f_indexed f_parts f_highs f_tokens f_conditionLength f_conditionNames (nI es.length) f_found f_testAt f_count f_different f_cheapest f_positions f_starts f_accepts f_empty f_written f_target f_steps a_state a_old a_kept a_leaving a_coming a_ofType a_withLabels a_kind a_types a_direction a_low a_high a_variable a_labels a_token a_condition tr nu vo a_atPart a_trail a_here a_bound a_named a_used a_weight a_left a_ends a_seen a_sum a_some a_letter a_follow a_firstOf a_lastOf a_nullable a_spelled a_visited a_front a_next := by
      intro es tr nu vo e X x ex
      subst e
      rw [ex, dn_m]
      exact ih2 tr nu vo X
    obtain ⟨hcr, hcl⟩ := hc r (by omega)
    rw [dn_s]
    refine br_f (nI_pos (by omega)) ⟨vp_in_nI (by omega) (by omega), nm_r (e' := nI (c r)) (by rw [nI_clamp (by omega)]; exact hcr) ?_⟩
    rcases sh with ⟨h1, _, _⟩ | ⟨h1, _, _⟩ | ⟨h1, _, a, es, rfl, ha, _⟩ | ⟨h1, _, a, es, rfl, ha, _⟩ | ⟨h1, _, a, b, es, rfl, ha, hb, _⟩ | ⟨h1, _, a, b, es, rfl, ha, hb, _⟩ | ⟨h1, _, a, b, es, rfl, ha, hb, _⟩
    · refine br_f (nI_ge (a := 999) (by omega) (by omega)) (x_push (d := l.length) (p' := 2) (by omega) (by decide) (K _ _ _ _ (ev_s_n h1) ⟨⟨pk_us, ?_, fun z => absurd z (show ¬ 99 < 4 by decide)⟩, ev_X_c (fun j hj => ⟨pk_un (by omega), pk_un (by omega), rfl⟩) X⟩))
      rw [pk_us]
      exact pk_sub (a := c r) (b := 1000) h1
    · refine br_t (nI_le (b := 999) (by omega) (by omega)) (br_f (nI_ge (b := 4) h1 (by omega)) ?_)
      rw [bb_dgX (by omega) (by omega)]
      exact x_pushProperty (d := l.length) (by omega) h1 (K _ _ _ _ (ev_s_v h1) ⟨⟨pk_us, pk_us, fun _ => by rw [pk_us]; unfold ev_p; split <;> rfl⟩, ev_X_c (fun j hj => ⟨pk_un (by omega), pk_un (by omega), pk_un (by omega)⟩) X⟩)
    · rw [h1] at K ⊢
      exact br_t (by decide) (br_t (by decide) (br_t (by decide) (x_compare1 (N := N) (by rw [List.length_cons] at hl; omega) X fun tr q => K _ tr _ _ ev_s_12 q)))
    · rw [h1] at K ⊢
      exact br_t (by decide) (br_t (by decide) (br_f (by decide) (x_logic1 (by rw [List.length_cons] at hl; omega) ha X fun tr q => K _ tr _ _ ev_s_16 q)))
    · have hh : es.length + 2 ≤ 12 := by rw [List.length_cons, List.length_cons] at hl; omega
      have K2 := fun tr => K _ tr nu vo (ev_s_b (by omega))
      rcases h1 with h1 | h1 <;> rw [h1] at K2 ⊢
      · exact br_t (by decide) (br_t (by decide) (br_t (by decide) (x_compare2 (Or.inl rfl) hN hh (fun z => absurd z (by decide)) (fun z => absurd z (by decide)) X fun tr q => K2 tr q)))
      · exact br_t (by decide) (br_t (by decide) (br_t (by decide) (x_compare2 (Or.inr (Or.inl rfl)) hN hh (fun z => absurd z (by decide)) (fun z => absurd z (by decide)) X fun tr q => K2 tr q)))
    · have hh : es.length + 2 ≤ 12 := by rw [List.length_cons, List.length_cons] at hl; omega
      have K2 := fun tr => K _ tr nu vo (ev_s_b (by omega))
      have v2 : ∀ e : EE, ev_ty N 2 e → e.2.2.1 < 4 ∧ e.2.2.2 = bb_dg N e.2.2.1 := by
        intro e he
        rcases he.2 with ⟨z, _⟩ | ⟨z, _⟩ | ⟨_, _, z⟩
        · exact absurd z (by decide)
        · exact absurd z (by decide)
        · exact ⟨z, he.1 z⟩
      rw [h1] at K2 ⊢
      exact br_t (by decide) (br_t (by decide) (br_t (by decide) (x_compare2 (Or.inr (Or.inr rfl)) hN hh (fun _ => v2 a ha) (fun _ => v2 b hb) X fun tr q => K2 tr q)))
    · have hh : es.length + 2 ≤ 12 := by rw [List.length_cons, List.length_cons] at hl; omega
      have K2 := fun tr => K _ tr nu vo (ev_s_b (by omega))
      rcases h1 with h1 | h1 <;> rw [h1] at K2 ⊢
      · exact br_t (by decide) (br_t (by decide) (br_f (by decide) (x_logic2 (Or.inl rfl) hh ha hb X fun tr q => K2 tr q)))
      · exact br_t (by decide) (br_t (by decide) (br_f (by decide) (x_logic2 (Or.inr rfl) hh ha hb X fun tr q => K2 tr q)))
/-- a stored condition: its length, tokens, what is awaited -/
def CO (cn : Nat → Int32) (c : Nat → Nat) (m : Nat) : Prop := m ≤ 12 ∧ (∀ k, k < m → cn k = nI (c k) ∧ c k < 11000) ∧ (0 < m → ∃ A, ev_A c m A)
theorem x_holds {c : Nat → Nat} {N m : Nat} (C : CO a_condition c m) (hN : N < 4096) (h : ∀ r (f_depth' : Int32) (a_truth' a_number' a_variableOf' : Nat → Int32), (r = 2 ↔ ev_c a_state c m N = true) → post r (f_level, f_indexed, f_parts, f_highs, f_tokens, nI m, f_conditionNames, f_depth', f_found, f_testAt, f_count, f_different, f_cheapest, f_positions, f_starts, f_accepts, f_empty, f_written, f_target, f_steps, a_state, a_old, a_kept, a_leaving, a_coming, a_ofType, a_withLabels, a_kind, a_types, a_direction, a_low, a_high, a_variable, a_labels, a_token, a_condition, a_truth', a_number', a_variableOf', a_atPart, a_trail, a_here, a_bound, a_named, a_used, a_weight, a_left, a_ends, a_seen, a_sum, a_some, a_letter, a_follow, a_firstOf, a_lastOf, a_nullable, a_spelled, a_visited, a_front, a_next)) : wpX_holds post (f_level, f_indexed, f_parts, f_highs, f_tokens, nI m, f_conditionNames, f_depth, f_found, f_testAt, f_count, f_different, f_cheapest, f_positions, f_starts, f_accepts, f_empty, f_written, f_target, f_steps, a_state, a_old, a_kept, a_leaving, a_coming, a_ofType, a_withLabels, a_kind, a_types, a_direction, a_low, a_high, a_variable, a_labels, a_token, a_condition, a_truth, a_number, a_variableOf, a_atPart, a_trail, a_here, a_bound, a_named, a_used, a_weight, a_left, a_ends, a_seen, a_sum, a_some, a_letter, a_follow, a_firstOf, a_lastOf, a_nullable, a_spelled, a_visited, a_front, a_next) (nI N) := by
  obtain ⟨hm, hc, hA⟩ := C
  unfold wpX_holds
  cases m with
  | zero => exact br_t rfl (h _ _ _ _ _ ⟨fun _ => rfl, fun _ => rfl⟩)
  | succ m =>
    obtain ⟨A, hA⟩ := hA (by omega)
    refine br_f (nI_ne0 (by omega) (by omega)) (nm_r (e' := dn (m + 1)) (nI_pred m) ⟨m + 2, ?_⟩)
    refine x_holds_21 hA hm hN hc (fun d tr nu vo X => h _ _ _ _ _ ?_) (m + 1) (m + 2) 0 (by omega) (by omega) a_truth a_number a_variableOf True.intro
    · have T := ev_T_all (g := a_state) (N := N) hA (m + 1) (Nat.le_refl _)
      rw [Nat.sub_self, hA.1] at T
      obtain ⟨e, es, e1, e2, e3⟩ := ev_T_cons T
      have e4 := ev_T_nil e3
      subst e4
      rw [e1] at X
      unfold ev_c
      have x1 : tr 0 = e.1 := X.1.1
      rw [e1, x1, decide_eq_true_eq]
      constructor
      · intro z; exact Or.inr z
      · rintro (z | z)
        · omega
        · exact z
end
end
section
/-! the reference works a condition out -/
def ev_sw (x : Int32) : Int32 := if x = 1 then 2 else if x = 2 then 1 else 0
def ev_y1 (g : Nat → Int64) (B : Nat → Prop) (N w : Nat) (e : EE) (y : Int32) : Prop := (w = 0 ∧ y = ev_sw e.1) ∨ (¬ w = 0 ∧ ∃ t, y = nI t ∧ ((1000 ≤ t ∧ t < 11000 ∧ e = (2, nI (t - 1000), 99, 0)) ∨ (t < 4 ∧ B t ∧ e = ev_p g N t)))
def ev_Y (g : Nat → Int64) (B : Nat → Prop) (N : Nat) (s : Nat → Int32) : List Nat → List EE → Prop
  | [], [] => True
  | w :: ws, e :: es => ev_y1 g B N w e (s es.length) ∧ ev_Y g B N s ws es
  | _, _ => False
theorem ev_Y_c {g : Nat → Int64} {B : Nat → Prop} {N : Nat} {s s' : Nat → Int32} : ∀ {ws : List Nat} {es : List EE}, (∀ j, j < es.length → s' j = s j) → ev_Y g B N s ws es → ev_Y g B N s' ws es
  | [], [], _, _ => True.intro
  | w :: ws, e :: es, h, q => by
    refine ⟨?_, ev_Y_c (fun j hj => h j (by rw [List.length_cons]; omega)) q.2⟩
    rw [h es.length (by rw [List.length_cons]; omega)]
    exact q.1
  | [], _ :: _, _, q => q.elim
  | _ :: _, [], _, q => q.elim
def ev_ov (e : EE) : Int64 := if e.1 = 1 then 9000000000000000000 else e.2.1.toInt64
theorem gr_prB (w : Int64) : (gr_pr w).toInt32.toInt64 = gr_pr w := by
  obtain ⟨v, e⟩ := gr_prI w
  rw [e]
  congr 1
  exact Int32.toInt32_toInt64 v
section
variable {yf_level yf_parts yf_pending yf_conditions yf_spelled yf_depth yf_used yf_weight yf_found yf_lightest yf_some : Int32} {yf_sum : Int64} {ya_labels : Nat → Int32} {ya_properties : Nat → Int64} {ya_from ya_to ya_types ya_weights ya_variable ya_wanted ya_among ya_direction ya_low ya_high ya_tokens ya_condition ya_expression ya_stack ya_part ya_steps ya_place ya_choice ya_bound ya_took ya_nodeOf ya_chosen ya_far : Nat → Int32} {g : Nat → Int64} {N : Nat}
def yB (g : Nat → Int64) (N : Nat) (no : Nat → Int32) (t : Nat) : Prop := no t = nI (bb_dg N t) ∧ ¬ g (bb_dg N t) = 0
theorem y_operand {post : Int64 → Prop} {e : EE} {y : Int32} {w : Nat} (G : YN g 0 ya_labels ya_properties) (hw : ¬ w = 0) (E : ev_y1 g (yB g N ya_nodeOf) N w e y) (h : post (ev_ov e)) : wpY_operand post (yf_level, yf_parts, yf_pending, yf_conditions, yf_spelled, yf_depth, yf_used, yf_weight, yf_found, yf_lightest, yf_some, yf_sum, ya_labels, ya_properties, ya_from, ya_to, ya_types, ya_weights, ya_variable, ya_wanted, ya_among, ya_direction, ya_low, ya_high, ya_tokens, ya_condition, ya_expression, ya_stack, ya_part, ya_steps, ya_place, ya_choice, ya_bound, ya_took, ya_nodeOf, ya_chosen, ya_far) y := by
  rcases E with ⟨z, _⟩ | ⟨_, t, rfl, ⟨h1, h2, rfl⟩ | ⟨h1, ⟨h2, h3⟩, rfl⟩⟩
  · exact absurd z hw
  · unfold wpY_operand
    refine br_f (nI_nlt (b := 1000) h1 (by omega)) ?_
    have e1 : nI t - 1000 = nI (t - 1000) := pk_sub (a := t) (b := 1000) h1
    rw [e1]
    exact h
  · unfold wpY_operand
    have n8 := bb_dg_lt N t
    have c : (nI t).toNatClampNeg = t := nI_clamp (by omega)
    refine br_t (nI_lt (b := 1000) (by omega) (by omega)) ⟨vp_in_nI h1 (by omega), ?_⟩
    rw [c, h2]
    refine ⟨vp_in_nI (by omega) (by omega), ?_⟩
    rw [nI_clamp (by omega)]
    rcases G _ n8 with ⟨z, _⟩ | ⟨_, _, z⟩
    · exact absurd z h3
    · rw [Nat.mul_zero, Nat.zero_add] at z
      rw [z]
      unfold ev_p ev_ov at h
      by_cases q : nH g (bb_dg N t) = true
      · rw [if_pos q] at h ⊢
        rw [if_neg (show ¬ (2 : Int32) = 1 by decide)] at h
        rw [gr_prB] at h
        exact h
      · rw [if_neg q] at h ⊢
        rw [if_pos rfl] at h
        exact h
theorem ev_ov_n {g : Nat → Int64} {B : Nat → Prop} {w : Nat} {e : EE} {y : Int32} (hw : ¬ w = 0) (E : ev_y1 g B N w e y) : (ev_ov e = 9000000000000000000 ↔ e.1 = 1) := by
  unfold ev_ov
  by_cases q : e.1 = 1
  · rw [if_pos q]; exact ⟨fun _ => q, fun _ => rfl⟩
  · rw [if_neg q]; exact ⟨fun z => absurd z (gr_i2l_ne _), fun z => absurd z q⟩
theorem i2l_le (x y : Int32) : x.toInt64 ≤ y.toInt64 ↔ x ≤ y := by
  rw [Int64.le_iff_toInt_le, Int32.le_iff_toInt_le, Int32.toInt_toInt64, Int32.toInt_toInt64]
theorem i2l_eq (x y : Int32) : x.toInt64 = y.toInt64 ↔ x = y := by
  rw [← Int64.toInt_inj, ← Int32.toInt_inj, Int32.toInt_toInt64, Int32.toInt_toInt64]
theorem y_res_and {post : Int32 → Prop} {a b : EE} (ha : a.1 = 0 ∨ a.1 = 1 ∨ a.1 = 2) (hb : b.1 = 0 ∨ b.1 = 1 ∨ b.1 = 2) (h : post (ev_sw (ev_b 14 a b))) : wpY_result post (yf_level, yf_parts, yf_pending, yf_conditions, yf_spelled, yf_depth, yf_used, yf_weight, yf_found, yf_lightest, yf_some, yf_sum, ya_labels, ya_properties, ya_from, ya_to, ya_types, ya_weights, ya_variable, ya_wanted, ya_among, ya_direction, ya_low, ya_high, ya_tokens, ya_condition, ya_expression, ya_stack, ya_part, ya_steps, ya_place, ya_choice, ya_bound, ya_took, ya_nodeOf, ya_chosen, ya_far) 14 (ev_sw a.1) (ev_sw b.1) := by
  unfold wpY_result
  have q : ev_b 14 a b = if b.1 ≤ a.1 then b.1 else a.1 := rfl
  rw [q] at h
  rcases ha with ha | ha | ha <;> rcases hb with hb | hb | hb <;> rw [ha, hb] at h ⊢ <;> (refine br_t rfl ?_) <;> (repeat (first | exact h | refine br_t rfl ?_ | refine br_f (by decide) ?_))
theorem y_res_or {post : Int32 → Prop} {a b : EE} (ha : a.1 = 0 ∨ a.1 = 1 ∨ a.1 = 2) (hb : b.1 = 0 ∨ b.1 = 1 ∨ b.1 = 2) (h : post (ev_sw (ev_b 15 a b))) : wpY_result post (yf_level, yf_parts, yf_pending, yf_conditions, yf_spelled, yf_depth, yf_used, yf_weight, yf_found, yf_lightest, yf_some, yf_sum, ya_labels, ya_properties, ya_from, ya_to, ya_types, ya_weights, ya_variable, ya_wanted, ya_among, ya_direction, ya_low, ya_high, ya_tokens, ya_condition, ya_expression, ya_stack, ya_part, ya_steps, ya_place, ya_choice, ya_bound, ya_took, ya_nodeOf, ya_chosen, ya_far) 15 (ev_sw a.1) (ev_sw b.1) := by
  unfold wpY_result
  have q : ev_b 15 a b = if a.1 ≤ b.1 then b.1 else a.1 := rfl
  rw [q] at h
  rcases ha with ha | ha | ha <;> rcases hb with hb | hb | hb <;> rw [ha, hb] at h ⊢ <;> (refine br_f (by decide) (br_t rfl ?_)) <;> (repeat (first | exact h | refine br_t rfl ?_ | refine br_f (by decide) ?_))
theorem y_res_not {post : Int32 → Prop} {a : EE} {z : Int32} (ha : a.1 = 0 ∨ a.1 = 1 ∨ a.1 = 2) (h : post (ev_sw (2 - a.1))) : wpY_result post (yf_level, yf_parts, yf_pending, yf_conditions, yf_spelled, yf_depth, yf_used, yf_weight, yf_found, yf_lightest, yf_some, yf_sum, ya_labels, ya_properties, ya_from, ya_to, ya_types, ya_weights, ya_variable, ya_wanted, ya_among, ya_direction, ya_low, ya_high, ya_tokens, ya_condition, ya_expression, ya_stack, ya_part, ya_steps, ya_place, ya_choice, ya_bound, ya_took, ya_nodeOf, ya_chosen, ya_far) 16 (ev_sw a.1) z := by
  unfold wpY_result
  rcases ha with ha | ha | ha <;> rw [ha] at h ⊢ <;> (refine br_f (by decide) (br_f (by decide) (br_t rfl ?_))) <;> (repeat (first | exact h | refine br_t rfl ?_ | refine br_f (by decide) ?_))
theorem y_res_nul {post : Int32 → Prop} {a : EE} {y z : Int32} {w : Nat} (G : YN g 0 ya_labels ya_properties) (hw : ¬ w = 0) (E : ev_y1 g (yB g N ya_nodeOf) N w a y) (h : post (ev_sw (if a.1 = 1 then 2 else 0))) : wpY_result post (yf_level, yf_parts, yf_pending, yf_conditions, yf_spelled, yf_depth, yf_used, yf_weight, yf_found, yf_lightest, yf_some, yf_sum, ya_labels, ya_properties, ya_from, ya_to, ya_types, ya_weights, ya_variable, ya_wanted, ya_among, ya_direction, ya_low, ya_high, ya_tokens, ya_condition, ya_expression, ya_stack, ya_part, ya_steps, ya_place, ya_choice, ya_bound, ya_took, ya_nodeOf, ya_chosen, ya_far) 12 y z := by
  unfold wpY_result
  refine br_f (by decide) (br_f (by decide) (br_f (by decide) (br_f (by decide) (y_operand G hw E (br_t rfl ?_)))))
  have q := ev_ov_n hw E
  by_cases p : a.1 = 1
  · rw [if_pos p] at h; exact br_t (q.mpr p) h
  · rw [if_neg p] at h; exact br_f (fun x => p (q.mp x)) h
theorem y_res_same {post : Int32 → Prop} {a b : EE} {y z : Int32} (Ea : ev_y1 g (yB g N ya_nodeOf) N 2 a y) (Eb : ev_y1 g (yB g N ya_nodeOf) N 2 b z) (ha : a.2.2.1 < 4) (hb : b.2.2.1 < 4) (h : post (ev_sw (ev_b 13 a b))) : wpY_result post (yf_level, yf_parts, yf_pending, yf_conditions, yf_spelled, yf_depth, yf_used, yf_weight, yf_found, yf_lightest, yf_some, yf_sum, ya_labels, ya_properties, ya_from, ya_to, ya_types, ya_weights, ya_variable, ya_wanted, ya_among, ya_direction, ya_low, ya_high, ya_tokens, ya_condition, ya_expression, ya_stack, ya_part, ya_steps, ya_place, ya_choice, ya_bound, ya_took, ya_nodeOf, ya_chosen, ya_far) 13 y z := by
  have var : ∀ {e : EE} {y : Int32}, ev_y1 g (yB g N ya_nodeOf) N 2 e y → e.2.2.1 < 4 → ∃ t, t < 4 ∧ y = nI t ∧ ya_nodeOf t = nI e.2.2.2 ∧ e.2.2.2 < 8 := by
    intro e y E l
    rcases E with ⟨z, _⟩ | ⟨_, t, rfl, ⟨h1, h2, rfl⟩ | ⟨h1, ⟨h2, h3⟩, rfl⟩⟩
    · exact absurd z (by decide)
    · exact absurd l (by show ¬ 99 < 4; decide)
    · refine ⟨t, h1, rfl, ?_⟩
      unfold ev_p
      have := bb_dg_lt N t
      split <;> exact ⟨h2, this⟩
  obtain ⟨t1, l1, rfl, n1, m1⟩ := var Ea ha
  obtain ⟨t2, l2, rfl, n2, m2⟩ := var Eb hb
  unfold wpY_result
  refine br_f (by decide) (br_f (by decide) (br_f (by decide) (br_t rfl ⟨vp_in_nI l1 (by omega), vp_in_nI l2 (by omega), ?_⟩)))
  rw [nI_clamp (by omega), nI_clamp (by omega), n1, n2]
  have q : ev_b 13 a b = if a.2.2.2 = b.2.2.2 then 2 else 0 := rfl
  rw [q] at h
  by_cases p : a.2.2.2 = b.2.2.2
  · rw [if_pos p] at h; exact br_t (congrArg nI p) h
  · rw [if_neg p] at h; exact br_f (fun x => p ((nI_eq (by omega) (by omega)).mp x)) h
theorem y_res_cmp {post : Int32 → Prop} {a b : EE} {y z : Int32} {t : Nat} (ht : t = 10 ∨ t = 11) (G : YN g 0 ya_labels ya_properties) (Ea : ev_y1 g (yB g N ya_nodeOf) N 1 a y) (Eb : ev_y1 g (yB g N ya_nodeOf) N 1 b z) (h : post (ev_sw (ev_b t a b))) : wpY_result post (yf_level, yf_parts, yf_pending, yf_conditions, yf_spelled, yf_depth, yf_used, yf_weight, yf_found, yf_lightest, yf_some, yf_sum, ya_labels, ya_properties, ya_from, ya_to, ya_types, ya_weights, ya_variable, ya_wanted, ya_among, ya_direction, ya_low, ya_high, ya_tokens, ya_condition, ya_expression, ya_stack, ya_part, ya_steps, ya_place, ya_choice, ya_bound, ya_took, ya_nodeOf, ya_chosen, ya_far) (nI t) y z := by
  have q1 := ev_ov_n (by decide) Ea
  have q2 := ev_ov_n (by decide) Eb
  have one : a.1 = 1 ∨ b.1 = 1 → ev_b t a b = 1 := by
    intro y
    unfold ev_b
    rw [if_neg (by omega), if_neg (by omega), if_neg (by omega), if_pos y]
  unfold wpY_result
  refine br_f (by rcases ht with rfl | rfl <;> decide) (br_f (by rcases ht with rfl | rfl <;> decide) (br_f (by rcases ht with rfl | rfl <;> decide) (br_f (by rcases ht with rfl | rfl <;> decide) (y_operand G (by decide) Ea (br_f (by rcases ht with rfl | rfl <;> decide) (y_operand G (by decide) Eb ?_))))))
  by_cases p1 : a.1 = 1
  · rw [one (Or.inl p1)] at h; exact br_t (q1.mpr p1) h
  · refine br_f (fun x => p1 (q1.mp x)) ?_
    by_cases p2 : b.1 = 1
    · rw [one (Or.inr p2)] at h; exact br_t (q2.mpr p2) h
    · refine br_f (fun x => p2 (q2.mp x)) ?_
      have no : ¬ (a.1 = 1 ∨ b.1 = 1) := fun w => w.elim p1 p2
      have o1 : ev_ov a = a.2.1.toInt64 := if_neg p1
      have o2 : ev_ov b = b.2.1.toInt64 := if_neg p2
      rw [o1, o2]
      rcases ht with rfl | rfl
      · have q : ev_b 10 a b = if b.2.1 ≤ a.2.1 then 0 else 2 := by
          unfold ev_b
          rw [if_neg (by decide), if_neg (by decide), if_neg (by decide), if_neg no, if_pos rfl]
        rw [q] at h
        refine br_t rfl ?_
        by_cases p : b.2.1 ≤ a.2.1
        · rw [if_pos p] at h; exact br_t ((i2l_le _ _).mpr p) h
        · rw [if_neg p] at h; exact br_f (fun x => p ((i2l_le _ _).mp x)) h
      · have q : ev_b 11 a b = if a.2.1 = b.2.1 then 2 else 0 := by
          unfold ev_b
          rw [if_neg (by decide), if_neg (by decide), if_neg (by decide), if_neg no, if_neg (by decide)]
        rw [q] at h
        refine br_f (by decide) ?_
        by_cases p : a.2.1 = b.2.1
        · rw [if_pos p] at h; exact br_t ((i2l_eq _ _).mpr p) h
        · rw [if_neg p] at h; exact br_f (fun x => p ((i2l_eq _ _).mp x)) h
end
end
section
/-! the reference works a condition out: the loop -/
section
variable {yf_level yf_parts yf_pending yf_conditions yf_spelled yf_depth yf_used yf_weight yf_found yf_lightest yf_some : Int32} {yf_sum : Int64} {ya_labels : Nat → Int32} {ya_properties : Nat → Int64} {ya_from ya_to ya_types ya_weights ya_variable ya_wanted ya_among ya_direction ya_low ya_high ya_tokens ya_condition ya_expression ya_stack ya_part ya_steps ya_place ya_choice ya_bound ya_took ya_nodeOf ya_chosen ya_far : Nat → Int32} {post : Int32 → SY → Prop} {g : Nat → Int64}
theorem y_truth_9 {c : Nat → Nat} {N m : Nat} {A : Nat → List Nat} (hA : ev_A c m A) (hm : m ≤ 12) (m0 : 0 < m) (hc : ∀ k, k < m → ya_condition k = nI (c k) ∧ c k < 11000) (hb : ∀ k, k < m → c k < 4 → yB g N ya_nodeOf (c k)) (G : YN g 0 ya_labels ya_properties) (h : ∀ s, ev_Y g (yB g N ya_nodeOf) N s (A 0) (ev g c N m m) → post (s 0) (yf_level, yf_parts, yf_pending, nI m, yf_spelled, yf_depth, yf_used, yf_weight, yf_found, yf_lightest, yf_some, yf_sum, ya_labels, ya_properties, ya_from, ya_to, ya_types, ya_weights, ya_variable, ya_wanted, ya_among, ya_direction, ya_low, ya_high, ya_tokens, ya_condition, ya_expression, s, ya_part, ya_steps, ya_place, ya_choice, ya_bound, ya_took, ya_nodeOf, ya_chosen, ya_far)) : ∀ r n j, j + r = m → r < n → ∀ s, ev_Y g (yB g N ya_nodeOf) N s (A r) (ev g c N m j) → wY_truth_9 post yf_level yf_parts yf_pending (nI m) yf_spelled yf_depth yf_used yf_weight yf_found yf_lightest yf_some yf_sum n (nI (ev g c N m j).length) (dn r) ya_labels ya_properties ya_from ya_to ya_types ya_weights ya_variable ya_wanted ya_among ya_direction ya_low ya_high ya_tokens ya_condition ya_expression s ya_part ya_steps ya_place ya_choice ya_bound ya_took ya_nodeOf ya_chosen ya_far := by
  intro r
  induction r with
  | zero =>
    intro n j hj hn s X
    obtain ⟨n, rfl⟩ : ∃ k, n = k + 1 := ⟨n - 1, by omega⟩
    have hj : j = m := hj
    rw [hj] at X ⊢
    exact br_t (by decide) (br_f (nI_ne0 m0 (by omega)) (h s X))
  | succ r ih =>
    intro n j hj hn s X
    obtain ⟨n, rfl⟩ : ∃ k, n = k + 1 := ⟨n - 1, by omega⟩
    have e : m - 1 - j = r := by omega
    have E : ev g c N m (j + 1) = ev_s g N (c r) (ev g c N m j) := by
      show ev_s g N (c (m - 1 - j)) _ = _
      rw [e]
    have hl := ev_len_le (g := g) (N := N) hA j (by omega)
    have T := ev_T_all (g := g) (N := N) hA j (by omega)
    rw [show m - j = r + 1 by omega] at T
    obtain ⟨w, rr, e1, fit, e3⟩ := hA.2.2 r (by omega)
    have ih2 := ih n (j + 1) (by omega) (by omega)
    rw [E, e1] at ih2
    rw [e3] at T X
    obtain ⟨hcr, hcl⟩ := hc r (by omega)
    have hbr := hb r (by omega)
    rw [dn_s]
    have hj : j < 12 := by omega
    generalize ev g c N m j = l at X T hl ih2 ⊢
    have cr : ya_condition (nI r).toNatClampNeg = nI (c r) := by rw [nI_clamp (by omega)]; exact hcr
    generalize c r = t at *
    have K : ∀ (es : List EE) (s : Nat → Int32), ev_s g N t l = es → ev_Y g (yB g N ya_nodeOf) N s (w :: rr) es → ∀ x, x = nI r + (-1) → wY_truth_9 post yf_level yf_parts yf_pending (nI m) yf_spelled yf_depth yf_used yf_weight yf_found yf_lightest yf_some yf_sum n (nI es.length) x ya_labels ya_properties ya_from ya_to ya_types ya_weights ya_variable ya_wanted ya_among ya_direction ya_low ya_high ya_tokens ya_condition ya_expression s ya_part ya_steps ya_place ya_choice ya_bound ya_took ya_nodeOf ya_chosen ya_far := by
      intro es s e X x ex
      subst e
      rw [ex, dn_m]
      exact ih2 s X
    have push : (t < 4 ∨ 1000 ≤ t) → ∀ a : EE, ev_s g N t l = a :: l → ev_y1 g (yB g N ya_nodeOf) N w a (nI t) → ev_Y g (yB g N ya_nodeOf) N s rr l → wY_truth_33 post (wY_truth_9 post yf_level yf_parts yf_pending (nI m) yf_spelled yf_depth yf_used yf_weight yf_found yf_lightest yf_some yf_sum n) (nI l.length) (nI r) (nI t) yf_level yf_parts yf_pending (nI m) yf_spelled yf_depth yf_used yf_weight yf_found yf_lightest yf_some yf_sum ya_labels ya_properties ya_from ya_to ya_types ya_weights ya_variable ya_wanted ya_among ya_direction ya_low ya_high ya_tokens ya_condition ya_expression s ya_part ya_steps ya_place ya_choice ya_bound ya_took ya_nodeOf ya_chosen ya_far := by
      intro _ a ea hy Y
      refine nm_r (nI_1 l.length) ⟨vp_in_nI (by omega) (by omega), nm_r (e' := upd s l.length (nI t)) (by rw [nI_clamp (by omega)]) (K _ _ ea ⟨?_, ev_Y_c (fun j hj => pk_un (by omega)) Y⟩)⟩
      rw [pk_us]
      exact hy
    refine br_f (nI_pos (by omega)) ⟨vp_in_nI (by omega) (by omega), nm_r (e' := nI t) cr ?_⟩
    rcases fit with ⟨rfl, h1, h2⟩ | ⟨rfl, h1 | h1⟩ | ⟨rfl, h1⟩
    · have z12 : (t = 12 ∨ t = 16) ∨ (t = 10 ∨ t = 11 ∨ t = 13 ∨ t = 14 ∨ t = 15) := by omega
      have fin : ∀ (a : EE) (es : List EE) (x4 z0 : Int32), ev_s g N t l = a :: es → ev_Y g (yB g N ya_nodeOf) N s rr es → es.length < 30 → (∀ P : Int32 → Prop, P (ev_sw a.1) → wpY_result P (yf_level, yf_parts, yf_pending, nI m, yf_spelled, yf_depth, yf_used, yf_weight, yf_found, yf_lightest, yf_some, yf_sum, ya_labels, ya_properties, ya_from, ya_to, ya_types, ya_weights, ya_variable, ya_wanted, ya_among, ya_direction, ya_low, ya_high, ya_tokens, ya_condition, ya_expression, s, ya_part, ya_steps, ya_place, ya_choice, ya_bound, ya_took, ya_nodeOf, ya_chosen, ya_far) (nI t) x4 z0) → wY_truth_82 post (wY_truth_9 post yf_level yf_parts yf_pending (nI m) yf_spelled yf_depth yf_used yf_weight yf_found yf_lightest yf_some yf_sum n) (nI es.length) (nI r) (nI t) x4 z0 yf_level yf_parts yf_pending (nI m) yf_spelled yf_depth yf_used yf_weight yf_found yf_lightest yf_some yf_sum ya_labels ya_properties ya_from ya_to ya_types ya_weights ya_variable ya_wanted ya_among ya_direction ya_low ya_high ya_tokens ya_condition ya_expression s ya_part ya_steps ya_place ya_choice ya_bound ya_took ya_nodeOf ya_chosen ya_far := by
        intro a es x4 z0 ea Y l30 R
        refine nm_r (nI_1 es.length) (R _ ⟨vp_in_nI l30 (by omega), nm_r (e' := upd s es.length (ev_sw a.1)) (by rw [nI_clamp (by omega)]) (K _ _ ea ⟨Or.inl ⟨rfl, ?_⟩, ev_Y_c (fun j hj => pk_un (by omega)) Y⟩)⟩)
        rw [pk_us]
      have ty0 : ∀ e : EE, ev_ty N 0 e → e.1 = 0 ∨ e.1 = 1 ∨ e.1 = 2 := by
        intro e he
        rcases he.2 with ⟨_, z⟩ | ⟨z, _⟩ | ⟨z, _⟩
        · exact z
        · exact absurd z (by decide)
        · exact absurd z (by decide)
      have y0 : ∀ (e : EE) (y : Int32), ev_y1 g (yB g N ya_nodeOf) N 0 e y → y = ev_sw e.1 := by
        intro e y he
        rcases he with ⟨_, z⟩ | ⟨z, _⟩
        · exact z
        · exact absurd rfl z
      refine br_f (nI_nlt (b := 10) h1 (by omega)) (br_t (nI_lt (b := 1000) (by omega) (by omega)) ?_)
      have one : ∀ x : Nat, ev_o t = [x] → ∃ a es, l = a :: es ∧ ev_ty N x a ∧ ev_y1 g (yB g N ya_nodeOf) N x a (s es.length) ∧ ev_Y g (yB g N ya_nodeOf) N s rr es := by
        intro x ex
        rw [ex] at T X
        obtain ⟨a, es, rfl, q1, q2⟩ := ev_T_cons T
        exact ⟨a, es, rfl, q1, X.1, X.2⟩
      have two : ∀ x : Nat, ev_o t = [x, x] → ∃ a b es, l = a :: b :: es ∧ ev_ty N x a ∧ ev_ty N x b ∧ ev_y1 g (yB g N ya_nodeOf) N x a (s (es.length + 1)) ∧ ev_y1 g (yB g N ya_nodeOf) N x b (s es.length) ∧ ev_Y g (yB g N ya_nodeOf) N s rr es := by
        intro x ex
        rw [ex] at T X
        obtain ⟨a, l1, rfl, q1, q2⟩ := ev_T_cons T
        obtain ⟨b, es, rfl, q3, q4⟩ := ev_T_cons q2
        exact ⟨a, b, es, rfl, q1, q3, X.1, X.2.1, X.2.2⟩
      rcases z12 with z | z
      · have oo : ∃ x, ev_o t = [x] ∧ ((t = 12 ∧ x = 1) ∨ (t = 16 ∧ x = 0)) := by
          rcases z with rfl | rfl
          · exact ⟨1, rfl, Or.inl ⟨rfl, rfl⟩⟩
          · exact ⟨0, rfl, Or.inr ⟨rfl, rfl⟩⟩
        obtain ⟨x, ox, tx⟩ := oo
        obtain ⟨a, es, rfl, ta, ya, Y⟩ := one x ox
        rw [List.length_cons] at hl
        have go : wY_truth_69 post (wY_truth_9 post yf_level yf_parts yf_pending (nI m) yf_spelled yf_depth yf_used yf_weight yf_found yf_lightest yf_some yf_sum n) (nI es.length) (nI r) (nI t) (s es.length) yf_level yf_parts yf_pending (nI m) yf_spelled yf_depth yf_used yf_weight yf_found yf_lightest yf_some yf_sum ya_labels ya_properties ya_from ya_to ya_types ya_weights ya_variable ya_wanted ya_among ya_direction ya_low ya_high ya_tokens ya_condition ya_expression s ya_part ya_steps ya_place ya_choice ya_bound ya_took ya_nodeOf ya_chosen ya_far := by
          rcases tx with ⟨rfl, rfl⟩ | ⟨rfl, rfl⟩
          · exact fin _ es _ _ ev_s_12 Y (by omega) fun P p => y_res_nul G (by decide) ya p
          · have := y0 _ _ ya
            rw [this]
            exact fin _ es _ _ ev_s_16 Y (by omega) fun P p => y_res_not (ty0 _ ta) p
        refine nm_r (e' := nI es.length) (pk_m1 es.length) ⟨vp_in_nI (by omega) (by omega), nm_r (e' := s es.length) (by rw [nI_clamp (by omega)]) ?_⟩
        rcases z with rfl | rfl
        · exact br_t rfl go
        · exact br_f (by decide) (br_t rfl go)
      · have oo : ∃ x, ev_o t = [x, x] ∧ (((t = 10 ∨ t = 11) ∧ x = 1) ∨ (t = 13 ∧ x = 2) ∨ ((t = 14 ∨ t = 15) ∧ x = 0)) := by
          rcases z with rfl | rfl | rfl | rfl | rfl
          · exact ⟨1, rfl, Or.inl ⟨Or.inl rfl, rfl⟩⟩
          · exact ⟨1, rfl, Or.inl ⟨Or.inr rfl, rfl⟩⟩
          · exact ⟨2, rfl, Or.inr (Or.inl ⟨rfl, rfl⟩)⟩
          · exact ⟨0, rfl, Or.inr (Or.inr ⟨Or.inl rfl, rfl⟩)⟩
          · exact ⟨0, rfl, Or.inr (Or.inr ⟨Or.inr rfl, rfl⟩)⟩
        obtain ⟨x, ox, tx⟩ := oo
        obtain ⟨a, b, es, rfl, ta, tb, ya, yb, Y⟩ := two x ox
        rw [List.length_cons, List.length_cons] at hl
        have go : wY_truth_82 post (wY_truth_9 post yf_level yf_parts yf_pending (nI m) yf_spelled yf_depth yf_used yf_weight yf_found yf_lightest yf_some yf_sum n) (nI es.length) (nI r) (nI t) (s (es.length + 1)) (s es.length) yf_level yf_parts yf_pending (nI m) yf_spelled yf_depth yf_used yf_weight yf_found yf_lightest yf_some yf_sum ya_labels ya_properties ya_from ya_to ya_types ya_weights ya_variable ya_wanted ya_among ya_direction ya_low ya_high ya_tokens ya_condition ya_expression s ya_part ya_steps ya_place ya_choice ya_bound ya_took ya_nodeOf ya_chosen ya_far := by
          refine fin _ es _ _ (ev_s_b z) Y (by omega) fun P p => ?_
          rcases tx with ⟨tx, rfl⟩ | ⟨rfl, rfl⟩ | ⟨tx, rfl⟩
          · exact y_res_cmp tx G ya yb p
          · have v2 : ∀ e : EE, ev_ty N 2 e → e.2.2.1 < 4 := by
              intro e he
              rcases he.2 with ⟨z, _⟩ | ⟨z, _⟩ | ⟨_, _, z⟩
              · exact absurd z (by decide)
              · exact absurd z (by decide)
              · exact z
            exact y_res_same ya yb (v2 _ ta) (v2 _ tb) p
          · rw [y0 _ _ ya, y0 _ _ yb]
            rcases tx with rfl | rfl
            · exact y_res_and (ty0 _ ta) (ty0 _ tb) p
            · exact y_res_or (ty0 _ ta) (ty0 _ tb) p
        refine nm_r (e' := nI (es.length + 1)) (pk_m1 (es.length + 1)) ⟨vp_in_nI (by omega) (by omega), nm_r (e' := s (es.length + 1)) (by rw [nI_clamp (by omega)]) ?_⟩
        refine br_f (by rcases z with rfl | rfl | rfl | rfl | rfl <;> decide) (br_f (by rcases z with rfl | rfl | rfl | rfl | rfl <;> decide) (nm_r (e' := nI es.length) (pk_m1 es.length) ⟨vp_in_nI (by omega) (by omega), ?_⟩))
        rw [nI_clamp (n := es.length) (by omega)]
        exact go
    · have o : ev_o t = [] := if_pos (Or.inl (by omega))
      rw [o] at X
      exact br_t (nI_lt (b := 10) (by omega) (by omega)) (push (Or.inl h1) _ (ev_s_v h1) (Or.inr ⟨by decide, t, rfl, Or.inr ⟨h1, hbr h1, rfl⟩⟩) X)
    · have o : ev_o t = [] := if_pos (Or.inr h1)
      rw [o] at X
      exact br_f (nI_nlt (b := 10) (by omega) (by omega)) (br_f (nI_nlt (b := 1000) (by omega) (by omega)) (push (Or.inr h1) _ (ev_s_n h1) (Or.inr ⟨by decide, t, rfl, Or.inl ⟨h1, hcl, rfl⟩⟩) X))
    · have o : ev_o t = [] := if_pos (Or.inl (by omega))
      rw [o] at X
      exact br_t (nI_lt (b := 10) (by omega) (by omega)) (push (Or.inl h1) _ (ev_s_v h1) (Or.inr ⟨by decide, t, rfl, Or.inr ⟨h1, hbr h1, rfl⟩⟩) X)
theorem y_truth {c : Nat → Nat} {N m : Nat} (C : CO ya_condition c m) (hb : ∀ k, k < m → c k < 4 → yB g N ya_nodeOf (c k)) (G : YN g 0 ya_labels ya_properties) (h : ∀ r s, (r = 1 ↔ ev_c g c m N = true) → post r (yf_level, yf_parts, yf_pending, nI m, yf_spelled, yf_depth, yf_used, yf_weight, yf_found, yf_lightest, yf_some, yf_sum, ya_labels, ya_properties, ya_from, ya_to, ya_types, ya_weights, ya_variable, ya_wanted, ya_among, ya_direction, ya_low, ya_high, ya_tokens, ya_condition, ya_expression, s, ya_part, ya_steps, ya_place, ya_choice, ya_bound, ya_took, ya_nodeOf, ya_chosen, ya_far)) : wpY_truth post (yf_level, yf_parts, yf_pending, nI m, yf_spelled, yf_depth, yf_used, yf_weight, yf_found, yf_lightest, yf_some, yf_sum, ya_labels, ya_properties, ya_from, ya_to, ya_types, ya_weights, ya_variable, ya_wanted, ya_among, ya_direction, ya_low, ya_high, ya_tokens, ya_condition, ya_expression, ya_stack, ya_part, ya_steps, ya_place, ya_choice, ya_bound, ya_took, ya_nodeOf, ya_chosen, ya_far) := by
  obtain ⟨hm, hc, hA⟩ := C
  unfold wpY_truth
  cases m with
  | zero => exact nm_r (e' := dn 0) rfl ⟨1, br_t (by decide) (br_t rfl (h _ _ ⟨fun _ => rfl, fun _ => rfl⟩))⟩
  | succ m =>
    obtain ⟨A, hA⟩ := hA (by omega)
    refine nm_r (e' := dn (m + 1)) (nI_pred m) ⟨m + 2, ?_⟩
    refine y_truth_9 hA hm (by omega) hc hb G (fun s X => h _ _ ?_) (m + 1) (m + 2) 0 (by omega) (by omega) ya_stack ?_
    · have T := ev_T_all (g := g) (N := N) hA (m + 1) (Nat.le_refl _)
      rw [Nat.sub_self, hA.1] at T
      obtain ⟨e, es, e1, e2, e3⟩ := ev_T_cons T
      have e4 := ev_T_nil e3
      subst e4
      rw [e1, hA.1] at X
      unfold ev_c
      rw [e1]
      have y : s 0 = ev_sw e.1 := by
        rcases X.1 with ⟨_, z⟩ | ⟨z, _⟩
        · exact z
        · exact absurd rfl z
      rw [y, decide_eq_true_eq]
      have t3 : e.1 = 0 ∨ e.1 = 1 ∨ e.1 = 2 := by
        rcases e2.2 with ⟨_, z⟩ | ⟨z, _⟩ | ⟨z, _⟩
        · exact z
        · exact absurd z (by decide)
        · exact absurd z (by decide)
      have q : ev_sw e.1 = 1 ↔ e.1 = 2 := by rcases t3 with t | t | t <;> rw [t] <;> decide
      rw [q]
      constructor
      · intro z; exact Or.inr z
      · rintro (z | z)
        · omega
        · exact z
    · rw [hA.2.1]; exact True.intro
end
end
section
/-! the query, as both hold it; small methods of the search -/
def qH (q : Nat → Nat → Nat) : Nat → Nat
  | 0 => 0
  | p + 1 => qH q p + (if q 0 p = 0 then 0 else q 4 p)
theorem qH_mono (q : Nat → Nat → Nat) {m : Nat} : ∀ n, m ≤ n → qH q m ≤ qH q n
  | 0, h => by rw [Nat.le_zero.mp h]; exact Nat.le_refl _
  | n + 1, h => by
    by_cases e : m = n + 1
    · rw [e]; exact Nat.le_refl _
    · have := qH_mono q (m := m) n (by omega)
      simp only [qH]
      omega
def XQ (P : Nat) (q : Nat → Nat → Nat) (kd ty di lo hi va la : Nat → Int32) : Prop := P ≤ 6 ∧ qH q P ≤ 5 ∧ ∀ p, p < P → (kd p = nI (q 0 p) ∧ va p = nI (q 5 p) ∧ q 5 p < 4 ∧ la p = nI (q 6 p) ∧ q 6 p < 16) ∧ (q 0 p = 0 ∨ (q 0 p = 1 ∧ 0 < p ∧ (ty p = nI (q 1 p) ∧ q 1 p < 8) ∧ (di p = nI (q 2 p) ∧ q 2 p < 3) ∧ (lo p = nI (q 3 p) ∧ 1 ≤ q 3 p) ∧ hi p = nI (q 4 p) ∧ q 3 p ≤ q 4 p ∧ q 4 p ≤ 3))
theorem x_lowest {post : Int32 → Prop} {S b : Nat} (hS : S < 2 ^ 31) (hb : S.testBit b = true) (h0 : ∀ i, i < b → S.testBit i = false) (h : post (nI b)) : wpX_lowest post (nI S) := by
  have b31 : b < 31 := by
    rcases Nat.lt_or_ge b 31 with z | z
    · exact z
    · rw [bb_tlt hS z] at hb; exact absurd hb (by decide)
  have key : ∀ n i, i ≤ b → b - i < n → wX_lowest_2 post (nI S) n (nI i) := by
    intro n
    induction n with
    | zero => intro i _ hn; omega
    | succ n ih =>
      intro i hi hn
      by_cases e : i = b
      · subst e
        exact br_f ((bb_bitT hS (by omega)).mpr hb) h
      · exact br_t ((bb_bit hS (by omega)).mpr (h0 i (by omega))) (nm_r (nI_1 i) (ih (i + 1) (by omega) (by omega)))
  unfold wpX_lowest
  exact ⟨b + 1, key (b + 1) 0 (by omega) (by omega)⟩
section
variable {f_level f_indexed f_parts f_highs f_tokens f_conditionLength f_conditionNames f_depth f_found f_testAt f_count f_different f_cheapest f_positions f_starts f_accepts f_empty f_written f_target f_steps : Int32} {a_state a_old : Nat → Int64} {a_kept a_leaving a_coming a_ofType a_withLabels a_kind a_types a_direction a_low a_high a_variable a_labels a_token a_condition a_truth a_number a_variableOf a_atPart a_trail a_here a_bound a_named a_used a_weight a_left a_ends : Nat → Int32} {a_seen a_sum : Nat → Int64} {a_some a_letter a_follow a_firstOf a_lastOf a_nullable a_spelled a_visited a_front a_next : Nat → Int32}
theorem x_names {post : Int32 → Prop} {P : Nat} {va : Nat → Nat} (hP : P ≤ 6) (hv : ∀ p, p < P → a_variable p = nI (va p) ∧ va p < 4) (h : ∀ S, S < 16 → (∀ v, S.testBit v = true ↔ ∃ p, p < P ∧ va p = v) → post (nI S)) : wpX_names post (f_level, f_indexed, nI P, f_highs, f_tokens, f_conditionLength, f_conditionNames, f_depth, f_found, f_testAt, f_count, f_different, f_cheapest, f_positions, f_starts, f_accepts, f_empty, f_written, f_target, f_steps, a_state, a_old, a_kept, a_leaving, a_coming, a_ofType, a_withLabels, a_kind, a_types, a_direction, a_low, a_high, a_variable, a_labels, a_token, a_condition, a_truth, a_number, a_variableOf, a_atPart, a_trail, a_here, a_bound, a_named, a_used, a_weight, a_left, a_ends, a_seen, a_sum, a_some, a_letter, a_follow, a_firstOf, a_lastOf, a_nullable, a_spelled, a_visited, a_front, a_next) := by
  have key : ∀ n i S, i ≤ P → P - i < n → S < 2 ^ 4 → (∀ v, S.testBit v = true ↔ ∃ p, p < i ∧ va p = v) → wX_names_4 post f_level f_indexed (nI P) f_highs f_tokens f_conditionLength f_conditionNames f_depth f_found f_testAt f_count f_different f_cheapest f_positions f_starts f_accepts f_empty f_written f_target f_steps a_state a_old a_kept a_leaving a_coming a_ofType a_withLabels a_kind a_types a_direction a_low a_high a_variable a_labels a_token a_condition a_truth a_number a_variableOf a_atPart a_trail a_here a_bound a_named a_used a_weight a_left a_ends a_seen a_sum a_some a_letter a_follow a_firstOf a_lastOf a_nullable a_spelled a_visited a_front a_next n (nI S) (nI i) := by
    intro n
    induction n with
    | zero => intro i S _ hn; omega
    | succ n ih =>
      intro i S hi hn hS I
      by_cases e : i = P
      · subst e
        exact br_t (nI_le (Nat.le_refl _) (by omega)) (h S hS I)
      · obtain ⟨a, b⟩ := hv i (by omega)
        refine br_f (nI_ge (by omega) (by omega)) ⟨vp_in_nI (by omega) (by omega), nm_r (e' := nI (S ||| 2 ^ va i)) ?_ (nm_r (nI_1 i) (ih (i + 1) _ (by omega) (by omega) (bb_or2_lt hS b) fun v => ?_))⟩
        · rw [nI_clamp (by omega), a, bb_1shl (by omega), bb_or]
        · rw [bb_or2, Bool.or_eq_true, decide_eq_true_eq, I]
          constructor
          · rintro (⟨p, z1, z2⟩ | z)
            · exact ⟨p, by omega, z2⟩
            · exact ⟨i, by omega, z⟩
          · rintro ⟨p, z1, z2⟩
            by_cases y : p = i
            · subst y; exact Or.inr z2
            · exact Or.inl ⟨p, by omega, z2⟩
  unfold wpX_names
  exact ⟨P + 1, key (P + 1) 0 0 (by omega) (by omega) (by decide) (fun v => ⟨fun z => by rw [Nat.zero_testBit] at z; exact absurd z (by decide), fun ⟨p, z, _⟩ => absurd z (Nat.not_lt_zero p)⟩)⟩
theorem x_going {post : Int32 → Prop} {p n T D : Nat} (V : VG a_state) (I : IX a_state a_leaving a_coming a_ofType a_withLabels) (hp : p < 6) (hn : n < 8) (hT : a_types p = nI T) (T8 : T < 8) (hD : a_direction p = nI D) (D3 : D < 3) (h : ∀ S, S < 2 ^ 12 → (∀ e, S.testBit e = true ↔ (e < 12 ∧ ¬ a_state (8 + e) = 0 ∧ T.testBit (eY a_state e) = true ∧ ((D ≠ 1 ∧ eF a_state e = n) ∨ (D ≠ 0 ∧ eT a_state e = n)))) → post (nI S)) : wpX_going post (f_level, f_indexed, f_parts, f_highs, f_tokens, f_conditionLength, f_conditionNames, f_depth, f_found, f_testAt, f_count, f_different, f_cheapest, f_positions, f_starts, f_accepts, f_empty, f_written, f_target, f_steps, a_state, a_old, a_kept, a_leaving, a_coming, a_ofType, a_withLabels, a_kind, a_types, a_direction, a_low, a_high, a_variable, a_labels, a_token, a_condition, a_truth, a_number, a_variableOf, a_atPart, a_trail, a_here, a_bound, a_named, a_used, a_weight, a_left, a_ends, a_seen, a_sum, a_some, a_letter, a_follow, a_firstOf, a_lastOf, a_nullable, a_spelled, a_visited, a_front, a_next) (nI p) (nI n) := by
  have cp : (nI p).toNatClampNeg = p := nI_clamp (by omega)
  have cn : (nI n).toNatClampNeg = n := nI_clamp (by omega)
  have vp : vp_in (nI p) 6 := vp_in_nI hp (by omega)
  have vn : vp_in (nI n) 8 := vp_in_nI hn (by omega)
  obtain ⟨⟨I1, I2, I3⟩, _⟩ := I
  have key : ∀ k t S, t ≤ 3 → 3 - t < k → S < 2 ^ 12 → (∀ e, S.testBit e = true ↔ (e < 12 ∧ ¬ a_state (8 + e) = 0 ∧ T.testBit (eY a_state e) = true ∧ eY a_state e < t)) → wX_going_5 post (nI p) (nI n) f_level f_indexed f_parts f_highs f_tokens f_conditionLength f_conditionNames f_depth f_found f_testAt f_count f_different f_cheapest f_positions f_starts f_accepts f_empty f_written f_target f_steps a_state a_old a_kept a_leaving a_coming a_ofType a_withLabels a_kind a_types a_direction a_low a_high a_variable a_labels a_token a_condition a_truth a_number a_variableOf a_atPart a_trail a_here a_bound a_named a_used a_weight a_left a_ends a_seen a_sum a_some a_letter a_follow a_firstOf a_lastOf a_nullable a_spelled a_visited a_front a_next k (nI S) (nI t) := by
    intro k
    induction k with
    | zero => intro t S _ hn; omega
    | succ k ih =>
      intro t S ht hk hS J
      by_cases e : t = 3
      · subst e
        have J2 : ∀ e, S.testBit e = true ↔ (e < 12 ∧ ¬ a_state (8 + e) = 0 ∧ T.testBit (eY a_state e) = true) := by
          intro e
          rw [J]
          constructor
          · rintro ⟨a, b, c, _⟩; exact ⟨a, b, c⟩
          · rintro ⟨a, b, c⟩; exact ⟨a, b, c, (V.2 e a b).2.1⟩
        obtain ⟨A, a1, a2, a3⟩ := I1 n hn
        obtain ⟨B, b1, b2, b3⟩ := I2 n hn
        refine br_t (nI_le (b := 3) (Nat.le_refl _) (by omega)) ⟨vp, ?_⟩
        rw [cp, cn, hD, a2, b2]
        have DD : D = 0 ∨ D = 1 ∨ D = 2 := by omega
        rcases DD with rfl | rfl | rfl
        · refine br_t rfl ⟨vn, nm_e ?_⟩
          rw [nx_and]
          refine h _ (Nat.lt_of_le_of_lt Nat.and_le_right a1) fun e => ?_
          rw [Nat.testBit_and, Bool.and_eq_true, J2, a3]
          constructor
          · rintro ⟨⟨x1, x2, x3⟩, _, _, x4⟩; exact ⟨x1, x2, x3, Or.inl ⟨by decide, x4⟩⟩
          · rintro ⟨x1, x2, x3, ⟨_, x4⟩ | ⟨x4, _⟩⟩
            · exact ⟨⟨x1, x2, x3⟩, x1, x2, x4⟩
            · exact absurd rfl x4
        · refine br_f (by decide) ⟨vp, br_t rfl ⟨vn, nm_e ?_⟩⟩
          rw [nx_and]
          refine h _ (Nat.lt_of_le_of_lt Nat.and_le_right b1) fun e => ?_
          rw [Nat.testBit_and, Bool.and_eq_true, J2, b3]
          constructor
          · rintro ⟨⟨x1, x2, x3⟩, _, _, x4⟩; exact ⟨x1, x2, x3, Or.inr ⟨by decide, x4⟩⟩
          · rintro ⟨x1, x2, x3, ⟨x4, _⟩ | ⟨_, x4⟩⟩
            · exact absurd rfl x4
            · exact ⟨⟨x1, x2, x3⟩, x1, x2, x4⟩
        · refine br_f (by decide) ⟨vp, br_f (by decide) ⟨vn, vn, nm_e ?_⟩⟩
          rw [bb_or, nx_and]
          refine h _ (Nat.lt_of_le_of_lt Nat.and_le_right (Nat.or_lt_two_pow a1 b1)) fun e => ?_
          rw [Nat.testBit_and, Nat.testBit_or, Bool.and_eq_true, Bool.or_eq_true, J2, a3, b3]
          constructor
          · rintro ⟨⟨x1, x2, x3⟩, ⟨_, _, x4⟩ | ⟨_, _, x4⟩⟩
            · exact ⟨x1, x2, x3, Or.inl ⟨by decide, x4⟩⟩
            · exact ⟨x1, x2, x3, Or.inr ⟨by decide, x4⟩⟩
          · rintro ⟨x1, x2, x3, ⟨_, x4⟩ | ⟨_, x4⟩⟩
            · exact ⟨⟨x1, x2, x3⟩, Or.inl ⟨x1, x2, x4⟩⟩
            · exact ⟨⟨x1, x2, x3⟩, Or.inr ⟨x1, x2, x4⟩⟩
      · have ht : t < 3 := by omega
        refine br_f (nI_ge (b := 3) ht (by omega)) ⟨vp, ?_⟩
        rw [cp, hT]
        cases z : T.testBit t with
        | false =>
          refine br_t ((bb_bit (by omega) (by omega)).mpr z) (nm_r (nI_1 t) (ih (t + 1) S (by omega) (by omega) hS fun e => ?_))
          rw [J]
          constructor
          · rintro ⟨a, b, c, d⟩; exact ⟨a, b, c, by omega⟩
          · rintro ⟨a, b, c, d⟩
            refine ⟨a, b, c, ?_⟩
            by_cases y : eY a_state e = t
            · rw [y, z] at c; exact absurd c (by decide)
            · omega
        | true =>
          obtain ⟨A, a1, a2, a3⟩ := I3 t ht
          refine br_f ((bb_bitT (by omega) (by omega)).mpr z) ⟨vp_in_nI ht (by omega), nm_r (e' := nI (S ||| A)) ?_ (nm_r (nI_1 t) (ih (t + 1) _ (by omega) (by omega) (Nat.or_lt_two_pow hS a1) fun e => ?_))⟩
          · rw [nI_clamp (by omega), a2, bb_or]
          · rw [Nat.testBit_or, Bool.or_eq_true, J, a3]
            constructor
            · rintro (⟨a, b, c, d⟩ | ⟨a, b, c⟩)
              · exact ⟨a, b, c, by omega⟩
              · exact ⟨a, b, by rw [c]; exact z, by omega⟩
            · rintro ⟨a, b, c, d⟩
              by_cases y : eY a_state e = t
              · exact Or.inr ⟨a, b, y⟩
              · exact Or.inl ⟨a, b, c, by omega⟩
  unfold wpX_going
  exact ⟨4, key 4 0 0 (by omega) (by omega) (by decide) (fun e => ⟨fun z => by rw [Nat.zero_testBit] at z; exact absurd z (by decide), fun z => absurd z.2.2.2 (Nat.not_lt_zero _)⟩)⟩
end
end
section
/-! a depth prepared -/
theorem se_al_iff {g : Nat → Int64} {q : Nat → Nat → Nat} {p N W n : Nat} : se_al g q p N W n = true ↔ (¬ g n = 0 ∧ nL g n &&& q 6 p = q 6 p) ∧ (W.testBit (q 5 p) = true → bb_dg N (q 5 p) = n) := by
  unfold se_al
  rw [Bool.and_eq_true, Bool.and_eq_true, Bool.or_eq_true, decide_eq_true_eq, decide_eq_true_eq, decide_eq_true_eq]
  refine ⟨fun h => ⟨h.1, fun z => ?_⟩, fun h => ⟨h.1, ?_⟩⟩
  · rcases h.2 with y | y
    · rw [z] at y; exact absurd y (by decide)
    · exact y
  · cases z : W.testBit (q 5 p) with
    | false => exact Or.inl rfl
    | true => exact Or.inr (h.2 z)
theorem se_ok_iff {g : Nat → Int64} {q : Nat → Nat → Nat} {p h u e : Nat} : se_ok g q p h u e = true ↔ (¬ g (8 + e) = 0 ∧ u.testBit e = false) ∧ (q 1 p).testBit (eY g e) = true ∧ ((q 2 p ≠ 1 ∧ eF g e = h) ∨ (q 2 p ≠ 0 ∧ eT g e = h)) := by
  unfold se_ok
  rw [Bool.and_eq_true, Bool.and_eq_true, Bool.and_eq_true, Bool.or_eq_true, Bool.and_eq_true, Bool.and_eq_true, decide_eq_true_eq, decide_eq_true_eq, decide_eq_true_eq, decide_eq_true_eq, decide_eq_true_eq]
  cases u.testBit e with
  | false => exact ⟨fun h => ⟨⟨h.1.1.1, rfl⟩, h.1.2, h.2⟩, fun h => ⟨⟨⟨h.1.1, rfl⟩, h.2.1⟩, h.2.2⟩⟩
  | true => exact ⟨fun h => absurd h.1.1.2 (by decide), fun h => absurd h.1.2 (by decide)⟩
section
variable {f_level f_indexed f_parts f_highs f_tokens f_conditionLength f_conditionNames f_depth f_found f_testAt f_count f_different f_cheapest f_positions f_starts f_accepts f_empty f_written f_target f_steps : Int32} {a_state a_old : Nat → Int64} {a_kept a_leaving a_coming a_ofType a_withLabels a_kind a_types a_direction a_low a_high a_variable a_labels a_token a_condition a_truth a_number a_variableOf a_atPart a_trail a_here a_bound a_named a_used a_weight a_left a_ends : Nat → Int32} {a_seen a_sum : Nat → Int64} {a_some a_letter a_follow a_firstOf a_lastOf a_nullable a_spelled a_visited a_front a_next : Nat → Int32} {post : SX → Prop} {P : Nat} {q : Nat → Nat → Nat}
theorem x_enter {D p t N W h : Nat} (Q : XQ P q a_kind a_types a_direction a_low a_high a_variable a_labels) (I : IX a_state a_leaving a_coming a_ofType a_withLabels) (hD : D < 20) (hp : p ≤ P) (ht : t < 100) (hN : N < 4096) (hW : W < 16) (hh : p < P → q 0 p ≠ 0 → a_here D = nI h ∧ h < 8)
    (h1 : p = P → post (f_level, f_indexed, nI P, f_highs, f_tokens, f_conditionLength, f_conditionNames, f_depth, f_found, f_testAt, f_count, f_different, f_cheapest, f_positions, f_starts, f_accepts, f_empty, f_written, f_target, f_steps, a_state, a_old, a_kept, a_leaving, a_coming, a_ofType, a_withLabels, a_kind, a_types, a_direction, a_low, a_high, a_variable, a_labels, a_token, a_condition, a_truth, a_number, a_variableOf, upd a_atPart D (nI p), upd a_trail D (nI t), a_here, upd a_bound D (nI N), upd a_named D (nI W), a_used, a_weight, upd a_left D 0, upd a_ends D 0, a_seen, a_sum, a_some, a_letter, a_follow, a_firstOf, a_lastOf, a_nullable, a_spelled, a_visited, a_front, a_next))
    (h2 : p < P → q 0 p = 0 → ∀ S, S < 2 ^ 12 → (∀ n, S.testBit n = true ↔ n < 8 ∧ se_al a_state q p N W n = true) → post (f_level, f_indexed, nI P, f_highs, f_tokens, f_conditionLength, f_conditionNames, f_depth, f_found, f_testAt, f_count, f_different, f_cheapest, f_positions, f_starts, f_accepts, f_empty, f_written, f_target, f_steps, a_state, a_old, a_kept, a_leaving, a_coming, a_ofType, a_withLabels, a_kind, a_types, a_direction, a_low, a_high, a_variable, a_labels, a_token, a_condition, a_truth, a_number, a_variableOf, upd a_atPart D (nI p), upd a_trail D (nI t), a_here, upd a_bound D (nI N), upd a_named D (nI W), a_used, a_weight, upd (upd a_left D 0) D (nI S), upd a_ends D 0, a_seen, a_sum, a_some, a_letter, a_follow, a_firstOf, a_lastOf, a_nullable, a_spelled, a_visited, a_front, a_next))
    (h3 : p < P → q 0 p ≠ 0 → ∀ E : Bool, (E = true ↔ q 3 p ≤ t ∧ se_al a_state q p N W h = true) → post (f_level, f_indexed, nI P, f_highs, f_tokens, f_conditionLength, f_conditionNames, f_depth, f_found, f_testAt, f_count, f_different, f_cheapest, f_positions, f_starts, f_accepts, f_empty, f_written, f_target, f_steps, a_state, a_old, a_kept, a_leaving, a_coming, a_ofType, a_withLabels, a_kind, a_types, a_direction, a_low, a_high, a_variable, a_labels, a_token, a_condition, a_truth, a_number, a_variableOf, upd a_atPart D (nI p), upd a_trail D (nI t), a_here, upd a_bound D (nI N), upd a_named D (nI W), a_used, a_weight, upd a_left D 0, upd (upd a_ends D 0) D (if E = true then 1 else 0), a_seen, a_sum, a_some, a_letter, a_follow, a_firstOf, a_lastOf, a_nullable, a_spelled, a_visited, a_front, a_next)) : wpX_enter post (f_level, f_indexed, nI P, f_highs, f_tokens, f_conditionLength, f_conditionNames, f_depth, f_found, f_testAt, f_count, f_different, f_cheapest, f_positions, f_starts, f_accepts, f_empty, f_written, f_target, f_steps, a_state, a_old, a_kept, a_leaving, a_coming, a_ofType, a_withLabels, a_kind, a_types, a_direction, a_low, a_high, a_variable, a_labels, a_token, a_condition, a_truth, a_number, a_variableOf, a_atPart, a_trail, a_here, a_bound, a_named, a_used, a_weight, a_left, a_ends, a_seen, a_sum, a_some, a_letter, a_follow, a_firstOf, a_lastOf, a_nullable, a_spelled, a_visited, a_front, a_next) (nI D) (nI p) (nI t) (nI N) (nI W) := by
  obtain ⟨hP, _, Q⟩ := Q
  have cD : (nI D).toNatClampNeg = D := nI_clamp (by omega)
  have cp : (nI p).toNatClampNeg = p := nI_clamp (by omega)
  have vD : vp_in (nI D) 20 := vp_in_nI hD (by omega)
  unfold wpX_enter
  refine ⟨vD, nm_r (e' := upd a_atPart D (nI p)) (by rw [cD, bb_by (by omega)]) ⟨vD, nm_r (e' := upd a_trail D (nI t)) (by rw [cD, bb_by (by omega)]) ⟨vD, nm_r (e' := upd a_bound D (nI N)) (by rw [cD, bb_sh (by omega)]) ⟨vD, nm_r (e' := upd a_named D (nI W)) (by rw [cD, bb_by (by omega)]) ⟨vD, nm_r (e' := upd a_ends D 0) (by rw [cD, bb_b0]) ⟨vD, nm_r (e' := upd a_left D 0) (by rw [cD, bb_s0]) ?_⟩⟩⟩⟩⟩⟩
  by_cases e : p = P
  · exact br_t (congrArg nI e) (h1 e)
  · have hp : p < P := by omega
    have vp : vp_in (nI p) 6 := vp_in_nI (by omega) (by omega)
    obtain ⟨⟨k1, k2, k3, k4, k5⟩, k6⟩ := Q p hp
    obtain ⟨S0, s1, s2, s3⟩ := I.2 (q 6 p) k5
    have d8 := bb_dg_lt N (q 5 p)
    have cl : (nI (q 6 p)).toNatClampNeg = q 6 p := nI_clamp (by omega)
    -- the places, then the kinds
    have fin : ∀ S, S < 2 ^ 12 → (∀ n, S.testBit n = true ↔ n < 8 ∧ se_al a_state q p N W n = true) → wX_enter_117 post (nI D) (nI p) (nI t) (nI S) f_level f_indexed (nI P) f_highs f_tokens f_conditionLength f_conditionNames f_depth f_found f_testAt f_count f_different f_cheapest f_positions f_starts f_accepts f_empty f_written f_target f_steps a_state a_old a_kept a_leaving a_coming a_ofType a_withLabels a_kind a_types a_direction a_low a_high a_variable a_labels a_token a_condition a_truth a_number a_variableOf (upd a_atPart D (nI p)) (upd a_trail D (nI t)) a_here (upd a_bound D (nI N)) (upd a_named D (nI W)) a_used a_weight (upd a_left D 0) (upd a_ends D 0) a_seen a_sum a_some a_letter a_follow a_firstOf a_lastOf a_nullable a_spelled a_visited a_front a_next := by
      intro S hS hb
      refine ⟨vp, ?_⟩
      rw [cp, k1]
      rcases k6 with k6 | ⟨k6, _, _, _, ⟨k7, _⟩, _⟩
      · rw [k6]
        refine br_t rfl ⟨vD, nm_r (e' := upd (upd a_left D 0) D (nI S)) (by rw [cD, bb_sh (by omega)]) (h2 hp k6 S hS hb)⟩
      · obtain ⟨y1, y2⟩ := hh hp (by omega)
        rw [k6]
        refine br_f (by decide) ⟨vp, ?_⟩
        rw [k7, cD, y1]
        have k8 : q 3 p < 128 ∨ 128 ≤ q 3 p := by omega
        have lim : q 3 p ≤ 3 := by
          rcases (Q p hp).2 with z | ⟨_, _, _, _, _, _, z1, z2⟩
          · omega
          · omega
        by_cases z : t < q 3 p
        · refine br_t (nI_lt z (by omega)) ⟨vD, nm_r (e' := upd (upd a_ends D 0) D 0) (by rw [bb_b0]) (h3 hp (by omega) false ⟨fun y => absurd y (by decide), fun y => by omega⟩)⟩
        · refine br_f (nI_nlt (by omega) (by omega)) ⟨vD, ?_⟩
          cases w : S.testBit h with
          | false =>
            refine br_t ((bb_bit (by omega) (by omega)).mpr w) ⟨vD, nm_r (e' := upd (upd a_ends D 0) D 0) (by rw [bb_b0]) (h3 hp (by omega) false ⟨fun y => absurd y (by decide), fun y => ?_⟩)⟩
            have := (hb h).mpr ⟨y2, y.2⟩
            rw [w] at this
            exact absurd this (by decide)
          | true =>
            refine br_f ((bb_bitT (by omega) (by omega)).mpr w) ⟨vD, nm_r (e' := upd (upd a_ends D 0) D 1) (by rw [bb_b1]) (h3 hp (by omega) true ⟨fun _ => ⟨by omega, ((hb h).mp w).2⟩, fun _ => rfl⟩)⟩
    refine br_f (fun y => e ((nI_eq (by omega) (by omega)).mp y)) ⟨vp, nm_r (e' := nI (q 5 p)) (by rw [cp]; exact k2) ?_⟩
    have e80 : ∀ z0 : Int32, (z0 = 0 ∧ W.testBit (q 5 p) = false) ∨ (¬ z0 = 0 ∧ W.testBit (q 5 p) = true) → wX_enter_80 post (nI D) (nI p) (nI t) (nI N) (nI (q 5 p)) z0 f_level f_indexed (nI P) f_highs f_tokens f_conditionLength f_conditionNames f_depth f_found f_testAt f_count f_different f_cheapest f_positions f_starts f_accepts f_empty f_written f_target f_steps a_state a_old a_kept a_leaving a_coming a_ofType a_withLabels a_kind a_types a_direction a_low a_high a_variable a_labels a_token a_condition a_truth a_number a_variableOf (upd a_atPart D (nI p)) (upd a_trail D (nI t)) a_here (upd a_bound D (nI N)) (upd a_named D (nI W)) a_used a_weight (upd a_left D 0) (upd a_ends D 0) a_seen a_sum a_some a_letter a_follow a_firstOf a_lastOf a_nullable a_spelled a_visited a_front a_next := by
      intro z0 hz
      refine ⟨vp, ?_⟩
      rw [cp, k4]
      refine ⟨vp_in_nI (by omega) (by omega), nm_r (e' := nI S0) (by rw [cl]; exact s2) ?_⟩
      rcases hz with ⟨z, w⟩ | ⟨z, w⟩
      · refine br_t z (fin S0 (by omega) fun n => ?_)
        rw [s3, se_al_iff, w]
        exact ⟨fun y => ⟨y.1, y.2, fun x => absurd x (by decide)⟩, fun y => ⟨y.1, y.2.1⟩⟩
      · refine br_f z (nm_r (e' := nI (S0 &&& 2 ^ bb_dg N (q 5 p))) ?_ (fin _ (Nat.lt_of_le_of_lt Nat.and_le_left (by omega)) fun n => ?_))
        · rw [bb_dgX (by omega) (by omega), bb_1shl (by omega), nx_and]
        · rw [Nat.testBit_and, Nat.testBit_two_pow, Bool.and_eq_true, decide_eq_true_eq, s3, se_al_iff, w]
          exact ⟨fun y => ⟨y.1.1, y.1.2, fun _ => y.2⟩, fun y => ⟨⟨y.1, y.2.1⟩, y.2.2 rfl⟩⟩
    cases w : W.testBit (q 5 p) with
    | false => exact br_t ((bb_bit (by omega) (by omega)).mpr w) (e80 0 (Or.inl ⟨rfl, w⟩))
    | true => exact br_f ((bb_bitT (by omega) (by omega)).mpr w) (e80 1 (Or.inr ⟨by decide, w⟩))
theorem x_open {D p t h u : Nat} (Q : XQ P q a_kind a_types a_direction a_low a_high a_variable a_labels) (V : VG a_state) (I : IX a_state a_leaving a_coming a_ofType a_withLabels) (hD : D < 20) (hp : p ≤ P) (ht : t < 100) (ap : a_atPart D = nI p) (tl : a_trail D = nI t) (hh : p < P → q 0 p ≠ 0 → a_here D = nI h ∧ h < 8) (us : a_used D = nI u) (hu : u < 4096)
    (h1 : (p = P ∨ (p < P ∧ q 0 p = 0) ∨ (p < P ∧ q 0 p ≠ 0 ∧ q 4 p ≤ t)) → post (f_level, f_indexed, nI P, f_highs, f_tokens, f_conditionLength, f_conditionNames, f_depth, f_found, f_testAt, f_count, f_different, f_cheapest, f_positions, f_starts, f_accepts, f_empty, f_written, f_target, f_steps, a_state, a_old, a_kept, a_leaving, a_coming, a_ofType, a_withLabels, a_kind, a_types, a_direction, a_low, a_high, a_variable, a_labels, a_token, a_condition, a_truth, a_number, a_variableOf, a_atPart, a_trail, a_here, a_bound, a_named, a_used, a_weight, a_left, a_ends, a_seen, a_sum, a_some, a_letter, a_follow, a_firstOf, a_lastOf, a_nullable, a_spelled, a_visited, a_front, a_next))
    (h2 : p < P → q 0 p ≠ 0 → t < q 4 p → ∀ S, S < 2 ^ 12 → (∀ e, S.testBit e = true ↔ e < 12 ∧ se_ok a_state q p h u e = true) → post (f_level, f_indexed, nI P, f_highs, f_tokens, f_conditionLength, f_conditionNames, f_depth, f_found, f_testAt, f_count, f_different, f_cheapest, f_positions, f_starts, f_accepts, f_empty, f_written, f_target, f_steps, a_state, a_old, a_kept, a_leaving, a_coming, a_ofType, a_withLabels, a_kind, a_types, a_direction, a_low, a_high, a_variable, a_labels, a_token, a_condition, a_truth, a_number, a_variableOf, a_atPart, a_trail, a_here, a_bound, a_named, a_used, a_weight, upd a_left D (nI S), a_ends, a_seen, a_sum, a_some, a_letter, a_follow, a_firstOf, a_lastOf, a_nullable, a_spelled, a_visited, a_front, a_next)) : wpX_open post (f_level, f_indexed, nI P, f_highs, f_tokens, f_conditionLength, f_conditionNames, f_depth, f_found, f_testAt, f_count, f_different, f_cheapest, f_positions, f_starts, f_accepts, f_empty, f_written, f_target, f_steps, a_state, a_old, a_kept, a_leaving, a_coming, a_ofType, a_withLabels, a_kind, a_types, a_direction, a_low, a_high, a_variable, a_labels, a_token, a_condition, a_truth, a_number, a_variableOf, a_atPart, a_trail, a_here, a_bound, a_named, a_used, a_weight, a_left, a_ends, a_seen, a_sum, a_some, a_letter, a_follow, a_firstOf, a_lastOf, a_nullable, a_spelled, a_visited, a_front, a_next) (nI D) := by
  obtain ⟨hP, _, Q⟩ := Q
  have cD : (nI D).toNatClampNeg = D := nI_clamp (by omega)
  have cp : (nI p).toNatClampNeg = p := nI_clamp (by omega)
  have vD : vp_in (nI D) 20 := vp_in_nI hD (by omega)
  unfold wpX_open
  refine ⟨vD, nm_r (e' := nI p) (by rw [cD]; exact ap) ?_⟩
  by_cases e : p = P
  · exact br_t (nI_le (by omega) (by omega)) (h1 (Or.inl e))
  · have hp : p < P := by omega
    have vp : vp_in (nI p) 6 := vp_in_nI (by omega) (by omega)
    obtain ⟨⟨k1, k2, k3, k4, k5⟩, k6⟩ := Q p hp
    refine br_f (nI_ge hp (by omega)) ⟨vp, ?_⟩
    rw [cp, k1]
    rcases k6 with k6 | ⟨k6, _, ⟨t1, t2⟩, ⟨d1, d2⟩, _, l1, _, l2⟩
    · rw [k6]
      exact br_f (by decide) (h1 (Or.inr (Or.inl ⟨hp, k6⟩)))
    · obtain ⟨y1, y2⟩ := hh hp (by omega)
      rw [k6]
      refine br_t rfl ⟨vD, vp, ?_⟩
      rw [cD, tl, l1, y1, us]
      by_cases z : q 4 p ≤ t
      · exact br_t (nI_le z (by omega)) (h1 (Or.inr (Or.inr ⟨hp, by omega, z⟩)))
      · refine br_f (nI_ge (by omega) (by omega)) ⟨vD, x_going V I (by omega) y2 t1 t2 d1 d2 fun S hS hb => ⟨vD, vD, nm_r (e' := upd a_left D (nI (bb_nd S u))) ?_ (h2 hp (by omega) (by omega) (bb_nd S u) ?_ fun e => ?_)⟩⟩
        · have := bb_nd_le S u
          rw [bb_andn, bb_sh (by omega)]
        · have := bb_nd_le S u
          omega
        · rw [bb_nd_t, Bool.and_eq_true, hb, se_ok_iff]
          cases u.testBit e with
          | false => exact ⟨fun y => ⟨y.1.1, ⟨y.1.2.1, rfl⟩, y.1.2.2.1, y.1.2.2.2⟩, fun y => ⟨⟨y.1, y.2.1.1, y.2.2.1, y.2.2.2⟩, rfl⟩⟩
          | true => exact ⟨fun y => absurd y.2 (by decide), fun y => absurd y.2.1.2 (by decide)⟩
end
end
section
/-! the component's frames -/
section
variable (g : Nat → Int64) (q : Nat → Nat → Nat) (P : Nat) (c : Nat → Nat) (m ta : Nat)
/-- a valid frame at depth i -/
def FV (i p t h N W u w : Nat) : Prop := ((N < 4096 ∧ W < 16 ∧ u < 4096 ∧ w ≤ 100 * i ∧ h < 8) ∧ (∀ v, v < 4 → W.testBit v = true → ¬ g (bb_dg N v) = 0) ∧ (∀ v, v < 4 → W.testBit v = false → bb_dg N v = 0)) ∧ (∀ p', p' < p → W.testBit (q 5 p') = true) ∧ (p < P → q 0 p ≠ 0 → t ≤ q 4 p ∧ ¬ g h = 0) ∧ ((p < P → q 0 p = 0) → t = 0) ∧ i ≤ p + qH q p + t
def se_f (l : List LF) : List LF := l.filter (fun x => ev_c g c m x.1)
/-- the values of frame i: the matches that are left in it, its measure -/
def XV (i : Nat) (ap tl hr bd nm us wt lf en : Int32) (R : List LF) (mu : Nat) : Prop :=
  (∃ t h N W u w, ap = nI P ∧ bd = nI N ∧ nm = nI W ∧ wt = nI w ∧ FV g q P i P t h N W u w ∧ i ≤ 11 ∧ ev_c g c m N = true ∧ R = [(N, W, w)] ∧ mu = 1)
  ∨ (ap = 0 ∧ lf = 0 ∧ en = 0 ∧ R = [] ∧ mu = 1)
  ∨ (∃ p t h N W u w S, ∃ E : Bool, (p < P ∧ ap = nI p ∧ tl = nI t ∧ (q 0 p ≠ 0 → hr = nI h) ∧ bd = nI N ∧ nm = nI W ∧ us = nI u ∧ wt = nI w ∧ lf = nI S ∧ en = if E = true then 1 else 0) ∧ FV g q P i p t h N W u w ∧ (ta ≤ p → ev_c g c m N = true) ∧ S < 2 ^ 12 ∧ (q 0 p = 0 → E = false ∧ ∀ n, S.testBit n = true → n < 8 ∧ se_al g q p N W n = true) ∧ (q 0 p ≠ 0 → (E = true → q 3 p ≤ t ∧ se_al g q p N W h = true) ∧ ∀ e, S.testBit e = true → e < 12 ∧ t < q 4 p ∧ se_ok g q p h u e = true) ∧ R = se_f g c m (se_X g q P (10 - i) p t h N W u w E S) ∧ mu = (1 + (if E = true then 1 else 0) + S) * 10000 ^ (11 - i))
def XS (ap tl hr bd nm us wt lf en : Nat → Int32) : Nat → List LF → Nat → Prop
  | 0 => fun R mu => R = [] ∧ mu = 0
  | i + 1 => fun R mu => ∃ R1 m1 R0 m0, XV g q P c m ta i (ap i) (tl i) (hr i) (bd i) (nm i) (us i) (wt i) (lf i) (en i) R1 m1 ∧ XS ap tl hr bd nm us wt lf en i R0 m0 ∧ R = R1 ++ R0 ∧ mu = m1 + m0
end
def sk_eq (ap tl hr bd nm us wt lf en ap' tl' hr' bd' nm' us' wt' lf' en' : Nat → Int32) (j : Nat) : Prop := ((ap' j = ap j ∧ tl' j = tl j ∧ hr' j = hr j) ∧ bd' j = bd j ∧ nm' j = nm j) ∧ (us' j = us j ∧ wt' j = wt j) ∧ lf' j = lf j ∧ en' j = en j
section
variable {g : Nat → Int64} {q : Nat → Nat → Nat} {P : Nat} {c : Nat → Nat} {m ta : Nat}
theorem XS_c {ap tl hr bd nm us wt lf en ap' tl' hr' bd' nm' us' wt' lf' en' : Nat → Int32} : ∀ {T : Nat} {R : List LF} {mu : Nat}, (∀ j, j < T → sk_eq ap tl hr bd nm us wt lf en ap' tl' hr' bd' nm' us' wt' lf' en' j) → XS g q P c m ta ap tl hr bd nm us wt lf en T R mu → XS g q P c m ta ap' tl' hr' bd' nm' us' wt' lf' en' T R mu
  | 0, R, mu, _, h => h
  | T + 1, R, mu, e, h => by
    obtain ⟨R1, m1, R0, m0, h1, h2, h3⟩ := h
    obtain ⟨⟨⟨a1, a2, a3⟩, a4, a5⟩, ⟨a6, a7⟩, a8, a9⟩ := e T (by omega)
    refine ⟨R1, m1, R0, m0, ?_, XS_c (fun j hj => e j (by omega)) h2, h3⟩
    rw [a1, a2, a3, a4, a5, a6, a7, a8, a9]
    exact h1
/-- the depth of a frame that isn't done is at most ten -/
theorem FV_d (hP : P ≤ 6) (hH : qH q P ≤ 5) {i p t h N W u w : Nat} (F : FV g q P i p t h N W u w) (hp : p < P) : i ≤ 10 := by
  obtain ⟨_, _, f1, f2, f3⟩ := F
  have a := qH_mono q P (show p + 1 ≤ P by omega)
  simp only [qH] at a
  by_cases z : q 0 p = 0
  · have := f2 (fun _ => z)
    rw [if_pos z] at a
    omega
  · have := (f1 hp z).1
    rw [if_neg z] at a
    omega
theorem FV_dP (hP : P ≤ 6) (hH : qH q P ≤ 5) {i t h N W u w : Nat} (F : FV g q P i P t h N W u w) : i ≤ 11 := by
  obtain ⟨_, _, f1, f2, f3⟩ := F
  have := f2 (fun z => absurd z (Nat.lt_irrefl P))
  omega
/-- the part done at a node -/
theorem FV_bind {i p t h N W u w n : Nat} (F : FV g q P i p t h N W u w) (hp : p < P) (hq : q 5 p < 4) (hq2 : q 0 p ≠ 0 → t ≤ q 4 p) (hn : n < 8) (ha : se_al g q p N W n = true) : FV g q P (i + 1) (p + 1) 0 n (bb_st N (q 5 p) n) (W ||| 2 ^ q 5 p) u w := by
  obtain ⟨⟨⟨a1, a2, a3, a4, a5⟩, b1, b2⟩, c1, f1, f2, f3⟩ := F
  obtain ⟨⟨g0, _⟩, wb⟩ := se_al_iff.mp ha
  refine ⟨⟨⟨bb_st_lt a1 hq hn, bb_or2_lt (k := 4) a2 hq, a3, by omega, hn⟩, fun v hv hw => ?_, fun v hv hw => ?_⟩, fun p' hp' => ?_, fun _ _ => ⟨Nat.zero_le _, g0⟩, fun _ => rfl, ?_⟩
  · by_cases e : v = q 5 p
    · rw [e, bb_st_s a1 hq hn]; exact g0
    · rw [bb_st_n a1 hq hn hv e]
      refine b1 v hv ?_
      rw [bb_or2, decide_eq_false (fun z => e z.symm), Bool.or_false] at hw
      exact hw
  · rw [bb_or2, Bool.or_eq_false_iff, decide_eq_false_iff_not] at hw
    rw [bb_st_n a1 hq hn hv (fun z => hw.2 z.symm)]
    exact b2 v hv hw.1
  · rw [bb_or2]
    by_cases e : p' = p
    · rw [e, decide_eq_true rfl, Bool.or_true]
    · rw [c1 p' (by omega), Bool.true_or]
  · simp only [qH]
    by_cases z : q 0 p = 0
    · rw [if_pos z]
      have := f2 (fun _ => z)
      omega
    · rw [if_neg z]
      have := hq2 z
      omega
/-- an edge gone -/
theorem FV_edge {i p t h N W u w e : Nat} (V : VG g) (F : FV g q P i p t h N W u w) (hp : p < P) (hk : q 0 p ≠ 0) (he : e < 12) (ht : t < q 4 p) (ok : se_ok g q p h u e = true) : FV g q P (i + 1) p (t + 1) (se_t g q p h e) N W (u ||| 2 ^ e) (w + eW g e) := by
  obtain ⟨⟨⟨a1, a2, a3, a4, a5⟩, b1, b2⟩, c1, f1, f2, f3⟩ := F
  obtain ⟨⟨g0, _⟩, _, _⟩ := se_ok_iff.mp ok
  obtain ⟨⟨v1, v2⟩, _, v3, _⟩ := V.2 e he g0
  have s8 : se_t g q p h e < 8 ∧ ¬ g (se_t g q p h e) = 0 := by
    unfold se_t
    split
    · exact ⟨(eT_e g e).2, v2⟩
    · exact ⟨(eF_e g e).2, v1⟩
  exact ⟨⟨⟨a1, a2, bb_or2_lt (k := 12) a3 he, by omega, s8.1⟩, b1, b2⟩, c1, fun _ _ => ⟨by omega, s8.2⟩, fun z => absurd (z hp) hk, by omega⟩
/-- the condition is the same at all that comes of a frame in which its names are bound -/
theorem ev_bind {i p t h N W u w n : Nat} (F : FV g q P i p t h N W u w) (hq : q 5 p < 4) (hn : n < 8) (ha : se_al g q p N W n = true) (hc : ∀ k, k < m → c k < 4 → W.testBit (c k) = true) : ev_c g c m (bb_st N (q 5 p) n) = ev_c g c m N :=
  ev_c_ext fun k hk h4 => se_bind_dg F.1.1.1 hq hn (se_al_iff.mp ha).2 h4 (hc k hk h4)
theorem se_f_nil {k p t h N W u w : Nat} (hq : ∀ p, p < P → q 5 p < 4) (hp : p ≤ P) (hN : N < 4096) (hh : h < 8) (hc : ∀ k, k < m → c k < 4 → W.testBit (c k) = true) (hz : ev_c g c m N = false) : se_f g c m (se_lv g q P k p t h N W u w) = [] := by
  unfold se_f
  rw [List.filter_eq_nil_iff]
  intro x hx
  rw [ev_c_ext (N' := N) (fun k hk h4 => se_agree hq _ _ _ _ _ _ _ _ hp hN hh x hx _ h4 (hc k hk h4)), hz]
  decide
end
end
section
/-! a set by its members -/
def mk (f : Nat → Bool) : Nat → Nat
  | 0 => 0
  | k + 1 => mk f k ||| (if f k = true then 2 ^ k else 0)
theorem mk_t (f : Nat → Bool) (i : Nat) : ∀ k, (mk f k).testBit i = (decide (i < k) && f i)
  | 0 => by simp only [mk, Nat.zero_testBit, Nat.not_lt_zero, decide_false, Bool.false_and]
  | k + 1 => by
    simp only [mk]
    rw [Nat.testBit_or, mk_t f i k]
    by_cases e : i = k
    · subst e
      rw [decide_eq_false (Nat.lt_irrefl i), decide_eq_true (Nat.lt_succ_self i)]
      cases z : f i with
      | true => rw [if_pos rfl, Nat.testBit_two_pow_self]; rfl
      | false => rw [if_neg (by decide), Nat.zero_testBit]; rfl
    · have q : (if f k = true then 2 ^ k else 0).testBit i = false := by
        split
        · rw [Nat.testBit_two_pow, decide_eq_false (fun z => e z.symm)]
        · exact Nat.zero_testBit i
      rw [q, Bool.or_false]
      by_cases l : i < k
      · rw [decide_eq_true l, decide_eq_true (show i < k + 1 by omega)]
      · rw [decide_eq_false l, decide_eq_false (show ¬ i < k + 1 by omega)]
theorem mk_lt (f : Nat → Bool) : ∀ k, mk f k < 2 ^ k
  | 0 => Nat.one_pos
  | k + 1 => by
    simp only [mk]
    refine Nat.or_lt_two_pow (Nat.lt_trans (mk_lt f k) (Nat.pow_lt_pow_right (by decide) (by omega))) ?_
    split
    · exact Nat.pow_lt_pow_right (by decide) (by omega)
    · exact Nat.two_pow_pos _
theorem mk_u {f : Nat → Bool} {k S : Nat} (h : ∀ i, S.testBit i = true ↔ i < k ∧ f i = true) : S = mk f k := by
  apply Nat.eq_of_testBit_eq
  intro i
  rw [mk_t]
  have := h i
  cases a : S.testBit i with
  | true =>
    obtain ⟨x, y⟩ := this.mp a
    rw [decide_eq_true x, y]
    rfl
  | false =>
    by_cases x : i < k
    · cases y : f i with
      | true => rw [a] at this; exact absurd (this.mpr ⟨x, y⟩) (by decide)
      | false => rw [Bool.and_false]
    · rw [decide_eq_false x, Bool.false_and]
section
variable {f_level f_indexed f_parts f_highs f_tokens f_conditionLength f_conditionNames f_depth f_found f_testAt f_count f_different f_cheapest f_positions f_starts f_accepts f_empty f_written f_target f_steps : Int32} {a_state a_old : Nat → Int64} {a_kept a_leaving a_coming a_ofType a_withLabels a_kind a_types a_direction a_low a_high a_variable a_labels a_token a_condition a_truth a_number a_variableOf a_atPart a_trail a_here a_bound a_named a_used a_weight a_left a_ends : Nat → Int32} {a_seen a_sum : Nat → Int64} {a_some a_letter a_follow a_firstOf a_lastOf a_nullable a_spelled a_visited a_front a_next : Nat → Int32} {P : Nat} {q : Nat → Nat → Nat}
theorem x_enter' {D p t N W h : Nat} (Q : XQ P q a_kind a_types a_direction a_low a_high a_variable a_labels) (I : IX a_state a_leaving a_coming a_ofType a_withLabels) (hD : D < 20) (hp : p ≤ P) (ht : t < 100) (hN : N < 4096) (hW : W < 16) (hh : p < P → q 0 p ≠ 0 → a_here D = nI h ∧ h < 8) : ∃ (lf en : Nat → Int32) (S : Nat) (E : Bool), S < 2 ^ 12 ∧ (p = P → E = false ∧ S = 0) ∧ (p < P → q 0 p = 0 → E = false ∧ ∀ n, S.testBit n = true ↔ n < 8 ∧ se_al a_state q p N W n = true) ∧ (p < P → q 0 p ≠ 0 → S = 0 ∧ (E = true ↔ q 3 p ≤ t ∧ se_al a_state q p N W h = true)) ∧ (lf D = nI S ∧ en D = if E = true then 1 else 0) ∧ (∀ j, j ≠ D → lf j = a_left j ∧ en j = a_ends j) ∧ ∀ K : SX → Prop, K (f_level, f_indexed, nI P, f_highs, f_tokens, f_conditionLength, f_conditionNames, f_depth, f_found, f_testAt, f_count, f_different, f_cheapest, f_positions, f_starts, f_accepts, f_empty, f_written, f_target, f_steps, a_state, a_old, a_kept, a_leaving, a_coming, a_ofType, a_withLabels, a_kind, a_types, a_direction, a_low, a_high, a_variable, a_labels, a_token, a_condition, a_truth, a_number, a_variableOf, upd a_atPart D (nI p), upd a_trail D (nI t), a_here, upd a_bound D (nI N), upd a_named D (nI W), a_used, a_weight, lf, en, a_seen, a_sum, a_some, a_letter, a_follow, a_firstOf, a_lastOf, a_nullable, a_spelled, a_visited, a_front, a_next) → wpX_enter K (f_level, f_indexed, nI P, f_highs, f_tokens, f_conditionLength, f_conditionNames, f_depth, f_found, f_testAt, f_count, f_different, f_cheapest, f_positions, f_starts, f_accepts, f_empty, f_written, f_target, f_steps, a_state, a_old, a_kept, a_leaving, a_coming, a_ofType, a_withLabels, a_kind, a_types, a_direction, a_low, a_high, a_variable, a_labels, a_token, a_condition, a_truth, a_number, a_variableOf, a_atPart, a_trail, a_here, a_bound, a_named, a_used, a_weight, a_left, a_ends, a_seen, a_sum, a_some, a_letter, a_follow, a_firstOf, a_lastOf, a_nullable, a_spelled, a_visited, a_front, a_next) (nI D) (nI p) (nI t) (nI N) (nI W) := by
  by_cases e : p = P
  · refine ⟨upd a_left D 0, upd a_ends D 0, 0, false, by decide, fun _ => ⟨rfl, rfl⟩, fun z => absurd e (by omega), fun z => absurd e (by omega), ⟨pk_us, pk_us⟩, fun j hj => ⟨pk_un hj, pk_un hj⟩, fun K k => ?_⟩
    exact x_enter Q I hD hp ht hN hW hh (fun _ => k) (fun z => absurd e (by omega)) (fun z => absurd e (by omega))
  · have hp : p < P := by omega
    by_cases z : q 0 p = 0
    · refine ⟨upd (upd a_left D 0) D (nI (mk (se_al a_state q p N W) 8)), upd a_ends D 0, mk (se_al a_state q p N W) 8, false, Nat.lt_trans (mk_lt _ 8) (by decide), fun y => absurd y e, fun _ _ => ⟨rfl, fun n => ?_⟩, fun _ y => absurd z y, ⟨pk_us, pk_us⟩, fun j hj => ⟨by rw [pk_un hj, pk_un hj], pk_un hj⟩, fun K k => ?_⟩
      · rw [mk_t, Bool.and_eq_true, decide_eq_true_eq]
      · exact x_enter Q I hD (by omega) ht hN hW hh (fun y => absurd y e) (fun _ _ S _ hb => by rw [mk_u hb]; exact k) (fun _ y => absurd z y)
    · have dec : ∃ E : Bool, (E = true ↔ q 3 p ≤ t ∧ se_al a_state q p N W h = true) := ⟨decide (q 3 p ≤ t ∧ se_al a_state q p N W h = true), decide_eq_true_iff⟩
      obtain ⟨E, hE⟩ := dec
      refine ⟨upd a_left D 0, upd (upd a_ends D 0) D (if E = true then 1 else 0), 0, E, by decide, fun y => absurd y e, fun _ y => absurd y z, fun _ _ => ⟨rfl, hE⟩, ⟨pk_us, pk_us⟩, fun j hj => ⟨pk_un hj, by rw [pk_un hj, pk_un hj]⟩, fun K k => ?_⟩
      refine x_enter Q I hD (by omega) ht hN hW hh (fun y => absurd y e) (fun _ y => absurd y z) (fun _ _ E' hE' => ?_)
      have : E' = E := by
        have h1 := hE'.trans hE.symm
        cases E <;> cases E' <;> simp at h1 ⊢
      rw [this]
      exact k
theorem x_open' {D p t h u S : Nat} (Q : XQ P q a_kind a_types a_direction a_low a_high a_variable a_labels) (V : VG a_state) (I : IX a_state a_leaving a_coming a_ofType a_withLabels) (hD : D < 20) (hp : p ≤ P) (ht : t < 100) (ap : a_atPart D = nI p) (tl : a_trail D = nI t) (hh : p < P → q 0 p ≠ 0 → a_here D = nI h ∧ h < 8) (us : a_used D = nI u) (hu : u < 4096) (hl : a_left D = nI S) (hS : S < 2 ^ 12) : ∃ (lf : Nat → Int32) (S' : Nat), S' < 2 ^ 12 ∧ ((p = P ∨ (p < P ∧ q 0 p = 0)) → S' = S) ∧ (p < P → q 0 p ≠ 0 → S = 0 → ∀ e, S'.testBit e = true ↔ e < 12 ∧ t < q 4 p ∧ se_ok a_state q p h u e = true) ∧ lf D = nI S' ∧ (∀ j, j ≠ D → lf j = a_left j) ∧ ∀ K : SX → Prop, K (f_level, f_indexed, nI P, f_highs, f_tokens, f_conditionLength, f_conditionNames, f_depth, f_found, f_testAt, f_count, f_different, f_cheapest, f_positions, f_starts, f_accepts, f_empty, f_written, f_target, f_steps, a_state, a_old, a_kept, a_leaving, a_coming, a_ofType, a_withLabels, a_kind, a_types, a_direction, a_low, a_high, a_variable, a_labels, a_token, a_condition, a_truth, a_number, a_variableOf, a_atPart, a_trail, a_here, a_bound, a_named, a_used, a_weight, lf, a_ends, a_seen, a_sum, a_some, a_letter, a_follow, a_firstOf, a_lastOf, a_nullable, a_spelled, a_visited, a_front, a_next) → wpX_open K (f_level, f_indexed, nI P, f_highs, f_tokens, f_conditionLength, f_conditionNames, f_depth, f_found, f_testAt, f_count, f_different, f_cheapest, f_positions, f_starts, f_accepts, f_empty, f_written, f_target, f_steps, a_state, a_old, a_kept, a_leaving, a_coming, a_ofType, a_withLabels, a_kind, a_types, a_direction, a_low, a_high, a_variable, a_labels, a_token, a_condition, a_truth, a_number, a_variableOf, a_atPart, a_trail, a_here, a_bound, a_named, a_used, a_weight, a_left, a_ends, a_seen, a_sum, a_some, a_letter, a_follow, a_firstOf, a_lastOf, a_nullable, a_spelled, a_visited, a_front, a_next) (nI D) := by
  by_cases z : p < P ∧ q 0 p ≠ 0 ∧ t < q 4 p
  · obtain ⟨z1, z2, z3⟩ := z
    refine ⟨upd a_left D (nI (mk (se_ok a_state q p h u) 12)), mk (se_ok a_state q p h u) 12, mk_lt _ 12, ?_, fun _ _ _ e => ?_, pk_us, fun j hj => pk_un hj, fun K k => ?_⟩
    · rintro (y | y)
      · omega
      · exact absurd y.2 z2
    · rw [mk_t, Bool.and_eq_true, decide_eq_true_eq]
      exact ⟨fun y => ⟨y.1, z3, y.2⟩, fun y => ⟨y.1, y.2.2⟩⟩
    · refine x_open Q V I hD hp ht ap tl hh us hu (fun y => ?_) (fun _ _ _ S _ hb => by rw [mk_u hb]; exact k)
      rcases y with y | y | y
      · omega
      · exact absurd y.2 z2
      · omega
  · refine ⟨a_left, S, hS, fun _ => rfl, fun y1 y2 y3 e => ?_, hl, fun _ _ => rfl, fun K k => ?_⟩
    · subst y3
      rw [Nat.zero_testBit]
      exact ⟨fun y => absurd y (by decide), fun y => absurd ⟨y1, y2, y.2.1⟩ z⟩
    · exact x_open Q V I hD hp ht ap tl hh us hu (fun _ => k) (fun y1 y2 y3 => absurd ⟨y1, y2, y3⟩ z)
end
/-- what the search holds fixed -/
def XC (P : Nat) (q : Nat → Nat → Nat) (c : Nat → Nat) (m ta : Nat) (g : Nat → Int64) (lv cm ot wl kd ty di lo hi va la cn : Nat → Int32) : Prop := XQ P q kd ty di lo hi va la ∧ VG g ∧ IX g lv cm ot wl ∧ CO cn c m ∧ ta ≤ P ∧ (∀ k, k < m → c k < 4 → ∃ p, p < ta ∧ q 5 p = c k) ∧ 0 < P
/-- a fresh frame as it stands after enter and open -/
theorem XV_fresh {g : Nat → Int64} {q : Nat → Nat → Nat} {P : Nat} {c : Nat → Nat} {m ta : Nat} {i p t h N W u w S : Nat} {E : Bool} {ap tl hr bd nm us wt lf en : Int32} (hP : P ≤ 6) (hH : qH q P ≤ 5) (hp : p ≤ P) (F : FV g q P (i + 1) p t h N W u w) (hc : ta ≤ p → ev_c g c m N = true) (hta : ta ≤ P) (hS : S < 2 ^ 12) (e1 : ap = nI p) (e2 : tl = nI t) (e3 : p < P → q 0 p ≠ 0 → hr = nI h) (e4 : bd = nI N) (e5 : nm = nI W) (e6 : us = nI u) (e7 : wt = nI w) (e8 : lf = nI S) (e9 : en = if E = true then 1 else 0) (a0 : p < P → q 0 p = 0 → E = false ∧ ∀ n, S.testBit n = true ↔ n < 8 ∧ se_al g q p N W n = true) (a1 : p < P → q 0 p ≠ 0 → (E = true ↔ q 3 p ≤ t ∧ se_al g q p N W h = true) ∧ ∀ e, S.testBit e = true ↔ e < 12 ∧ t < q 4 p ∧ se_ok g q p h u e = true) : ∃ mu, mu < 10000 ^ (11 - i) ∧ XV g q P c m ta (i + 1) ap tl hr bd nm us wt lf en (se_f g c m (se_lv g q P (10 - i) p t h N W u w)) mu := by
  by_cases e : p = P
  · subst e
    have d := FV_dP hP hH F
    refine ⟨1, Nat.one_lt_pow (by omega) (by decide), Or.inl ⟨t, h, N, W, u, w, e1, e4, e5, e7, F, d, hc hta, ?_, rfl⟩⟩
    rw [se_lv_P]
    unfold se_f
    exact (List.filter_cons_of_pos (p := fun x : LF => ev_c g c m x.1) (a := (N, W, w)) (hc hta)).symm ▸ rfl
  · have hp : p < P := by omega
    have d := FV_d hP hH F hp
    have k10 : 10 - i = (10 - (i + 1)) + 1 := by omega
    refine ⟨(1 + (if E = true then 1 else 0) + S) * 10000 ^ (11 - (i + 1)), ?_, Or.inr (Or.inr ⟨p, t, h, N, W, u, w, S, E, ⟨hp, e1, e2, e3 hp, e4, e5, e6, e7, e8, e9⟩, F, hc, hS, fun z => ⟨(a0 hp z).1, fun n y => ((a0 hp z).2 n).mp y⟩, fun z => ⟨(a1 hp z).1.mp, fun n y => ((a1 hp z).2 n).mp y⟩, ?_, rfl⟩)⟩
    · rw [show 11 - i = (11 - (i + 1)) + 1 by omega, Nat.pow_succ, Nat.mul_comm]
      apply Nat.mul_lt_mul_of_pos_left
      · split <;> omega
      · exact Nat.pow_pos (by decide)
    · rw [k10, se_lv_X (E := E) (S := S) e (fun z n hn => ?_) (fun z => ⟨(a1 hp z).1, fun x hx => ?_⟩)]
      · rw [(a0 hp z).2 n]; exact ⟨fun y => y.2, fun y => ⟨hn, y⟩⟩
      · rw [(a1 hp z).2 x]; exact ⟨fun y => y.2, fun y => ⟨hx, y⟩⟩
end
section
/-! a depth's next choice -/
section
variable {f_level f_indexed f_parts f_highs f_tokens f_conditionLength f_conditionNames f_depth f_found f_testAt f_count f_different f_cheapest f_positions f_starts f_accepts f_empty f_written f_target f_steps : Int32} {a_state a_old : Nat → Int64} {a_kept a_leaving a_coming a_ofType a_withLabels a_kind a_types a_direction a_low a_high a_variable a_labels a_token a_condition a_truth a_number a_variableOf a_atPart a_trail a_here a_bound a_named a_used a_weight a_left a_ends : Nat → Int32} {a_seen a_sum : Nat → Int64} {a_some a_letter a_follow a_firstOf a_lastOf a_nullable a_spelled a_visited a_front a_next : Nat → Int32} {P : Nat} {q : Nat → Nat → Nat} {c : Nat → Nat} {m ta : Nat}
theorem x_bind {post : Int32 → SX → Prop} {d p t h N W u w n : Nat} (C : XC P q c m ta a_state a_leaving a_coming a_ofType a_withLabels a_kind a_types a_direction a_low a_high a_variable a_labels a_condition) (F : FV a_state q P d p t h N W u w) (hp : p < P) (hn : n < 8) (ha : se_al a_state q p N W n = true) (hc : ta ≤ p → ev_c a_state c m N = true) (ap : a_atPart d = nI p) (bd : a_bound d = nI N) (nm : a_named d = nI W)
    (hK : ∀ (f_depth' : Int32) (a_truth' a_number' a_variableOf' : Nat → Int32) (a_atPart' a_trail' a_here' a_bound' a_named' a_used' a_weight' a_left' a_ends' : Nat → Int32) mu, (∀ j, j ≤ d → sk_eq a_atPart a_trail a_here a_bound a_named a_used a_weight a_left a_ends a_atPart' a_trail' a_here' a_bound' a_named' a_used' a_weight' a_left' a_ends' j) → mu < 10000 ^ (11 - d) → XV a_state q P c m ta (d + 1) (a_atPart' (d + 1)) (a_trail' (d + 1)) (a_here' (d + 1)) (a_bound' (d + 1)) (a_named' (d + 1)) (a_used' (d + 1)) (a_weight' (d + 1)) (a_left' (d + 1)) (a_ends' (d + 1)) (se_f a_state c m (se_kb a_state q P (10 - d) p n N W u w)) mu → post 1 (f_level, f_indexed, nI P, f_highs, f_tokens, nI m, f_conditionNames, f_depth', f_found, nI ta, f_count, f_different, f_cheapest, f_positions, f_starts, f_accepts, f_empty, f_written, f_target, f_steps, a_state, a_old, a_kept, a_leaving, a_coming, a_ofType, a_withLabels, a_kind, a_types, a_direction, a_low, a_high, a_variable, a_labels, a_token, a_condition, a_truth', a_number', a_variableOf', a_atPart', a_trail', a_here', a_bound', a_named', a_used', a_weight', a_left', a_ends', a_seen, a_sum, a_some, a_letter, a_follow, a_firstOf, a_lastOf, a_nullable, a_spelled, a_visited, a_front, a_next)) : wpX_bind post (f_level, f_indexed, nI P, f_highs, f_tokens, nI m, f_conditionNames, f_depth, f_found, nI ta, f_count, f_different, f_cheapest, f_positions, f_starts, f_accepts, f_empty, f_written, f_target, f_steps, a_state, a_old, a_kept, a_leaving, a_coming, a_ofType, a_withLabels, a_kind, a_types, a_direction, a_low, a_high, a_variable, a_labels, a_token, a_condition, a_truth, a_number, a_variableOf, a_atPart, a_trail, a_here, a_bound, a_named, a_used, a_weight, a_left, a_ends, a_seen, a_sum, a_some, a_letter, a_follow, a_firstOf, a_lastOf, a_nullable, a_spelled, a_visited, a_front, a_next) (nI d) (nI n) (nI u) (nI w) := by
  obtain ⟨Q, V, I, CO', hta, hcn, P0⟩ := C
  have hP := Q.1
  have hH := Q.2.1
  obtain ⟨⟨k1, k2, k3, k4, k5⟩, k6⟩ := Q.2.2 p hp
  have d10 := FV_d hP hH F hp
  have FF := F
  obtain ⟨⟨⟨f1, f2, f3, f4, f5⟩, _⟩, fn, fh, _⟩ := FF
  have F' := FV_bind F hp k3 (fun z => (fh hp z).1) hn ha
  have cd : (nI d).toNatClampNeg = d := nI_clamp (by omega)
  have cd1 : (nI (d + 1)).toNatClampNeg = d + 1 := nI_clamp (by omega)
  have cp : (nI p).toNatClampNeg = p := nI_clamp (by omega)
  have vd : vp_in (nI d) 20 := vp_in_nI (by omega) (by omega)
  have vd1 : vp_in (nI (d + 1)) 20 := vp_in_nI (by omega) (by omega)
  have vp : vp_in (nI p) 6 := vp_in_nI (by omega) (by omega)
  have N' := bb_st_lt f1 k3 hn
  have W' : W ||| 2 ^ q 5 p < 16 := bb_or2_lt (k := 4) f2 k3
  unfold wpX_bind
  rw [nI_1 d]
  refine ⟨vd, nm_r (e' := nI p) (by rw [cd]; exact ap) ⟨vp, nm_r (e' := nI (q 5 p)) (by rw [cp]; exact k2) ⟨vd, nm_r (e' := nI (bb_st N (q 5 p) n)) (by rw [cd, bd, bb_stX f1 k3 hn]) ⟨vd, nm_r (e' := nI (W ||| 2 ^ q 5 p)) (by rw [cd, nm, bb_1shl (by omega), bb_or]) ⟨vd1, nm_r (e' := upd a_here (d + 1) (nI n)) (by rw [cd1, bb_by (by omega)]) ⟨vd1, nm_r (e' := upd a_used (d + 1) (nI u)) (by rw [cd1, bb_sh (by omega)]) ⟨vd1, nm_r (e' := upd a_weight (d + 1) (nI w)) (by rw [cd1, bb_sh (by omega)]) ?_⟩⟩⟩⟩⟩⟩⟩
  rw [nI_1 p]
  obtain ⟨lf, en, S, E, s1, s2, s3, s4, ⟨s5, s6⟩, s7, go1⟩ := x_enter' (a_state := a_state) (a_leaving := a_leaving) (a_coming := a_coming) (a_ofType := a_ofType) (a_withLabels := a_withLabels) (a_here := upd a_here (d + 1) (nI n)) (a_left := a_left) (a_ends := a_ends) (D := d + 1) (p := p + 1) (t := 0) (h := n) (N := bb_st N (q 5 p) n) (W := W ||| 2 ^ q 5 p) Q I (by omega) (by omega) (by omega) N' W' (fun _ _ => ⟨pk_us, hn⟩)
  obtain ⟨lf', S', t1, t2, t3, t4, t5, go2⟩ := x_open' (a_state := a_state) (a_leaving := a_leaving) (a_coming := a_coming) (a_ofType := a_ofType) (a_withLabels := a_withLabels) (a_here := upd a_here (d + 1) (nI n)) (a_left := lf) (a_atPart := upd a_atPart (d + 1) (nI (p + 1))) (a_trail := upd a_trail (d + 1) (nI 0)) (a_used := upd a_used (d + 1) (nI u)) (D := d + 1) (p := p + 1) (t := 0) (h := n) (u := u) (S := S) Q V I (by omega) (by omega) (by omega) pk_us pk_us (fun _ _ => ⟨pk_us, hn⟩) pk_us f3 s5 s1
  refine go1 _ (go2 _ ?_)
  have skj : ∀ j, j ≤ d → sk_eq a_atPart a_trail a_here a_bound a_named a_used a_weight a_left a_ends (upd a_atPart (d + 1) (nI (p + 1))) (upd a_trail (d + 1) (nI 0)) (upd a_here (d + 1) (nI n)) (upd a_bound (d + 1) (nI (bb_st N (q 5 p) n))) (upd a_named (d + 1) (nI (W ||| 2 ^ q 5 p))) (upd a_used (d + 1) (nI u)) (upd a_weight (d + 1) (nI w)) lf' en j := by
    intro j hj
    have e : j ≠ d + 1 := by omega
    exact ⟨⟨⟨pk_un e, pk_un e, pk_un e⟩, pk_un e, pk_un e⟩, ⟨pk_un e, pk_un e⟩, by rw [t5 j e, (s7 j e).1], (s7 j e).2⟩
  have a0 : p + 1 < P → q 0 (p + 1) = 0 → E = false ∧ ∀ x, S'.testBit x = true ↔ x < 8 ∧ se_al a_state q (p + 1) (bb_st N (q 5 p) n) (W ||| 2 ^ q 5 p) x = true := by
    intro y z
    rw [t2 (Or.inr ⟨y, z⟩)]
    exact s3 y z
  have a1 : p + 1 < P → q 0 (p + 1) ≠ 0 → (E = true ↔ q 3 (p + 1) ≤ 0 ∧ se_al a_state q (p + 1) (bb_st N (q 5 p) n) (W ||| 2 ^ q 5 p) n = true) ∧ ∀ e, S'.testBit e = true ↔ e < 12 ∧ 0 < q 4 (p + 1) ∧ se_ok a_state q (p + 1) n u e = true := by
    intro y z
    exact ⟨(s4 y z).2, t3 y z (s4 y z).1⟩
  have fresh := fun hc' => XV_fresh (c := c) (m := m) (ta := ta) (E := E) (S := S') (ap := upd a_atPart (d + 1) (nI (p + 1)) (d + 1)) (tl := upd a_trail (d + 1) (nI 0) (d + 1)) (hr := upd a_here (d + 1) (nI n) (d + 1)) (bd := upd a_bound (d + 1) (nI (bb_st N (q 5 p) n)) (d + 1)) (nm := upd a_named (d + 1) (nI (W ||| 2 ^ q 5 p)) (d + 1)) (us := upd a_used (d + 1) (nI u) (d + 1)) (wt := upd a_weight (d + 1) (nI w) (d + 1)) (lf := lf' (d + 1)) (en := en (d + 1)) hP hH (show p + 1 ≤ P by omega) F' hc' hta t1 pk_us pk_us (fun _ _ => pk_us) pk_us pk_us pk_us pk_us t4 s6 a0 a1
  by_cases z : p + 1 = ta
  · have hcw : ∀ k, k < m → c k < 4 → (W ||| 2 ^ q 5 p).testBit (c k) = true := by
      intro k hk h4
      obtain ⟨p', y1, y2⟩ := hcn k hk h4
      rw [← y2]
      exact F'.2.1 p' (by omega)
    refine br_t (congrArg nI z) (x_holds CO' N' fun r f_depth' a_truth' a_number' a_variableOf' hr => ?_)
    by_cases r2 : r = 2
    · obtain ⟨mu, y1, y2⟩ := fresh (fun _ => hr.mp r2)
      exact br_t r2 (hK f_depth' a_truth' a_number' a_variableOf' _ _ _ _ _ _ _ _ _ mu skj y1 y2)
    · have r3 : ev_c a_state c m (bb_st N (q 5 p) n) = false := ts_nt fun y => r2 (hr.mpr y)
      refine br_f r2 ⟨vd1, nm_r (e' := upd (upd a_atPart (d + 1) (nI (p + 1))) (d + 1) 0) (by rw [cd1, bb_y0]) ⟨vd1, nm_r (e' := upd lf' (d + 1) 0) (by rw [cd1, bb_s0]) ⟨vd1, nm_r (e' := upd en (d + 1) 0) (by rw [cd1, bb_b0]) (hK f_depth' a_truth' a_number' a_variableOf' _ _ _ _ _ _ _ _ _ 1 (fun j hj => ?_) (Nat.one_lt_pow (by omega) (by decide)) (Or.inr (Or.inl ⟨pk_us, pk_us, pk_us, ?_, rfl⟩)))⟩⟩⟩
      · have e : j ≠ d + 1 := by omega
        obtain ⟨⟨⟨x1, x2⟩, x3⟩, x4, x5, x6⟩ := skj j hj
        exact ⟨⟨⟨by rw [pk_un e]; exact x1, x2⟩, x3⟩, x4, by rw [pk_un e]; exact x5, by rw [pk_un e]; exact x6⟩
      · exact se_f_nil (fun p hp => (Q.2.2 p hp).1.2.2.1) (by omega) N' hn hcw r3
  · refine br_f (fun y => z ((nI_eq (by omega) (by omega)).mp y)) ?_
    have hc' : ta ≤ p + 1 → ev_c a_state c m (bb_st N (q 5 p) n) = true := by
      intro y
      have y2 : ta ≤ p := by omega
      rw [ev_bind F k3 hn ha (fun k hk h4 => ?_)]
      · exact hc y2
      · obtain ⟨p', y1, y3⟩ := hcn k hk h4
        rw [← y3]
        exact fn p' (by omega)
    obtain ⟨mu, y1, y2⟩ := fresh hc'
    exact hK f_depth a_truth a_number a_variableOf _ _ _ _ _ _ _ _ _ mu skj y1 y2
theorem x_adv183 {post : Int32 → SX → Prop} {d p t h N W u w e : Nat} (C : XC P q c m ta a_state a_leaving a_coming a_ofType a_withLabels a_kind a_types a_direction a_low a_high a_variable a_labels a_condition) (F : FV a_state q P d p t h N W u w) (hp : p < P) (hk : q 0 p ≠ 0) (he : e < 12) (ht : t < q 4 p) (ok : se_ok a_state q p h u e = true) (hc : ta ≤ p → ev_c a_state c m N = true) (tl : a_trail d = nI t) (bd : a_bound d = nI N) (nm : a_named d = nI W) (us : a_used d = nI u) (wt : a_weight d = nI w)
    (hK : ∀ (a_atPart' a_trail' a_here' a_bound' a_named' a_used' a_weight' a_left' a_ends' : Nat → Int32) mu, (∀ j, j ≤ d → sk_eq a_atPart a_trail a_here a_bound a_named a_used a_weight a_left a_ends a_atPart' a_trail' a_here' a_bound' a_named' a_used' a_weight' a_left' a_ends' j) → mu < 10000 ^ (11 - d) → XV a_state q P c m ta (d + 1) (a_atPart' (d + 1)) (a_trail' (d + 1)) (a_here' (d + 1)) (a_bound' (d + 1)) (a_named' (d + 1)) (a_used' (d + 1)) (a_weight' (d + 1)) (a_left' (d + 1)) (a_ends' (d + 1)) (se_f a_state c m (se_ke a_state q P (10 - d) p t h N W u w e)) mu → post 1 (f_level, f_indexed, nI P, f_highs, f_tokens, f_conditionLength, f_conditionNames, f_depth, f_found, f_testAt, f_count, f_different, f_cheapest, f_positions, f_starts, f_accepts, f_empty, f_written, f_target, f_steps, a_state, a_old, a_kept, a_leaving, a_coming, a_ofType, a_withLabels, a_kind, a_types, a_direction, a_low, a_high, a_variable, a_labels, a_token, a_condition, a_truth, a_number, a_variableOf, a_atPart', a_trail', a_here', a_bound', a_named', a_used', a_weight', a_left', a_ends', a_seen, a_sum, a_some, a_letter, a_follow, a_firstOf, a_lastOf, a_nullable, a_spelled, a_visited, a_front, a_next)) : wX_advance_183 post (nI d) (nI p) (nI e) (nI (se_t a_state q p h e)) f_level f_indexed (nI P) f_highs f_tokens f_conditionLength f_conditionNames f_depth f_found f_testAt f_count f_different f_cheapest f_positions f_starts f_accepts f_empty f_written f_target f_steps a_state a_old a_kept a_leaving a_coming a_ofType a_withLabels a_kind a_types a_direction a_low a_high a_variable a_labels a_token a_condition a_truth a_number a_variableOf a_atPart a_trail a_here a_bound a_named a_used a_weight a_left a_ends a_seen a_sum a_some a_letter a_follow a_firstOf a_lastOf a_nullable a_spelled a_visited a_front a_next := by
  obtain ⟨Q, V, I, CO', hta, hcn, P0⟩ := C
  have hP := Q.1
  have hH := Q.2.1
  have d10 := FV_d hP hH F hp
  have FF := F
  obtain ⟨⟨⟨f1, f2, f3, f4, f5⟩, _⟩, fn, fh, _⟩ := FF
  have F' := FV_edge V F hp hk he ht ok
  obtain ⟨⟨g0, _⟩, _, _⟩ := se_ok_iff.mp ok
  obtain ⟨_, _, v3, v4⟩ := V.2 e he g0
  have s8 : se_t a_state q p h e < 8 := F'.1.1.2.2.2.2
  have u' : u ||| 2 ^ e < 4096 := F'.1.1.2.2.1
  have t4' : t < 4 := by
    rcases (Q.2.2 p hp).2 with z | ⟨_, _, _, _, _, _, _, z⟩
    · exact absurd z hk
    · omega
  have cd : (nI d).toNatClampNeg = d := nI_clamp (by omega)
  have cd1 : (nI (d + 1)).toNatClampNeg = d + 1 := nI_clamp (by omega)
  have vd : vp_in (nI d) 20 := vp_in_nI (by omega) (by omega)
  have vd1 : vp_in (nI (d + 1)) 20 := vp_in_nI (by omega) (by omega)
  have e8 : (8 : Int32) + nI e = nI (8 + e) := nI_add 8 e
  have c8 : ((8 : Int32) + nI e).toNatClampNeg = 8 + e := by rw [e8, nI_clamp (by omega)]
  have v8 : vp_in ((8 : Int32) + nI e) 20 := by rw [e8]; exact vp_in_nI (by omega) (by omega)
  have we : ((a_weight d).toInt64 + (a_state (8 + e) >>> ((9 : Int32).toInt64 &&& 63))).toInt32 = nI (w + eW a_state e) := by
    have : a_state (8 + e) >>> ((9 : Int32).toInt64 &&& 63) = lN (eW a_state e) := v4
    rw [this, wt, nI_l (by omega), lN_add, lN_i]
  unfold wX_advance_183
  rw [nI_1 d]
  refine ⟨vd1, nm_r (e' := upd a_here (d + 1) (nI (se_t a_state q p h e))) (by rw [cd1, bb_by (by omega)]) ⟨vd, vd1, nm_r (e' := upd a_used (d + 1) (nI (u ||| 2 ^ e))) (by rw [cd, cd1, us, bb_1shl (by omega), bb_or, bb_sh (by omega)]) ⟨vd, v8, vd1, nm_r (e' := upd a_weight (d + 1) (nI (w + eW a_state e))) (by rw [cd, cd1, c8, we, bb_sh (by omega)]) ⟨vd, vd, vd, ?_⟩⟩⟩⟩
  rw [cd, tl, bd, nm, nI_1 t]
  obtain ⟨lf, en, S, E, s1, s2, s3, s4, ⟨s5, s6⟩, s7, go1⟩ := x_enter' (a_state := a_state) (a_leaving := a_leaving) (a_coming := a_coming) (a_ofType := a_ofType) (a_withLabels := a_withLabels) (a_here := upd a_here (d + 1) (nI (se_t a_state q p h e))) (a_left := a_left) (a_ends := a_ends) (D := d + 1) (p := p) (t := t + 1) (h := se_t a_state q p h e) (N := N) (W := W) Q I (by omega) (by omega) (by omega) f1 f2 (fun _ _ => ⟨pk_us, s8⟩)
  obtain ⟨lf', S', t1, t2, t3, t4, t5, go2⟩ := x_open' (a_state := a_state) (a_leaving := a_leaving) (a_coming := a_coming) (a_ofType := a_ofType) (a_withLabels := a_withLabels) (a_here := upd a_here (d + 1) (nI (se_t a_state q p h e))) (a_left := lf) (a_atPart := upd a_atPart (d + 1) (nI p)) (a_trail := upd a_trail (d + 1) (nI (t + 1))) (a_used := upd a_used (d + 1) (nI (u ||| 2 ^ e))) (D := d + 1) (p := p) (t := t + 1) (h := se_t a_state q p h e) (u := u ||| 2 ^ e) (S := S) Q V I (by omega) (by omega) (by omega) pk_us pk_us (fun _ _ => ⟨pk_us, s8⟩) pk_us u' s5 s1
  refine go1 _ (go2 _ ?_)
  have skj : ∀ j, j ≤ d → sk_eq a_atPart a_trail a_here a_bound a_named a_used a_weight a_left a_ends (upd a_atPart (d + 1) (nI p)) (upd a_trail (d + 1) (nI (t + 1))) (upd a_here (d + 1) (nI (se_t a_state q p h e))) (upd a_bound (d + 1) (nI N)) (upd a_named (d + 1) (nI W)) (upd a_used (d + 1) (nI (u ||| 2 ^ e))) (upd a_weight (d + 1) (nI (w + eW a_state e))) lf' en j := by
    intro j hj
    have e : j ≠ d + 1 := by omega
    exact ⟨⟨⟨pk_un e, pk_un e, pk_un e⟩, pk_un e, pk_un e⟩, ⟨pk_un e, pk_un e⟩, by rw [t5 j e, (s7 j e).1], (s7 j e).2⟩
  have fresh := XV_fresh (c := c) (m := m) (ta := ta) (E := E) (S := S') (ap := upd a_atPart (d + 1) (nI p) (d + 1)) (tl := upd a_trail (d + 1) (nI (t + 1)) (d + 1)) (hr := upd a_here (d + 1) (nI (se_t a_state q p h e)) (d + 1)) (bd := upd a_bound (d + 1) (nI N) (d + 1)) (nm := upd a_named (d + 1) (nI W) (d + 1)) (us := upd a_used (d + 1) (nI (u ||| 2 ^ e)) (d + 1)) (wt := upd a_weight (d + 1) (nI (w + eW a_state e)) (d + 1)) (lf := lf' (d + 1)) (en := en (d + 1)) hP hH (show p ≤ P by omega) F' hc hta t1 pk_us pk_us (fun _ _ => pk_us) pk_us pk_us pk_us pk_us t4 s6 (fun _ z => absurd z hk) (fun y z => ⟨(s4 y z).2, t3 y z (s4 y z).1⟩)
  obtain ⟨mu, y1, y2⟩ := fresh
  exact hK _ _ _ _ _ _ _ _ _ mu skj y1 y2
end
end
section
/-! a match noted -/
theorem bl_shl1 {j : Nat} (hj : j < 64) (i : Nat) : bl ((1 : Int64) <<< ((nI j).toInt64 &&& 63)) i = decide (i = j) := by
  have h : (1 : Int64) <<< ((nI j).toInt64 &&& 63) = lN (2 ^ j) := by
    have := wb_shl 1 hj
    rw [Nat.one_mul] at this
    exact this
  rw [h]
  show (BitVec.ofNat 64 (2 ^ j)).getLsbD i = _
  rw [BitVec.getLsbD_ofNat, Nat.testBit_two_pow]
  by_cases e : i = j
  · subst e; simp [hj]
  · rw [decide_eq_false e, decide_eq_false (show ¬ j = i from fun z => e z.symm), Bool.and_false]
section
variable {f_level f_indexed f_parts f_highs f_tokens f_conditionLength f_conditionNames f_depth f_found f_testAt f_count f_different f_cheapest f_positions f_starts f_accepts f_empty f_written f_target f_steps : Int32} {a_state a_old : Nat → Int64} {a_kept a_leaving a_coming a_ofType a_withLabels a_kind a_types a_direction a_low a_high a_variable a_labels a_token a_condition a_truth a_number a_variableOf a_atPart a_trail a_here a_bound a_named a_used a_weight a_left a_ends : Nat → Int32} {a_seen a_sum : Nat → Int64} {a_some a_letter a_follow a_firstOf a_lastOf a_nullable a_spelled a_visited a_front a_next : Nat → Int32} {post : SX → Prop}
theorem x_note_135 {D N W w : Nat} {ms : List LF} (hD : D < 20) (hN : N < 4096) (hW : W < 16) (nm : a_named D = nI W) (h : ∀ sm so, (∀ v, v < 4 → sm v = se_sm a_state v (ms ++ [(N, W, w)])) → (∀ v, v < 4 → so v = if se_so a_state v (ms ++ [(N, W, w)]) = true then 1 else 0) → post (f_level, f_indexed, f_parts, f_highs, f_tokens, f_conditionLength, f_conditionNames, f_depth, f_found, f_testAt, f_count, f_different, f_cheapest, f_positions, f_starts, f_accepts, f_empty, f_written, f_target, f_steps, a_state, a_old, a_kept, a_leaving, a_coming, a_ofType, a_withLabels, a_kind, a_types, a_direction, a_low, a_high, a_variable, a_labels, a_token, a_condition, a_truth, a_number, a_variableOf, a_atPart, a_trail, a_here, a_bound, a_named, a_used, a_weight, a_left, a_ends, a_seen, sm, so, a_letter, a_follow, a_firstOf, a_lastOf, a_nullable, a_spelled, a_visited, a_front, a_next)) : ∀ n v sm so, v ≤ 4 → 4 - v < n → (∀ x, x < v → sm x = se_sm a_state x (ms ++ [(N, W, w)]) ∧ so x = if se_so a_state x (ms ++ [(N, W, w)]) = true then 1 else 0) → (∀ x, v ≤ x → x < 4 → sm x = se_sm a_state x ms ∧ so x = if se_so a_state x ms = true then 1 else 0) → wX_note_135 post (nI D) (nI N) f_level f_indexed f_parts f_highs f_tokens f_conditionLength f_conditionNames f_depth f_found f_testAt f_count f_different f_cheapest f_positions f_starts f_accepts f_empty f_written f_target f_steps n (nI v) a_state a_old a_kept a_leaving a_coming a_ofType a_withLabels a_kind a_types a_direction a_low a_high a_variable a_labels a_token a_condition a_truth a_number a_variableOf a_atPart a_trail a_here a_bound a_named a_used a_weight a_left a_ends a_seen sm so a_letter a_follow a_firstOf a_lastOf a_nullable a_spelled a_visited a_front a_next := by
  have cD : (nI D).toNatClampNeg = D := nI_clamp (by omega)
  have vD : vp_in (nI D) 20 := vp_in_nI hD (by omega)
  intro n
  induction n with
  | zero => intro v sm so _ hn; omega
  | succ n ih =>
    intro v sm so hv hn I1 I2
    by_cases e : v = 4
    · subst e
      exact br_t (nI_le (b := 4) (Nat.le_refl _) (by omega)) (h sm so (fun v hv => (I1 v hv).1) (fun v hv => (I1 v hv).2))
    · have hv : v < 4 := by omega
      have d8 := bb_dg_lt N v
      have ed : (nI N >>> ((3 * nI v) &&& 31)) &&& 7 = nI (bb_dg N v) := bb_dgX (by omega) (by omega)
      have cd : ((nI N >>> ((3 * nI v) &&& 31)) &&& 7).toNatClampNeg = bb_dg N v := by rw [ed, nI_clamp (by omega)]
      have vd : vp_in ((nI N >>> ((3 * nI v) &&& 31)) &&& 7) 20 := by rw [ed]; exact vp_in_nI (by omega) (by omega)
      have vv : vp_in (nI v) 4 := vp_in_nI hv (by omega)
      have cv : (nI v).toNatClampNeg = v := nI_clamp (by omega)
      have keep : se_hs a_state v (N, W, w) = false → ∀ x, x = nI v + 1 → wX_note_135 post (nI D) (nI N) f_level f_indexed f_parts f_highs f_tokens f_conditionLength f_conditionNames f_depth f_found f_testAt f_count f_different f_cheapest f_positions f_starts f_accepts f_empty f_written f_target f_steps n x a_state a_old a_kept a_leaving a_coming a_ofType a_withLabels a_kind a_types a_direction a_low a_high a_variable a_labels a_token a_condition a_truth a_number a_variableOf a_atPart a_trail a_here a_bound a_named a_used a_weight a_left a_ends a_seen sm so a_letter a_follow a_firstOf a_lastOf a_nullable a_spelled a_visited a_front a_next := by
        intro z
        refine nm_r (nI_1 v) (ih (v + 1) sm so (by omega) (by omega) (fun x hx => ?_) (fun x h1 h2 => I2 x (by omega) h2))
        by_cases y : x = v
        · subst y
          rw [se_sm_app, se_so_app, z]
          simp only [Bool.false_eq_true, if_false, Bool.or_false]
          exact I2 x (Nat.le_refl _) hv
        · exact I1 x (by omega)
      refine br_f (nI_ge (b := 4) hv (by omega)) ⟨vd, nm_r (e' := a_state (bb_dg N v)) (by rw [cd]) ⟨vD, ?_⟩⟩
      rw [cD, nm]
      cases z : W.testBit v with
      | false =>
        refine br_t ((bb_bit (by omega) (by omega)).mpr z) (keep ?_)
        show (W.testBit v && _) = false
        rw [z, Bool.false_and]
      | true =>
        refine br_f ((bb_bitT (by omega) (by omega)).mpr z) ?_
        cases y : nH a_state (bb_dg N v) with
        | false =>
          refine br_t ((bl_has _).mpr y) (keep ?_)
          show (W.testBit v && nH a_state (bb_dg N v)) = false
          rw [y, Bool.and_false]
        | true =>
          have hs : se_hs a_state v (N, W, w) = true := by
            show (W.testBit v && nH a_state (bb_dg N v)) = true
            rw [y, z]
            rfl
          obtain ⟨i1, i2⟩ := I2 v (Nat.le_refl _) hv
          refine br_f (fun q => ?_) ⟨vv, vv, nm_r (e' := vp_updL sm v (se_sm a_state v (ms ++ [(N, W, w)]))) ?_ ⟨vv, nm_r (e' := upd so v 1) (by rw [cv, bb_b1]) (nm_r (nI_1 v) (ih (v + 1) _ _ (by omega) (by omega) (fun x hx => ?_) (fun x h1 h2 => ?_)))⟩⟩
          · have := (bl_has _).mp q
            unfold nH at y
            rw [this] at y
            exact absurd y (by decide)
          · rw [cv, se_sm_app, hs, if_pos rfl, i1]
            rfl
          · by_cases y : x = v
            · subst y
              rw [pk_uLs, pk_us, se_so_app, hs, Bool.or_true]
              exact ⟨rfl, rfl⟩
            · rw [pk_uLn y, pk_un y]
              exact I1 x (by omega)
          · have y : x ≠ v := by omega
            rw [pk_uLn y, pk_un y]
            exact I2 x (by omega) h2
theorem x_note {D N W w : Nat} {ms : List LF} (hD : D < 20) (hN : N < 4096) (hW : W < 16) (hw : w < 2 ^ 15) (bd : a_bound D = nI N) (nm : a_named D = nI W) (wt : a_weight D = nI w) (hl : ms.length < 5000) (A : se_CA a_state ms f_count f_different f_cheapest a_seen a_sum a_some) (h : ∀ (f_count' f_different' f_cheapest' : Int32) (a_seen' a_sum' : Nat → Int64) (a_some' : Nat → Int32), se_CA a_state (ms ++ [(N, W, w)]) f_count' f_different' f_cheapest' a_seen' a_sum' a_some' → post (f_level, f_indexed, f_parts, f_highs, f_tokens, f_conditionLength, f_conditionNames, f_depth, f_found, f_testAt, f_count', f_different', f_cheapest', f_positions, f_starts, f_accepts, f_empty, f_written, f_target, f_steps, a_state, a_old, a_kept, a_leaving, a_coming, a_ofType, a_withLabels, a_kind, a_types, a_direction, a_low, a_high, a_variable, a_labels, a_token, a_condition, a_truth, a_number, a_variableOf, a_atPart, a_trail, a_here, a_bound, a_named, a_used, a_weight, a_left, a_ends, a_seen', a_sum', a_some', a_letter, a_follow, a_firstOf, a_lastOf, a_nullable, a_spelled, a_visited, a_front, a_next)) : wpX_note post (f_level, f_indexed, f_parts, f_highs, f_tokens, f_conditionLength, f_conditionNames, f_depth, f_found, f_testAt, f_count, f_different, f_cheapest, f_positions, f_starts, f_accepts, f_empty, f_written, f_target, f_steps, a_state, a_old, a_kept, a_leaving, a_coming, a_ofType, a_withLabels, a_kind, a_types, a_direction, a_low, a_high, a_variable, a_labels, a_token, a_condition, a_truth, a_number, a_variableOf, a_atPart, a_trail, a_here, a_bound, a_named, a_used, a_weight, a_left, a_ends, a_seen, a_sum, a_some, a_letter, a_follow, a_firstOf, a_lastOf, a_nullable, a_spelled, a_visited, a_front, a_next) (nI D) := by
  obtain ⟨A1, A2, A3, A4, A5, A6⟩ := A
  have cD : (nI D).toNatClampNeg = D := nI_clamp (by omega)
  have vD : vp_in (nI D) 20 := vp_in_nI hD (by omega)
  have k12 := bb_key_lt N
  have k6 : nI (bb_key N) >>> ((6 : Int32) &&& 31) = nI (bb_key N / 64) := pk_shrN (by omega) _ 6 (by decide)
  have k63 : nI (bb_key N) &&& 63 = nI (bb_key N % 64) := pk_andN (by omega) 6 (by decide)
  have v6 : vp_in (nI (bb_key N / 64)) 64 := vp_in_nI (by omega) (by omega)
  have c6 : (nI (bb_key N / 64)).toNatClampNeg = bb_key N / 64 := nI_clamp (by omega)
  have m64 : bb_key N % 64 < 64 := Nat.mod_lt _ (by decide)
  have bit := ts_bit (w := a_seen (bb_key N / 64)) (s := (nI (bb_key N % 64)).toInt64.toUInt64 &&& Int64.toUInt64 63) (j := bb_key N % 64) m64 (by rw [wb_cu _ m64]; exact u_tn (by omega))
  have old : (a_seen (bb_key N / 64)).toBitVec.getLsbD (bb_key N % 64) = se_in ms (bb_key N) := A4 _ k12
  -- the bits afterwards
  have seen' : ∀ k, k < 4096 → bl (vp_updL a_seen (bb_key N / 64) (a_seen (bb_key N / 64) ||| ((1 : Int64) <<< ((nI (bb_key N % 64)).toInt64 &&& 63))) (k / 64)) (k % 64) = se_in (ms ++ [(N, W, w)]) k := by
    intro k hk
    rw [se_in_app]
    by_cases e : k / 64 = bb_key N / 64
    · rw [e, pk_uLs, bl_or, bl_shl1 m64, ← e, A4 k hk]
      congr 1
      have : (k % 64 = bb_key N % 64) ↔ bb_key N = k := by omega
      simp only [this]
    · rw [pk_uLn e, A4 k hk, decide_eq_false (show ¬ bb_key N = k from fun z => e (by rw [z])), Bool.or_false]
  have fin : ∀ (df ch : Int32), df = nI (cq (se_in (ms ++ [(N, W, w)])) 4096) → (∃ m, ch = nI m ∧ se_mn (ms ++ [(N, W, w)]) m) → ∃ n, wX_note_135 post (nI D) (nI N) f_level f_indexed f_parts f_highs f_tokens f_conditionLength f_conditionNames f_depth f_found f_testAt (nI (ms.length + 1)) df ch f_positions f_starts f_accepts f_empty f_written f_target f_steps n 0 a_state a_old a_kept a_leaving a_coming a_ofType a_withLabels a_kind a_types a_direction a_low a_high a_variable a_labels a_token a_condition a_truth a_number a_variableOf a_atPart a_trail a_here a_bound a_named a_used a_weight a_left a_ends (vp_updL a_seen (bb_key N / 64) (a_seen (bb_key N / 64) ||| ((1 : Int64) <<< ((nI (bb_key N % 64)).toInt64 &&& 63)))) a_sum a_some a_letter a_follow a_firstOf a_lastOf a_nullable a_spelled a_visited a_front a_next := by
    intro df ch hd hc
    refine ⟨5, x_note_135 (ms := ms) (w := w) hD hN hW nm (fun sm so s1 s2 => h _ _ _ _ _ _ ⟨?_, hd, Or.inr hc, seen', s1, s2⟩) 5 0 _ _ (by omega) (by omega) (fun x hx => absurd hx (Nat.not_lt_zero x)) (fun x _ hx => ⟨A5 x hx, A6 x hx⟩)⟩
    rw [List.length_append]
    rfl
  have e84 : ∀ df : Int32, df = nI (cq (se_in (ms ++ [(N, W, w)])) 4096) → wX_note_84 post (nI D) (nI N) (nI (bb_key N)) f_level f_indexed f_parts f_highs f_tokens f_conditionLength f_conditionNames f_depth f_found f_testAt (nI (ms.length + 1)) df f_cheapest f_positions f_starts f_accepts f_empty f_written f_target f_steps a_state a_old a_kept a_leaving a_coming a_ofType a_withLabels a_kind a_types a_direction a_low a_high a_variable a_labels a_token a_condition a_truth a_number a_variableOf a_atPart a_trail a_here a_bound a_named a_used a_weight a_left a_ends a_seen a_sum a_some a_letter a_follow a_firstOf a_lastOf a_nullable a_spelled a_visited a_front a_next := by
    intro df hd
    unfold wX_note_84
    rw [k6, k63, c6]
    refine ⟨v6, v6, nm_e ?_⟩
    have low : (∃ m, nI w = nI m ∧ se_mn (ms ++ [(N, W, w)]) m) → wX_note_122 post (nI D) (nI N) f_level f_indexed f_parts f_highs f_tokens f_conditionLength f_conditionNames f_depth f_found f_testAt (nI (ms.length + 1)) df f_cheapest f_positions f_starts f_accepts f_empty f_written f_target f_steps a_state a_old a_kept a_leaving a_coming a_ofType a_withLabels a_kind a_types a_direction a_low a_high a_variable a_labels a_token a_condition a_truth a_number a_variableOf a_atPart a_trail a_here a_bound a_named a_used a_weight a_left a_ends (vp_updL a_seen (bb_key N / 64) (a_seen (bb_key N / 64) ||| ((1 : Int64) <<< ((nI (bb_key N % 64)).toInt64 &&& 63)))) a_sum a_some a_letter a_follow a_firstOf a_lastOf a_nullable a_spelled a_visited a_front a_next := by
      intro hm
      exact ⟨vD, nm_r (e' := nI w) (by rw [cD]; exact wt) (fin df (nI w) hd hm)⟩
    rcases A3 with ⟨rfl, a⟩ | ⟨mn, a, b⟩
    · rw [a]
      exact br_t (by decide) (low ⟨w, rfl, se_mn_1 (x := (N, W, w)) hw⟩)
    · rw [a]
      have mb := b.1
      refine br_f (nI_pos (by omega)) ⟨vD, ?_⟩
      rw [cD, wt]
      by_cases z : mn ≤ w
      · exact br_t (nI_le z (by omega)) (fin df (nI mn) hd ⟨mn, rfl, se_mn_ge b z⟩)
      · exact br_f (nI_ge (by omega) (by omega)) (low ⟨w, rfl, se_mn_lt (x := (N, W, w)) b (show w < mn by omega)⟩)
  unfold wpX_note
  rw [A1, A2]
  refine nm_r (nI_1 _) ⟨vD, nm_r (e' := nI N) (by rw [cD]; exact bd) (nm_r (e' := nI (bb_key N)) (bb_keyX hN) ?_)⟩
  rw [k6, k63, c6]
  refine ⟨v6, ?_⟩
  cases z : se_in ms (bb_key N) with
  | false =>
    rw [z] at old
    refine br_t (bit.mpr old) (nm_r (nI_1 _) (e84 _ (congrArg nI ?_)))
    refine (cq_add (k := bb_key N) z ?_ (fun x hx => ?_) 4096 k12).symm
    · rw [se_in_app, decide_eq_true rfl, Bool.or_true]
    · rw [se_in_app, decide_eq_false (fun y => hx y.symm), Bool.or_false]
  | true =>
    rw [z] at old
    refine br_f (fun y => ?_) (e84 _ (congrArg nI (cq_ext 4096 fun k _ => ?_)))
    · rw [bit.mp y] at old; exact absurd old (by decide)
    · rw [se_in_app]
      by_cases y : bb_key N = k
      · rw [← y, z, Bool.true_or]
      · rw [decide_eq_false y, Bool.or_false]
end
end
section
/-! the component's search -/
section
variable {f_level f_indexed f_parts f_highs f_tokens f_conditionLength f_conditionNames f_depth f_found f_testAt f_count f_different f_cheapest f_positions f_starts f_accepts f_empty f_written f_target f_steps : Int32} {a_state a_old : Nat → Int64} {a_kept a_leaving a_coming a_ofType a_withLabels a_kind a_types a_direction a_low a_high a_variable a_labels a_token a_condition a_truth a_number a_variableOf a_atPart a_trail a_here a_bound a_named a_used a_weight a_left a_ends : Nat → Int32} {a_seen a_sum : Nat → Int64} {a_some a_letter a_follow a_firstOf a_lastOf a_nullable a_spelled a_visited a_front a_next : Nat → Int32} {P : Nat} {q : Nat → Nat → Nat} {c : Nat → Nat} {m ta : Nat}
theorem x_advance {post : Int32 → SX → Prop} {d mu : Nat} {R ms : List LF} (C : XC P q c m ta a_state a_leaving a_coming a_ofType a_withLabels a_kind a_types a_direction a_low a_high a_variable a_labels a_condition) (hd : d < 12) (S : XS a_state q P c m ta a_atPart a_trail a_here a_bound a_named a_used a_weight a_left a_ends (d + 1) R mu) (A : se_CA a_state ms f_count f_different f_cheapest a_seen a_sum a_some) (hl : ms.length < 5000)
    (h0 : ∀ (f_count' f_different' f_cheapest' : Int32) (a_seen' a_sum' : Nat → Int64) (a_some' : Nat → Int32) R' ms' mu', mu' < mu → XS a_state q P c m ta a_atPart a_trail a_here a_bound a_named a_used a_weight a_left a_ends d R' mu' → se_CA a_state ms' f_count' f_different' f_cheapest' a_seen' a_sum' a_some' → ms' ++ R' = ms ++ R → ms'.length ≤ ms.length + 1 → post 0 (f_level, f_indexed, nI P, f_highs, f_tokens, nI m, f_conditionNames, f_depth, f_found, nI ta, f_count', f_different', f_cheapest', f_positions, f_starts, f_accepts, f_empty, f_written, f_target, f_steps, a_state, a_old, a_kept, a_leaving, a_coming, a_ofType, a_withLabels, a_kind, a_types, a_direction, a_low, a_high, a_variable, a_labels, a_token, a_condition, a_truth, a_number, a_variableOf, a_atPart, a_trail, a_here, a_bound, a_named, a_used, a_weight, a_left, a_ends, a_seen', a_sum', a_some', a_letter, a_follow, a_firstOf, a_lastOf, a_nullable, a_spelled, a_visited, a_front, a_next))
    (h1 : ∀ (f_depth' : Int32) (a_truth' a_number' a_variableOf' : Nat → Int32) (a_atPart' a_trail' a_here' a_bound' a_named' a_used' a_weight' a_left' a_ends' : Nat → Int32) mu', mu' < mu → d < 11 → XS a_state q P c m ta a_atPart' a_trail' a_here' a_bound' a_named' a_used' a_weight' a_left' a_ends' (d + 2) R mu' → post 1 (f_level, f_indexed, nI P, f_highs, f_tokens, nI m, f_conditionNames, f_depth', f_found, nI ta, f_count, f_different, f_cheapest, f_positions, f_starts, f_accepts, f_empty, f_written, f_target, f_steps, a_state, a_old, a_kept, a_leaving, a_coming, a_ofType, a_withLabels, a_kind, a_types, a_direction, a_low, a_high, a_variable, a_labels, a_token, a_condition, a_truth', a_number', a_variableOf', a_atPart', a_trail', a_here', a_bound', a_named', a_used', a_weight', a_left', a_ends', a_seen, a_sum, a_some, a_letter, a_follow, a_firstOf, a_lastOf, a_nullable, a_spelled, a_visited, a_front, a_next)) : wpX_advance post (f_level, f_indexed, nI P, f_highs, f_tokens, nI m, f_conditionNames, f_depth, f_found, nI ta, f_count, f_different, f_cheapest, f_positions, f_starts, f_accepts, f_empty, f_written, f_target, f_steps, a_state, a_old, a_kept, a_leaving, a_coming, a_ofType, a_withLabels, a_kind, a_types, a_direction, a_low, a_high, a_variable, a_labels, a_token, a_condition, a_truth, a_number, a_variableOf, a_atPart, a_trail, a_here, a_bound, a_named, a_used, a_weight, a_left, a_ends, a_seen, a_sum, a_some, a_letter, a_follow, a_firstOf, a_lastOf, a_nullable, a_spelled, a_visited, a_front, a_next) (nI d) := by
  have CC := C
  obtain ⟨Q, V, I, CO', hta, hcn, P0⟩ := CC
  have hP := Q.1
  have hH := Q.2.1
  obtain ⟨R1, m1, R0, m0, X, S0, rfl, rfl⟩ := S
  have cd : (nI d).toNatClampNeg = d := nI_clamp (by omega)
  have vd : vp_in (nI d) 20 := vp_in_nI (by omega) (by omega)
  unfold wpX_advance
  rcases X with ⟨t, h, N, W, u, w, e1, e4, e5, e7, F, d11, hc, rfl, rfl⟩ | ⟨e1, e8, e9, rfl, rfl⟩ | ⟨p, t, h, N, W, u, w, S, E, ⟨hp, e1, e2, e3, e4, e5, e6, e7, e8, e9⟩, F, hc, hS, a0, a1, rfl, rfl⟩
  · -- a match
    refine ⟨vd, nm_r (e' := nI P) (by rw [cd]; exact e1) (br_t rfl ?_)⟩
    have wl : w < 2 ^ 15 := by have := F.1.1.2.2.2.1; omega
    refine x_note (ms := ms) (by omega) F.1.1.1 F.1.1.2.1 wl e4 e5 e7 hl A fun f_count' f_different' f_cheapest' a_seen' a_sum' a_some' A' => h0 f_count' f_different' f_cheapest' a_seen' a_sum' a_some' R0 _ m0 (by omega) S0 A' (by simp) (by rw [List.length_append]; exact Nat.le_refl _)
  · -- a depth that the condition has closed
    refine ⟨vd, nm_r (e' := nI 0) (by rw [cd]; exact e1) (br_f (fun z => ?_) ⟨vd, ?_⟩)⟩
    · have := (nI_eq (by omega) (by omega)).mp z
      omega
    · rw [cd, e9, e8]
      exact br_t rfl ⟨vd, br_t rfl (h0 f_count f_different f_cheapest a_seen a_sum a_some R0 ms m0 (by omega) S0 A rfl (by omega))⟩
  · -- a depth with choices
    have d10 := FV_d hP hH F hp
    have cp : (nI p).toNatClampNeg = p := nI_clamp (by omega)
    have vp : vp_in (nI p) 6 := vp_in_nI (by omega) (by omega)
    obtain ⟨⟨k1, k2, k3, k4, k5⟩, k6⟩ := Q.2.2 p hp
    have pw : 0 < 10000 ^ (11 - d) := Nat.pow_pos (by decide)
    refine ⟨vd, nm_r (e' := nI p) (by rw [cd]; exact e1) (br_f (fun z => absurd ((nI_eq (by omega) (by omega)).mp z) (by omega)) ⟨vd, ?_⟩)⟩
    rw [cd, e9, e8, e6, e7]
    -- the frame itself with another rest
    have frame : ∀ (S' : Nat) (E' : Bool), S' < 2 ^ 12 → (q 0 p = 0 → E' = false ∧ ∀ n, S'.testBit n = true → S.testBit n = true) → (q 0 p ≠ 0 → (E' = true → E = true) ∧ ∀ e, S'.testBit e = true → S.testBit e = true) → XV a_state q P c m ta d (a_atPart d) (a_trail d) (a_here d) (a_bound d) (a_named d) (a_used d) (a_weight d) (nI S') (if E' = true then 1 else 0) (se_f a_state c m (se_X a_state q P (10 - d) p t h N W u w E' S')) ((1 + (if E' = true then 1 else 0) + S') * 10000 ^ (11 - d)) := by
      intro S' E' l b0 b1
      refine Or.inr (Or.inr ⟨p, t, h, N, W, u, w, S', E', ⟨hp, e1, e2, e3, e4, e5, e6, e7, rfl, rfl⟩, F, hc, l, fun z => ⟨(b0 z).1, fun n y => (a0 z).2 n ((b0 z).2 n y)⟩, fun z => ⟨fun y => (a1 z).1 ((b1 z).1 y), fun n y => (a1 z).2 n ((b1 z).2 n y)⟩, rfl, rfl⟩)
    -- a child laid above it
    have push : ∀ (S' : Nat) (E' : Bool) (Rc : List LF), S' < 2 ^ 12 → (q 0 p = 0 → E' = false ∧ ∀ n, S'.testBit n = true → S.testBit n = true) → (q 0 p ≠ 0 → (E' = true → E = true) ∧ ∀ e, S'.testBit e = true → S.testBit e = true) → se_X a_state q P (10 - d) p t h N W u w E S = Rc ++ se_X a_state q P (10 - d) p t h N W u w E' S' → (1 + (if E' = true then 1 else 0) + S') + 1 ≤ 1 + (if E = true then 1 else 0) + S → ∀ (lf en : Nat → Int32), lf d = nI S' → en d = (if E' = true then 1 else 0) → (∀ j, j < d → lf j = a_left j ∧ en j = a_ends j) → ∀ (f_depth' : Int32) (a_truth' a_number' a_variableOf' : Nat → Int32) (a_atPart' a_trail' a_here' a_bound' a_named' a_used' a_weight' a_left' a_ends' : Nat → Int32) mu, (∀ j, j ≤ d → sk_eq a_atPart a_trail a_here a_bound a_named a_used a_weight lf en a_atPart' a_trail' a_here' a_bound' a_named' a_used' a_weight' a_left' a_ends' j) → mu < 10000 ^ (11 - d) → XV a_state q P c m ta (d + 1) (a_atPart' (d + 1)) (a_trail' (d + 1)) (a_here' (d + 1)) (a_bound' (d + 1)) (a_named' (d + 1)) (a_used' (d + 1)) (a_weight' (d + 1)) (a_left' (d + 1)) (a_ends' (d + 1)) (se_f a_state c m Rc) mu → post 1 (f_level, f_indexed, nI P, f_highs, f_tokens, nI m, f_conditionNames, f_depth', f_found, nI ta, f_count, f_different, f_cheapest, f_positions, f_starts, f_accepts, f_empty, f_written, f_target, f_steps, a_state, a_old, a_kept, a_leaving, a_coming, a_ofType, a_withLabels, a_kind, a_types, a_direction, a_low, a_high, a_variable, a_labels, a_token, a_condition, a_truth', a_number', a_variableOf', a_atPart', a_trail', a_here', a_bound', a_named', a_used', a_weight', a_left', a_ends', a_seen, a_sum, a_some, a_letter, a_follow, a_firstOf, a_lastOf, a_nullable, a_spelled, a_visited, a_front, a_next) := by
      intro S' E' Rc l b0 b1 hx hmu lf en hlf hen hj f_depth' a_truth' a_number' a_variableOf' a_atPart' a_trail' a_here' a_bound' a_named' a_used' a_weight' a_left' a_ends' mu sk hm X'
      refine h1 f_depth' a_truth' a_number' a_variableOf' a_atPart' a_trail' a_here' a_bound' a_named' a_used' a_weight' a_left' a_ends' (mu + ((1 + (if E' = true then 1 else 0) + S') * 10000 ^ (11 - d) + m0)) ?_ (by omega) ⟨se_f a_state c m Rc, mu, se_f a_state c m (se_X a_state q P (10 - d) p t h N W u w E' S') ++ R0, (1 + (if E' = true then 1 else 0) + S') * 10000 ^ (11 - d) + m0, X', ⟨se_f a_state c m (se_X a_state q P (10 - d) p t h N W u w E' S'), (1 + (if E' = true then 1 else 0) + S') * 10000 ^ (11 - d), R0, m0, ?_, XS_c (fun j hj' => ?_) S0, rfl, rfl⟩, ?_, rfl⟩
      · have := Nat.mul_le_mul_right (10000 ^ (11 - d)) hmu
        rw [Nat.add_mul, Nat.one_mul] at this
        omega
      · obtain ⟨⟨⟨x1, x2, x3⟩, x4, x5⟩, ⟨x6, x7⟩, x8, x9⟩ := sk d (Nat.le_refl _)
        rw [x1, x2, x3, x4, x5, x6, x7, x8, x9, hlf, hen]
        exact frame S' E' l b0 b1
      · obtain ⟨⟨⟨x1, x2, x3⟩, x4, x5⟩, ⟨x6, x7⟩, x8, x9⟩ := sk j (by omega)
        obtain ⟨y1, y2⟩ := hj j hj'
        exact ⟨⟨⟨x1, x2, x3⟩, x4, x5⟩, ⟨x6, x7⟩, by rw [x8, y1], by rw [x9, y2]⟩
      · rw [hx]
        unfold se_f
        rw [List.filter_append, List.append_assoc]
    cases E with
    | true =>
      have kk : q 0 p ≠ 0 := fun z => absurd (a0 z).1 (by decide)
      obtain ⟨y1, y2⟩ := (a1 kk).1 rfl
      have h8 := F.1.1.2.2.2.2
      refine br_f (by decide) ⟨vd, nm_r (e' := upd a_ends d 0) (by rw [bb_b0]) ⟨vd, vd, vd, ?_⟩⟩
      rw [e3 kk]
      exact x_bind C F hp h8 y2 hc e1 e4 e5 fun f_depth' a_truth' a_number' a_variableOf' a_atPart' a_trail' a_here' a_bound' a_named' a_used' a_weight' a_left' a_ends' mu sk hm X' => ⟨rfl, push S false _ hS (fun z => absurd z kk) (fun _ => ⟨fun z => absurd z (by decide), fun _ z => z⟩) (se_X_end kk) (by simp only [if_true, Bool.false_eq_true, if_false]; omega) a_left (upd a_ends d 0) e8 pk_us (fun j hj => ⟨rfl, pk_un (by omega)⟩) f_depth' a_truth' a_number' a_variableOf' a_atPart' a_trail' a_here' a_bound' a_named' a_used' a_weight' a_left' a_ends' mu sk hm X'⟩
    | false =>
      refine br_t rfl ⟨vd, ?_⟩
      by_cases z : S = 0
      · subst z
        refine br_t rfl (h0 f_count f_different f_cheapest a_seen a_sum a_some R0 ms m0 ?_ S0 A ?_ (by omega))
        · have : 0 < (1 + (if false = true then 1 else 0) + 0) * 10000 ^ (11 - d) := Nat.mul_pos (by decide) pw
          omega
        · rw [se_X_nil]; rfl
      · obtain ⟨b, b1, b2, b3, b4⟩ := bb_low S (by omega)
        have S' : S &&& (S - 1) < 2 ^ 12 := by omega
        have b12 : b < 12 := by
          rcases Nat.lt_or_ge b 12 with y | y
          · exact y
          · rw [bb_tlt hS y] at b1; exact absurd b1 (by decide)
        have sub : ∀ n, (S &&& (S - 1)).testBit n = true → S.testBit n = true := fun n y => by rw [b3, Bool.and_eq_true] at y; exact y.1
        have la : vp_nar .short ((nI S &&& (nI S - 1)).toInt16.toInt32) = nI (S &&& (S - 1)) := by
          have : nI S - 1 = nI (S - 1) := pk_sub (a := S) (b := 1) (by omega)
          rw [this, nx_and, bb_sh (by omega)]
        have hmu : (1 + (if false = true then 1 else 0) + (S &&& (S - 1))) + 1 ≤ 1 + (if false = true then 1 else 0) + S := by
          simp only [Bool.false_eq_true, if_false]
          omega
        refine br_f (nI_ne0 (by omega) (by omega)) ⟨vd, x_lowest (by omega) b1 b2 ⟨vd, vd, vd, nm_r (e' := upd a_left d (nI (S &&& (S - 1)))) (by rw [la]) ⟨vp, ?_⟩⟩⟩
        rw [cp, k1]
        by_cases kk : q 0 p = 0
        · obtain ⟨y1, y2⟩ := (a0 kk).2 b b1
          rw [kk]
          refine br_t rfl ⟨vd, vd, ?_⟩
          exact x_bind C F hp y1 y2 hc e1 e4 e5 fun f_depth' a_truth' a_number' a_variableOf' a_atPart' a_trail' a_here' a_bound' a_named' a_used' a_weight' a_left' a_ends' mu sk hm X' => ⟨rfl, push _ false _ S' (fun _ => ⟨rfl, sub⟩) (fun z => absurd kk z) (se_X_start kk b1 y1 b2 b3) hmu (upd a_left d (nI (S &&& (S - 1)))) a_ends pk_us e9 (fun j hj => ⟨pk_un (by omega), rfl⟩) f_depth' a_truth' a_number' a_variableOf' a_atPart' a_trail' a_here' a_bound' a_named' a_used' a_weight' a_left' a_ends' mu sk hm X'⟩
        · obtain ⟨y1, y2, y3⟩ := (a1 kk).2 b b1
          rcases k6 with k6 | ⟨k6, _, _, ⟨d1, d2⟩, _⟩
          · exact absurd k6 kk
          · rw [k6]
            have go : ∀ z0 : Int32, z0 = nI (se_t a_state q p h b) → wX_advance_183 post (nI d) (nI p) (nI b) z0 f_level f_indexed (nI P) f_highs f_tokens (nI m) f_conditionNames f_depth f_found (nI ta) f_count f_different f_cheapest f_positions f_starts f_accepts f_empty f_written f_target f_steps a_state a_old a_kept a_leaving a_coming a_ofType a_withLabels a_kind a_types a_direction a_low a_high a_variable a_labels a_token a_condition a_truth a_number a_variableOf a_atPart a_trail a_here a_bound a_named a_used a_weight (upd a_left d (nI (S &&& (S - 1)))) a_ends a_seen a_sum a_some a_letter a_follow a_firstOf a_lastOf a_nullable a_spelled a_visited a_front a_next := by
              intro z0 hz
              rw [hz]
              exact x_adv183 C F hp kk y1 y2 y3 hc e2 e4 e5 e6 e7 fun a_atPart' a_trail' a_here' a_bound' a_named' a_used' a_weight' a_left' a_ends' mu sk hm X' => push _ false _ S' (fun z => absurd z kk) (fun _ => ⟨fun z => z, sub⟩) (se_X_edge kk b1 y1 b2 b3) hmu (upd a_left d (nI (S &&& (S - 1)))) a_ends pk_us e9 (fun j hj => ⟨pk_un (by omega), rfl⟩) f_depth a_truth a_number a_variableOf a_atPart' a_trail' a_here' a_bound' a_named' a_used' a_weight' a_left' a_ends' mu sk hm X'
            refine br_f (by decide) ⟨vp, ?_⟩
            rw [d1, e3 kk]
            have DD : q 2 p = 0 ∨ q 2 p = 1 ∨ q 2 p = 2 := by omega
            have f8 := (eF_e a_state b).2
            have h8 := F.1.1.2.2.2.2
            rcases DD with D | D | D
            · rw [D]
              refine br_f (by decide) ⟨vp, br_t rfl (x_toOf y1 (go _ ?_))⟩
              have : eF a_state b = h := by
                rcases (se_ok_iff.mp y3).2.2 with ⟨_, x⟩ | ⟨x, _⟩
                · exact x
                · exact absurd D x
              unfold se_t
              rw [if_pos ⟨by rw [D]; decide, this⟩]
            · rw [D]
              refine br_t rfl (x_fromOf y1 (go _ ?_))
              unfold se_t
              rw [if_neg (fun x => x.1 D)]
            · rw [D]
              refine br_f (by decide) ⟨vp, br_f (by decide) (x_fromOf y1 ⟨vd, ?_⟩)⟩
              by_cases y : eF a_state b = h
              · refine br_t (congrArg nI y) (x_toOf y1 (go _ ?_))
                unfold se_t
                rw [if_pos ⟨by rw [D]; decide, y⟩]
              · refine br_f (fun x => y ((nI_eq (by omega) (by omega)).mp x)) (x_fromOf y1 (go _ ?_))
                unfold se_t
                rw [if_neg (fun x => y x.2)]
theorem x_search_172 {post : SX → Prop} {M : List LF} (C : XC P q c m ta a_state a_leaving a_coming a_ofType a_withLabels a_kind a_types a_direction a_low a_high a_variable a_labels a_condition) (h : ∀ (f_depth' : Int32) (a_truth' a_number' a_variableOf' : Nat → Int32) (a_atPart' a_trail' a_here' a_bound' a_named' a_used' a_weight' a_left' a_ends' : Nat → Int32) (f_count' f_different' f_cheapest' : Int32) (a_seen' a_sum' : Nat → Int64) (a_some' : Nat → Int32), se_CA a_state (M.take 1001) f_count' f_different' f_cheapest' a_seen' a_sum' a_some' → post (f_level, f_indexed, nI P, f_highs, f_tokens, nI m, f_conditionNames, f_depth', f_found, nI ta, f_count', f_different', f_cheapest', f_positions, f_starts, f_accepts, f_empty, f_written, f_target, f_steps, a_state, a_old, a_kept, a_leaving, a_coming, a_ofType, a_withLabels, a_kind, a_types, a_direction, a_low, a_high, a_variable, a_labels, a_token, a_condition, a_truth', a_number', a_variableOf', a_atPart', a_trail', a_here', a_bound', a_named', a_used', a_weight', a_left', a_ends', a_seen', a_sum', a_some', a_letter, a_follow, a_firstOf, a_lastOf, a_nullable, a_spelled, a_visited, a_front, a_next)) : ∀ n T mu R ms (f_depth' : Int32) (a_truth' a_number' a_variableOf' : Nat → Int32) (a_atPart' a_trail' a_here' a_bound' a_named' a_used' a_weight' a_left' a_ends' : Nat → Int32) (f_count' f_different' f_cheapest' : Int32) (a_seen' a_sum' : Nat → Int64) (a_some' : Nat → Int32), mu < n → T ≤ 12 → XS a_state q P c m ta a_atPart' a_trail' a_here' a_bound' a_named' a_used' a_weight' a_left' a_ends' T R mu → se_CA a_state ms f_count' f_different' f_cheapest' a_seen' a_sum' a_some' → ms ++ R = M → ms.length ≤ 1001 → wX_search_172 post n (dn T) f_level f_indexed (nI P) f_highs f_tokens (nI m) f_conditionNames f_depth' f_found (nI ta) f_count' f_different' f_cheapest' f_positions f_starts f_accepts f_empty f_written f_target f_steps a_state a_old a_kept a_leaving a_coming a_ofType a_withLabels a_kind a_types a_direction a_low a_high a_variable a_labels a_token a_condition a_truth' a_number' a_variableOf' a_atPart' a_trail' a_here' a_bound' a_named' a_used' a_weight' a_left' a_ends' a_seen' a_sum' a_some' a_letter a_follow a_firstOf a_lastOf a_nullable a_spelled a_visited a_front a_next := by
  intro n
  induction n with
  | zero => intro T mu R ms f_depth' a_truth' a_number' a_variableOf' a_atPart' a_trail' a_here' a_bound' a_named' a_used' a_weight' a_left' a_ends' f_count' f_different' f_cheapest' a_seen' a_sum' a_some' hn; omega
  | succ n ih =>
    intro T mu R ms f_depth' a_truth' a_number' a_variableOf' a_atPart' a_trail' a_here' a_bound' a_named' a_used' a_weight' a_left' a_ends' f_count' f_different' f_cheapest' a_seen' a_sum' a_some' hn hT S A hM hl
    have A1 := A.1
    subst A1
    cases T with
    | zero =>
      obtain ⟨rfl, _⟩ := S
      refine br_t (by decide) (h f_depth' a_truth' a_number' a_variableOf' a_atPart' a_trail' a_here' a_bound' a_named' a_used' a_weight' a_left' a_ends' _ _ _ _ _ _ ?_)
      rw [List.append_nil] at hM
      rw [← hM, List.take_of_length_le hl]
      exact A
    | succ d =>
      rw [dn_s]
      refine br_f (nI_pos (by omega)) ?_
      by_cases z : ms.length = 1001
      · refine br_t (nI_lt (a := 1000) (by omega) (by omega)) (h f_depth' a_truth' a_number' a_variableOf' a_atPart' a_trail' a_here' a_bound' a_named' a_used' a_weight' a_left' a_ends' _ _ _ _ _ _ ?_)
        rw [← hM, List.take_left' z]
        exact A
      · refine br_f (nI_nlt (a := 1000) (b := ms.length) (by omega) (by omega)) (x_advance (ms := ms) C (by omega) S A (by omega) ?_ ?_)
        · intro f_count1 f_different1 f_cheapest1 a_seen1 a_sum1 a_some1 R' ms' mu' y1 y2 y3 y4 y5
          refine br_t rfl (nm_r (dn_m d) ?_)
          exact ih d mu' R' ms' f_depth' a_truth' a_number' a_variableOf' a_atPart' a_trail' a_here' a_bound' a_named' a_used' a_weight' a_left' a_ends' f_count1 f_different1 f_cheapest1 a_seen1 a_sum1 a_some1 (by omega) (by omega) y2 y3 (by rw [y4]; exact hM) (by omega)
        · intro f_depth1 a_truth1 a_number1 a_variableOf1 a_atPart1 a_trail1 a_here1 a_bound1 a_named1 a_used1 a_weight1 a_left1 a_ends1 mu' y1 y2 y3
          refine br_f (by decide) (nm_r (e' := dn (d + 2)) (nI_1 d) ?_)
          exact ih (d + 2) mu' R ms f_depth1 a_truth1 a_number1 a_variableOf1 a_atPart1 a_trail1 a_here1 a_bound1 a_named1 a_used1 a_weight1 a_left1 a_ends1 (nI ms.length) f_different' f_cheapest' a_seen' a_sum' a_some' (by omega) (by omega) y3 A hM (by omega)
end
end
section
/-! the reference's search: small methods -/
def YQ (P : Nat) (q : Nat → Nat → Nat) (va wn am di lo hi : Nat → Int32) : Prop := P ≤ 6 ∧ qH q P ≤ 5 ∧ ∀ p, p < P → (va p = nI (q 5 p) ∧ q 5 p < 4 ∧ wn p = nI (q 6 p) ∧ q 6 p < 16) ∧ ((q 0 p = 0 ∧ am p = 0) ∨ (q 0 p = 1 ∧ 0 < p ∧ (am p = nI (q 1 p) ∧ 0 < q 1 p ∧ q 1 p < 8) ∧ (di p = nI (q 2 p) ∧ q 2 p < 3) ∧ (lo p = nI (q 3 p) ∧ 1 ≤ q 3 p) ∧ hi p = nI (q 4 p) ∧ q 3 p ≤ q 4 p ∧ q 4 p ≤ 3))
def NO (no : Nat → Int32) (N W : Nat) : Prop := ∀ v, v < 4 → no v = if W.testBit v = true then nI (bb_dg N v) else -1
theorem NO_t {no : Nat → Int32} {N W v : Nat} (h : NO no N W) (hv : v < 4) (hw : W.testBit v = true) : no v = nI (bb_dg N v) := by rw [h v hv, if_pos hw]
theorem NO_f {no : Nat → Int32} {N W v : Nat} (h : NO no N W) (hv : v < 4) (hw : W.testBit v = false) : no v = -1 := by rw [h v hv, hw]; rfl
theorem bb_st_same {N v n : Nat} (hN : N < 4096) (hv : v < 4) (h : bb_dg N v = n) : bb_st N v n = N := by
  unfold bb_st
  rw [h]
  have : n * 8 ^ v ≤ N := by
    rw [← h]
    unfold bb_dg
    have h' : v = 0 ∨ v = 1 ∨ v = 2 ∨ v = 3 := by omega
    rcases h' with rfl | rfl | rfl | rfl <;> simp only [Nat.reducePow] <;> omega
  omega
/-- what a frame's choice has changed -/
def UD (g : Nat → Int64) (bo tk : Int32) (N W u w N0 W0 u0 w0 : Nat) : Prop := ((bo = -1 ∧ N = N0 ∧ W = W0) ∨ ∃ v, v < 4 ∧ bo = nI v ∧ W0.testBit v = false ∧ W = W0 ||| 2 ^ v ∧ ∀ x, x < 4 → x ≠ v → bb_dg N x = bb_dg N0 x) ∧ ((tk = -1 ∧ u = u0 ∧ w = w0) ∨ ∃ e, e < 12 ∧ tk = nI e ∧ ¬ g (8 + e) = 0 ∧ u0.testBit e = false ∧ u = u0 ||| 2 ^ e ∧ w = w0 + eW g e)
section
variable {yf_level yf_parts yf_pending yf_conditions yf_spelled yf_depth yf_used yf_weight yf_found yf_lightest yf_some : Int32} {yf_sum : Int64} {ya_labels : Nat → Int32} {ya_properties : Nat → Int64} {ya_from ya_to ya_types ya_weights ya_variable ya_wanted ya_among ya_direction ya_low ya_high ya_tokens ya_condition ya_expression ya_stack ya_part ya_steps ya_place ya_choice ya_bound ya_took ya_nodeOf ya_chosen ya_far : Nat → Int32} {g : Nat → Int64}
theorem y_takeBack {post : SY → Prop} {d N W u w N0 W0 u0 w0 : Nat} (hd : d < 14) (V : VG g) (E : YE g 0 ya_from ya_to ya_types ya_weights) (U : UD g (ya_bound d) (ya_took d) N W u w N0 W0 u0 w0) (O : NO ya_nodeOf N W) (hu : u0 < 4096) (hw : w0 < 2 ^ 15) (h : ∀ no, NO no N0 W0 → post (yf_level, yf_parts, yf_pending, yf_conditions, yf_spelled, yf_depth, nI u0, nI w0, yf_found, yf_lightest, yf_some, yf_sum, ya_labels, ya_properties, ya_from, ya_to, ya_types, ya_weights, ya_variable, ya_wanted, ya_among, ya_direction, ya_low, ya_high, ya_tokens, ya_condition, ya_expression, ya_stack, ya_part, ya_steps, ya_place, ya_choice, upd ya_bound d (-1), upd ya_took d (-1), no, ya_chosen, ya_far)) : wpY_takeBack post (yf_level, yf_parts, yf_pending, yf_conditions, yf_spelled, yf_depth, nI u, nI w, yf_found, yf_lightest, yf_some, yf_sum, ya_labels, ya_properties, ya_from, ya_to, ya_types, ya_weights, ya_variable, ya_wanted, ya_among, ya_direction, ya_low, ya_high, ya_tokens, ya_condition, ya_expression, ya_stack, ya_part, ya_steps, ya_place, ya_choice, ya_bound, ya_took, ya_nodeOf, ya_chosen, ya_far) (nI d) := by
  have cd : (nI d).toNatClampNeg = d := nI_clamp (by omega)
  have vd : vp_in (nI d) 14 := vp_in_nI hd (by omega)
  obtain ⟨U1, U2⟩ := U
  have s69 : ∀ no, NO no N0 W0 → wY_takeBack_69 post (nI d) yf_level yf_parts yf_pending yf_conditions yf_spelled yf_depth (nI u0) (nI w0) yf_found yf_lightest yf_some yf_sum ya_labels ya_properties ya_from ya_to ya_types ya_weights ya_variable ya_wanted ya_among ya_direction ya_low ya_high ya_tokens ya_condition ya_expression ya_stack ya_part ya_steps ya_place ya_choice ya_bound ya_took no ya_chosen ya_far := by
    intro no hn
    exact ⟨vd, nm_r (e' := upd ya_bound d (-1)) (by rw [cd]) ⟨vd, nm_r (e' := upd ya_took d (-1)) (by rw [cd]) (h no hn)⟩⟩
  have s21 : ∀ no, NO no N0 W0 → wY_takeBack_21 post (nI d) yf_level yf_parts yf_pending yf_conditions yf_spelled yf_depth (nI u) (nI w) yf_found yf_lightest yf_some yf_sum ya_labels ya_properties ya_from ya_to ya_types ya_weights ya_variable ya_wanted ya_among ya_direction ya_low ya_high ya_tokens ya_condition ya_expression ya_stack ya_part ya_steps ya_place ya_choice ya_bound ya_took no ya_chosen ya_far := by
    intro no hn
    refine ⟨vd, ?_⟩
    rw [cd]
    rcases U2 with ⟨a, rfl, rfl⟩ | ⟨e, e1, e2, e3, e4, rfl, rfl⟩
    · rw [a]
      exact br_t (by decide) (s69 no hn)
    · rw [e2]
      have w100 := (V.2 e e1 e3).2.2.1
      have ce : (nI e).toNatClampNeg = e := nI_clamp (by omega)
      have we : ya_weights e = nI (eW g e) := by
        rcases E e e1 with ⟨z, _⟩ | ⟨_, _, _, _, z⟩
        · exact absurd z e3
        · rw [Nat.mul_zero, Nat.zero_add] at z; exact z
      refine br_f (nI_pos (by omega)) ⟨vd, nm_r (e' := nI u0) ?_ ⟨vd, vp_in_nI (by omega) (by omega), nm_r (e' := nI w0) ?_ (s69 no hn)⟩⟩
      · rw [bb_1shl (by omega), bb_andn]
        apply congrArg nI
        apply Nat.eq_of_testBit_eq
        intro i
        rw [bb_nd_t, bb_or2, Nat.testBit_two_pow]
        by_cases z : e = i
        · subst z; rw [e4, decide_eq_true rfl]; rfl
        · rw [decide_eq_false z, Bool.or_false]; cases u0.testBit i <;> rfl
      · rw [ce, we, pk_sub (by omega)]
        exact congrArg nI (by omega)
  unfold wpY_takeBack
  refine ⟨vd, ?_⟩
  rw [cd]
  rcases U1 with ⟨a, rfl, rfl⟩ | ⟨v, v1, v2, v3, rfl, v5⟩
  · rw [a]
    exact br_t (by decide) (s21 ya_nodeOf O)
  · rw [v2]
    have cv : (nI v).toNatClampNeg = v := nI_clamp (by omega)
    refine br_f (nI_pos (by omega)) ⟨vd, vp_in_nI v1 (by omega), nm_r (e' := upd ya_nodeOf v (-1)) (by rw [cv]) (s21 _ fun x hx => ?_)⟩
    by_cases z : x = v
    · subst z; rw [pk_us, v3]; rfl
    · rw [pk_un z, O x hx, bb_or2, decide_eq_false (fun y => z y.symm), Bool.or_false, v5 x hx z]
theorem y_settle {post : Int32 → SY → Prop} {P d p N W n : Nat} {q : Nat → Nat → Nat} (Q : YQ P q ya_variable ya_wanted ya_among ya_direction ya_low ya_high) (G : YN g 0 ya_labels ya_properties) (hd : d < 14) (hp : p < P) (hn : n < 8) (hN : N < 4096) (pt : ya_part d = nI p) (bo : ya_bound d = -1) (O : NO ya_nodeOf N W)
    (h0 : ¬ se_al g q p N W n = true → post 0 (yf_level, yf_parts, yf_pending, yf_conditions, yf_spelled, yf_depth, yf_used, yf_weight, yf_found, yf_lightest, yf_some, yf_sum, ya_labels, ya_properties, ya_from, ya_to, ya_types, ya_weights, ya_variable, ya_wanted, ya_among, ya_direction, ya_low, ya_high, ya_tokens, ya_condition, ya_expression, ya_stack, ya_part, ya_steps, ya_place, ya_choice, ya_bound, ya_took, ya_nodeOf, ya_chosen, ya_far))
    (h1 : se_al g q p N W n = true → ∀ b no, (∀ j, j ≠ d → b j = ya_bound j) → NO no (bb_st N (q 5 p) n) (W ||| 2 ^ q 5 p) → (∀ tk u w, tk = -1 → UD g (b d) tk (bb_st N (q 5 p) n) (W ||| 2 ^ q 5 p) u w N W u w) → post 1 (yf_level, yf_parts, yf_pending, yf_conditions, yf_spelled, yf_depth, yf_used, yf_weight, yf_found, yf_lightest, yf_some, yf_sum, ya_labels, ya_properties, ya_from, ya_to, ya_types, ya_weights, ya_variable, ya_wanted, ya_among, ya_direction, ya_low, ya_high, ya_tokens, ya_condition, ya_expression, ya_stack, ya_part, ya_steps, ya_place, ya_choice, b, ya_took, no, ya_chosen, ya_far)) : wpY_settle post (yf_level, yf_parts, yf_pending, yf_conditions, yf_spelled, yf_depth, yf_used, yf_weight, yf_found, yf_lightest, yf_some, yf_sum, ya_labels, ya_properties, ya_from, ya_to, ya_types, ya_weights, ya_variable, ya_wanted, ya_among, ya_direction, ya_low, ya_high, ya_tokens, ya_condition, ya_expression, ya_stack, ya_part, ya_steps, ya_place, ya_choice, ya_bound, ya_took, ya_nodeOf, ya_chosen, ya_far) (nI d) (nI n) := by
  obtain ⟨hP, _, Q⟩ := Q
  obtain ⟨⟨k2, k3, k4, k5⟩, _⟩ := Q p hp
  have cd : (nI d).toNatClampNeg = d := nI_clamp (by omega)
  have cp : (nI p).toNatClampNeg = p := nI_clamp (by omega)
  have cn : (nI n).toNatClampNeg = n := nI_clamp (by omega)
  have cv : (nI (q 5 p)).toNatClampNeg = q 5 p := nI_clamp (by omega)
  have vd : vp_in (nI d) 14 := vp_in_nI hd (by omega)
  have vp : vp_in (nI p) 6 := vp_in_nI (by omega) (by omega)
  have vv : vp_in (nI (q 5 p)) 4 := vp_in_nI k3 (by omega)
  have d8 := bb_dg_lt N (q 5 p)
  unfold wpY_settle
  refine ⟨vd, nm_r (e' := nI p) (by rw [cd]; exact pt) ⟨vp, nm_r (e' := nI (q 5 p)) (by rw [cp]; exact k2) (y_isNode G (fun y => ?_) (fun y => br_t rfl (h0 fun z => y ⟨n, hn, rfl, (se_al_iff.mp z).1.1⟩)))⟩⟩
  obtain ⟨n', a1, a2, g0⟩ := y
  have : n = n' := (nI_eq (by omega) (by omega)).mp a2
  subst this
  have l1 : ya_labels n = nI (nL g n) := by
    rcases G n hn with ⟨z, _⟩ | ⟨_, z, _⟩
    · exact absurd z g0
    · rw [Nat.mul_zero, Nat.zero_add] at z; exact z
  have l16 := (nL_e g n).2
  have la : nL g n &&& q 6 p ≤ q 6 p := Nat.and_le_right
  refine br_f (by decide) ⟨vp_in_nI (by omega) (by omega), vp, vp, ?_⟩
  rw [cn, cp, cv, l1, k4, nx_and]
  by_cases z : nL g n &&& q 6 p = q 6 p
  · have set : ∀ b, (∀ j, j ≠ d → b j = ya_bound j) → (∀ tk u w, tk = -1 → UD g (b d) tk (bb_st N (q 5 p) n) (W ||| 2 ^ q 5 p) u w N W u w) → se_al g q p N W n = true → post 1 (yf_level, yf_parts, yf_pending, yf_conditions, yf_spelled, yf_depth, yf_used, yf_weight, yf_found, yf_lightest, yf_some, yf_sum, ya_labels, ya_properties, ya_from, ya_to, ya_types, ya_weights, ya_variable, ya_wanted, ya_among, ya_direction, ya_low, ya_high, ya_tokens, ya_condition, ya_expression, ya_stack, ya_part, ya_steps, ya_place, ya_choice, b, ya_took, upd ya_nodeOf (q 5 p) (nI n), ya_chosen, ya_far) := by
      intro b b1 b2 al
      refine h1 al b _ b1 (fun x hx => ?_) b2
      by_cases y : x = q 5 p
      · subst y
        rw [pk_us, bb_or2, decide_eq_true rfl, Bool.or_true, if_pos rfl, bb_st_s hN k3 hn]
      · rw [pk_un y, O x hx, bb_or2, decide_eq_false (fun w => y w.symm), Bool.or_false, bb_st_n hN k3 hn hx y]
    refine br_t (congrArg nI z) ⟨vv, ?_⟩
    cases w : W.testBit (q 5 p) with
    | false =>
      have al : se_al g q p N W n = true := se_al_iff.mpr ⟨⟨g0, z⟩, fun x => by rw [w] at x; exact absurd x (by decide)⟩
      rw [NO_f O k3 w]
      refine br_t (by decide) ⟨vv, ?_⟩
      rw [cv, NO_f O k3 w]
      refine br_f (by decide) ⟨vd, nm_r (e' := upd ya_bound d (nI (q 5 p))) (by rw [cd]) ⟨vv, nm_e (set _ (fun j hj => pk_un hj) (fun tk u w' e => ⟨Or.inr ⟨q 5 p, k3, pk_us, w, rfl, fun x hx y => bb_st_n hN k3 hn hx y⟩, Or.inl ⟨e, rfl, rfl⟩⟩) al)⟩⟩
    | true =>
      rw [NO_t O k3 w]
      refine br_f (nI_pos (by omega)) ⟨vv, ?_⟩
      by_cases y : bb_dg N (q 5 p) = n
      · have al : se_al g q p N W n = true := se_al_iff.mpr ⟨⟨g0, z⟩, fun _ => y⟩
        refine br_t (congrArg nI y) ⟨vv, ?_⟩
        rw [cv, NO_t O k3 w]
        refine br_t (nI_pos' (by omega)) ⟨vv, nm_e (set ya_bound (fun j _ => rfl) (fun tk u w' e => ⟨Or.inl ⟨bo, bb_st_same hN k3 y, ?_⟩, Or.inl ⟨e, rfl, rfl⟩⟩) al)⟩
        apply Nat.eq_of_testBit_eq
        intro i
        rw [bb_or2]
        by_cases x : q 5 p = i
        · subst x; rw [w]; rfl
        · rw [decide_eq_false x, Bool.or_false]
      · exact br_f (fun x => y ((nI_eq (by omega) (by omega)).mp x)) (h0 fun x => y ((se_al_iff.mp x).2 w))
  · exact br_f (fun y => z ((nI_eq (by omega) (by omega)).mp y)) (h0 fun x => z (se_al_iff.mp x).1.2)
theorem y_enter {post : SY → Prop} {d : Nat} {x y z : Int32} (hd : d < 14) (h : post (yf_level, yf_parts, yf_pending, yf_conditions, yf_spelled, nI (d + 1), yf_used, yf_weight, yf_found, yf_lightest, yf_some, yf_sum, ya_labels, ya_properties, ya_from, ya_to, ya_types, ya_weights, ya_variable, ya_wanted, ya_among, ya_direction, ya_low, ya_high, ya_tokens, ya_condition, ya_expression, ya_stack, upd ya_part d x, upd ya_steps d y, upd ya_place d z, upd ya_choice d 0, upd ya_bound d (-1), upd ya_took d (-1), ya_nodeOf, ya_chosen, ya_far)) : wpY_enter post (yf_level, yf_parts, yf_pending, yf_conditions, yf_spelled, nI d, yf_used, yf_weight, yf_found, yf_lightest, yf_some, yf_sum, ya_labels, ya_properties, ya_from, ya_to, ya_types, ya_weights, ya_variable, ya_wanted, ya_among, ya_direction, ya_low, ya_high, ya_tokens, ya_condition, ya_expression, ya_stack, ya_part, ya_steps, ya_place, ya_choice, ya_bound, ya_took, ya_nodeOf, ya_chosen, ya_far) x y z := by
  have cd : (nI d).toNatClampNeg = d := nI_clamp (by omega)
  have vd : vp_in (nI d) 14 := vp_in_nI hd (by omega)
  unfold wpY_enter
  exact ⟨vd, nm_r (e' := upd ya_part d x) (by rw [cd]) ⟨vd, nm_r (e' := upd ya_steps d y) (by rw [cd]) ⟨vd, nm_r (e' := upd ya_place d z) (by rw [cd]) ⟨vd, nm_r (e' := upd ya_choice d 0) (by rw [cd]) ⟨vd, nm_r (e' := upd ya_bound d (-1)) (by rw [cd]) (nm_r (nI_1 d) ⟨vd, nm_r (e' := upd ya_took d (-1)) (by rw [cd]) h⟩)⟩⟩⟩⟩⟩
end
end
section
/-! the reference's search: an edge, a match -/
section
variable {yf_level yf_parts yf_pending yf_conditions yf_spelled yf_depth yf_used yf_weight yf_found yf_lightest yf_some : Int32} {yf_sum : Int64} {ya_labels : Nat → Int32} {ya_properties : Nat → Int64} {ya_from ya_to ya_types ya_weights ya_variable ya_wanted ya_among ya_direction ya_low ya_high ya_tokens ya_condition ya_expression ya_stack ya_part ya_steps ya_place ya_choice ya_bound ya_took ya_nodeOf ya_chosen ya_far : Nat → Int32} {g : Nat → Int64}
theorem y_edge_at {e : Nat} (E : YE g 0 ya_from ya_to ya_types ya_weights) (he : e < 12) (hz : ¬ g (8 + e) = 0) : ya_to e = nI (eT g e) ∧ ya_from e = nI (eF g e) ∧ ya_types e = nI (eY g e) ∧ ya_weights e = nI (eW g e) := by
  rcases E e he with ⟨z, _⟩ | ⟨_, a, b, c, d⟩
  · exact absurd z hz
  · rw [Nat.mul_zero, Nat.zero_add] at a b c d
    exact ⟨a, b, c, d⟩
theorem y_along {post : Int32 → Prop} {P d p t h u e b : Nat} {q : Nat → Nat → Nat} (Q : YQ P q ya_variable ya_wanted ya_among ya_direction ya_low ya_high) (V : VG g) (E : YE g 0 ya_from ya_to ya_types ya_weights) (hd : d < 14) (hp : p < P) (hk : q 0 p ≠ 0) (ht : t ≤ q 4 p) (h8 : h < 8) (hu : u < 4096) (he : e < 12) (hb : b < 2) (pt : ya_part d = nI p) (st : ya_steps d = nI t) (pl : ya_place d = nI h)
    (h1 : t < q 4 p → se_ok g q p h u e = true → ((q 2 p ≠ 1 ∧ eF g e = h) ↔ b = 0) → post (nI (se_t g q p h e)))
    (h0 : ¬ (t < q 4 p ∧ se_ok g q p h u e = true ∧ ((q 2 p ≠ 1 ∧ eF g e = h) ↔ b = 0)) → post (-1)) : wpY_along post (yf_level, yf_parts, yf_pending, yf_conditions, yf_spelled, yf_depth, nI u, yf_weight, yf_found, yf_lightest, yf_some, yf_sum, ya_labels, ya_properties, ya_from, ya_to, ya_types, ya_weights, ya_variable, ya_wanted, ya_among, ya_direction, ya_low, ya_high, ya_tokens, ya_condition, ya_expression, ya_stack, ya_part, ya_steps, ya_place, ya_choice, ya_bound, ya_took, ya_nodeOf, ya_chosen, ya_far) (nI d) (nI (2 * e + b)) := by
  obtain ⟨hP, _, Q⟩ := Q
  obtain ⟨_, k6⟩ := Q p hp
  rcases k6 with ⟨k6, _⟩ | ⟨k6, _, ⟨a1, a2, a3⟩, ⟨d1, d2⟩, _, g1, g2, g3⟩
  · exact absurd k6 hk
  have cd : (nI d).toNatClampNeg = d := nI_clamp (by omega)
  have cp : (nI p).toNatClampNeg = p := nI_clamp (by omega)
  have ce : (nI e).toNatClampNeg = e := nI_clamp (by omega)
  have vd : vp_in (nI d) 14 := vp_in_nI hd (by omega)
  have vp : vp_in (nI p) 6 := vp_in_nI (by omega) (by omega)
  have ve : vp_in (nI e) 60 := vp_in_nI (by omega) (by omega)
  have f8 := (eF_e g e).2
  have t8 := (eT_e g e).2
  have q1 : nI (2 * e + b) / 2 = nI e := by
    have := pk_div (a := 2 * e + b) (d := 2) (by omega) (by omega) (by omega)
    rw [show (2 * e + b) / 2 = e by omega] at this
    exact this
  have q2 : nI (2 * e + b) - nI (2 * e + b) / 2 * 2 = nI b := by
    have := pk_rem (a := 2 * e + b) (d := 2) (by omega) (by omega) (by omega)
    rw [show (2 * e + b) % 2 = b by omega] at this
    exact this
  have s136 : ¬ g (8 + e) = 0 → ∀ x5 : Int32, (x5 = 0 ↔ b = 0) → (eF g e = h → b = 0 → post (nI (eT g e))) → (eT g e = h → ¬ b = 0 → post (nI (eF g e))) → (¬ (if b = 0 then eF g e else eT g e) = h → post (-1)) → wY_along_136 post (nI d) (nI e) x5 yf_level yf_parts yf_pending yf_conditions yf_spelled yf_depth (nI u) yf_weight yf_found yf_lightest yf_some yf_sum ya_labels ya_properties ya_from ya_to ya_types ya_weights ya_variable ya_wanted ya_among ya_direction ya_low ya_high ya_tokens ya_condition ya_expression ya_stack ya_part ya_steps ya_place ya_choice ya_bound ya_took ya_nodeOf ya_chosen ya_far := by
    intro hz x5 h5 c1 c2 c3
    obtain ⟨y1, y2, y3, y4⟩ := y_edge_at E he hz
    by_cases z : b = 0
    · refine br_t (h5.mpr z) ⟨ve, ?_⟩
      rw [ce, y2]
      refine ⟨vd, ?_⟩
      rw [cd, pl]
      by_cases w : eF g e = h
      · refine br_t (congrArg nI w) (br_t (h5.mpr z) ⟨ve, ?_⟩)
        rw [ce, y1]
        exact c1 w z
      · exact br_f (fun x => w ((nI_eq (by omega) (by omega)).mp x)) (c3 (by rw [if_pos z]; exact w))
    · refine br_f (fun x => z (h5.mp x)) ⟨ve, ?_⟩
      rw [ce, y1]
      refine ⟨vd, ?_⟩
      rw [cd, pl]
      by_cases w : eT g e = h
      · refine br_t (congrArg nI w) (br_f (fun x => z (h5.mp x)) ⟨ve, ?_⟩)
        rw [ce, y2]
        exact c2 w z
      · exact br_f (fun x => w ((nI_eq (by omega) (by omega)).mp x)) (c3 (by rw [if_neg z]; exact w))
  have s24 : ∀ z0 : Int32, (z0 = 0 ↔ b = 0) → wY_along_24 post (nI d) (nI p) (nI e) z0 yf_level yf_parts yf_pending yf_conditions yf_spelled yf_depth (nI u) yf_weight yf_found yf_lightest yf_some yf_sum ya_labels ya_properties ya_from ya_to ya_types ya_weights ya_variable ya_wanted ya_among ya_direction ya_low ya_high ya_tokens ya_condition ya_expression ya_stack ya_part ya_steps ya_place ya_choice ya_bound ya_took ya_nodeOf ya_chosen ya_far := by
    intro z0 h5
    refine y_isEdge E (fun y => br_f (by decide) ?_) (fun y => br_t rfl (h0 fun z => y ⟨e, he, rfl, (se_ok_iff.mp z.2.1).1.1⟩))
    obtain ⟨e', e1, e2, hz⟩ := y
    have : e = e' := (nI_eq (by omega) (by omega)).mp e2
    subst this
    obtain ⟨y1, y2, y3, y4⟩ := y_edge_at E he hz
    have y8 := (V.2 e he hz).2.1
    cases uz : u.testBit e with
    | true => exact br_f ((bb_bitT (by omega) (by omega)).mpr uz) (h0 fun z => by rw [(se_ok_iff.mp z.2.1).1.2] at uz; exact absurd uz (by decide))
    | false =>
      refine br_t ((bb_bit (by omega) (by omega)).mpr uz) ⟨vp, ve, ?_⟩
      rw [cp, ce, cd, a1, y3, st, g1, d1]
      cases tz : (q 1 p).testBit (eY g e) with
      | false => exact br_t ((bb_bit (by omega) (by omega)).mpr tz) (h0 fun z => by rw [(se_ok_iff.mp z.2.1).2.1] at tz; exact absurd tz (by decide))
      | true =>
        refine br_f ((bb_bitT (by omega) (by omega)).mpr tz) ⟨vd, vp, ?_⟩
        by_cases th : t = q 4 p
        · exact br_t (congrArg nI th) (h0 fun z => absurd z.1 (by omega))
        · refine br_f (fun x => th ((nI_eq (by omega) (by omega)).mp x)) ⟨vp, ?_⟩
          have tl : t < q 4 p := by omega
          have ok : ∀ s : (q 2 p ≠ 1 ∧ eF g e = h) ∨ (q 2 p ≠ 0 ∧ eT g e = h), se_ok g q p h u e = true := fun s => se_ok_iff.mpr ⟨⟨hz, uz⟩, tz, s⟩
          by_cases b0 : b = 0
          · refine br_t (h5.mpr b0) ?_
            by_cases D : q 2 p = 1
            · rw [D]
              exact br_t rfl (h0 fun z => absurd ((z.2.2).mpr b0).1 (fun x => x D))
            · refine br_f (fun x => D ((nI_eq (b := 1) (by omega) (by omega)).mp x)) ⟨vp, ?_⟩
              have go : wY_along_136 post (nI d) (nI e) z0 yf_level yf_parts yf_pending yf_conditions yf_spelled yf_depth (nI u) yf_weight yf_found yf_lightest yf_some yf_sum ya_labels ya_properties ya_from ya_to ya_types ya_weights ya_variable ya_wanted ya_among ya_direction ya_low ya_high ya_tokens ya_condition ya_expression ya_stack ya_part ya_steps ya_place ya_choice ya_bound ya_took ya_nodeOf ya_chosen ya_far := by
                refine s136 hz z0 h5 (fun w _ => ?_) (fun _ w => absurd b0 w) (fun w => ?_)
                · have r := h1 tl (ok (Or.inl ⟨D, w⟩)) ⟨fun _ => b0, fun _ => ⟨D, w⟩⟩
                  unfold se_t at r
                  rw [if_pos ⟨D, w⟩] at r
                  exact r
                · rw [if_pos b0] at w
                  exact h0 fun z => w ((z.2.2).mpr b0).2
              rw [cp, d1]
              by_cases D2 : q 2 p = 2
              · rw [D2]
                exact br_t rfl (br_t (h5.mpr b0) go)
              · exact br_f (fun x => D2 ((nI_eq (b := 2) (by omega) (by omega)).mp x)) go
          · refine br_f (fun x => b0 (h5.mp x)) ?_
            by_cases D : q 2 p = 0
            · rw [D]
              refine br_t rfl (h0 fun z => ?_)
              rcases (se_ok_iff.mp z.2.1).2.2 with x | x
              · exact b0 ((z.2.2).mp x)
              · exact x.1 D
            · refine br_f (fun x => D ((nI_eq (b := 0) (by omega) (by omega)).mp x)) ⟨vp, ?_⟩
              have go : ¬ (q 2 p = 2 ∧ eF g e = eT g e) → wY_along_136 post (nI d) (nI e) z0 yf_level yf_parts yf_pending yf_conditions yf_spelled yf_depth (nI u) yf_weight yf_found yf_lightest yf_some yf_sum ya_labels ya_properties ya_from ya_to ya_types ya_weights ya_variable ya_wanted ya_among ya_direction ya_low ya_high ya_tokens ya_condition ya_expression ya_stack ya_part ya_steps ya_place ya_choice ya_bound ya_took ya_nodeOf ya_chosen ya_far := by
                intro no
                refine s136 hz z0 h5 (fun _ w => absurd w b0) (fun w _ => ?_) (fun w => ?_)
                · have n1 : ¬ (q 2 p ≠ 1 ∧ eF g e = h) := fun x => no ⟨by have := x.1; omega, by rw [x.2, w]⟩
                  have r := h1 tl (ok (Or.inr ⟨D, w⟩)) ⟨fun x => absurd x n1, fun x => absurd x b0⟩
                  unfold se_t at r
                  rw [if_neg n1] at r
                  exact r
                · rw [if_neg b0] at w
                  refine h0 fun z => ?_
                  rcases (se_ok_iff.mp z.2.1).2.2 with x | x
                  · exact b0 ((z.2.2).mp x)
                  · exact w x.2
              rw [cp, d1]
              by_cases D2 : q 2 p = 2
              · rw [D2]
                refine br_t rfl (br_f (fun x => b0 (h5.mp x)) ⟨ve, ve, ?_⟩)
                rw [ce, y1, y2]
                by_cases ft : eF g e = eT g e
                · refine br_t (congrArg nI ft) (h0 fun z => ?_)
                  rcases (se_ok_iff.mp z.2.1).2.2 with x | x
                  · exact b0 ((z.2.2).mp x)
                  · exact b0 ((z.2.2).mp ⟨by omega, by rw [ft]; exact x.2⟩)
                · exact br_f (fun x => ft ((nI_eq (by omega) (by omega)).mp x)) (go fun x => ft x.2)
              · exact br_f (fun x => D2 ((nI_eq (b := 2) (by omega) (by omega)).mp x)) (go fun x => D2 x.1)
  unfold wpY_along
  refine ⟨vd, nm_r (e' := nI p) (by rw [cd]; exact pt) ⟨by decide, nm_r (e' := nI e) q1 ⟨by decide, ?_⟩⟩⟩
  rw [q2]
  by_cases z : b = 0
  · subst z
    exact br_f (by decide) (s24 0 ⟨fun _ => rfl, fun _ => rfl⟩)
  · have : b = 1 := by omega
    subst this
    exact br_t rfl (s24 1 ⟨fun x => absurd x (by decide), fun x => absurd x (by decide)⟩)
theorem y_goOn_123 {post : SY → Prop} {v N W w : Nat} {ms : List LF} (hv : v < 4) (G : YN g 0 ya_labels ya_properties) (O : NO ya_nodeOf N W) (hb : ∀ x, x < 4 → W.testBit x = true → ¬ g (bb_dg N x) = 0) (hs : yf_sum = se_sm g v ms) (ho : yf_some = if se_so g v ms = true then 1 else 0) (h : ∀ so sm, so = (if se_so g v (ms ++ [(N, W, w)]) = true then 1 else 0) → sm = se_sm g v (ms ++ [(N, W, w)]) → post (yf_level, yf_parts, yf_pending, yf_conditions, yf_spelled, yf_depth, yf_used, yf_weight, yf_found, yf_lightest, so, sm, ya_labels, ya_properties, ya_from, ya_to, ya_types, ya_weights, ya_variable, ya_wanted, ya_among, ya_direction, ya_low, ya_high, ya_tokens, ya_condition, ya_expression, ya_stack, ya_part, ya_steps, ya_place, ya_choice, ya_bound, ya_took, ya_nodeOf, ya_chosen, ya_far)) : wY_goOn_123 post (nI v) yf_level yf_parts yf_pending yf_conditions yf_spelled yf_depth yf_used yf_weight yf_found yf_lightest yf_some yf_sum ya_labels ya_properties ya_from ya_to ya_types ya_weights ya_variable ya_wanted ya_among ya_direction ya_low ya_high ya_tokens ya_condition ya_expression ya_stack ya_part ya_steps ya_place ya_choice ya_bound ya_took ya_nodeOf ya_chosen ya_far := by
  have cv : (nI v).toNatClampNeg = v := nI_clamp (by omega)
  have vv : vp_in (nI v) 4 := vp_in_nI hv (by omega)
  have d8 := bb_dg_lt N v
  have keep : se_hs g v (N, W, w) = false → post (yf_level, yf_parts, yf_pending, yf_conditions, yf_spelled, yf_depth, yf_used, yf_weight, yf_found, yf_lightest, yf_some, yf_sum, ya_labels, ya_properties, ya_from, ya_to, ya_types, ya_weights, ya_variable, ya_wanted, ya_among, ya_direction, ya_low, ya_high, ya_tokens, ya_condition, ya_expression, ya_stack, ya_part, ya_steps, ya_place, ya_choice, ya_bound, ya_took, ya_nodeOf, ya_chosen, ya_far) := by
    intro z
    refine h _ _ ?_ ?_
    · rw [se_so_app, z, Bool.or_false]; exact ho
    · rw [se_sm_app, z]; exact hs
  refine ⟨vv, ?_⟩
  rw [cv]
  cases w' : W.testBit v with
  | false =>
    rw [NO_f O hv w']
    refine br_t (by decide) (keep ?_)
    show (W.testBit v && _) = false
    rw [w', Bool.false_and]
  | true =>
    have cd : (nI (bb_dg N v)).toNatClampNeg = bb_dg N v := nI_clamp (by omega)
    rw [NO_t O hv w', cd]
    have vd : vp_in (nI (bb_dg N v)) 40 := vp_in_nI (by omega) (by omega)
    refine br_f (nI_pos (by omega)) ⟨vv, vd, ?_⟩
    have pr : ya_properties (bb_dg N v) = if nH g (bb_dg N v) = true then gr_pr (g (bb_dg N v)) else 9000000000000000000 := by
      rcases G _ d8 with ⟨z, _⟩ | ⟨_, _, z⟩
      · exact absurd z (hb v hv w')
      · rw [Nat.mul_zero, Nat.zero_add] at z; exact z
    cases y : nH g (bb_dg N v) with
    | false =>
      rw [pr, y]
      refine br_t rfl (keep ?_)
      show (W.testBit v && nH g (bb_dg N v)) = false
      rw [y, Bool.and_false]
    | true =>
      have hs' : se_hs g v (N, W, w) = true := by
        show (W.testBit v && nH g (bb_dg N v)) = true
        rw [y, w']
        rfl
      rw [pr, y, if_pos rfl]
      refine br_f (gr_prN _) ⟨vv, vd, nm_e (h _ _ ?_ ?_)⟩
      · rw [se_so_app, hs', Bool.or_true]; rfl
      · rw [se_sm_app, hs', if_pos rfl, hs]
theorem y_goOn_55 {post : SY → Prop} {v N W w : Nat} {ms : List LF} (hv : v < 4) (G : YN g 0 ya_labels ya_properties) (O : NO ya_nodeOf N W) (hN : N < 4096) (hw : w < 2 ^ 15) (hb : ∀ x, x < 4 → W.testBit x = true → ¬ g (bb_dg N x) = 0) (hz : ∀ x, x < 4 → W.testBit x = false → bb_dg N x = 0) (hl : ms.length < 5000) (A : se_CB g v ms yf_found yf_lightest yf_some yf_sum ya_chosen) (h : ∀ fo li so sm ch, se_CB g v (ms ++ [(N, W, w)]) fo li so sm ch → post (yf_level, yf_parts, yf_pending, yf_conditions, yf_spelled, yf_depth, yf_used, nI w, fo, li, so, sm, ya_labels, ya_properties, ya_from, ya_to, ya_types, ya_weights, ya_variable, ya_wanted, ya_among, ya_direction, ya_low, ya_high, ya_tokens, ya_condition, ya_expression, ya_stack, ya_part, ya_steps, ya_place, ya_choice, ya_bound, ya_took, ya_nodeOf, ch, ya_far)) : ∃ n, wY_goOn_55 post (nI v) yf_level yf_parts yf_pending yf_conditions yf_spelled yf_depth yf_used (nI w) (nI (ms.length + 1)) yf_lightest yf_some yf_sum ya_labels ya_properties ya_from ya_to ya_types ya_weights ya_variable ya_wanted ya_among ya_direction ya_low ya_high ya_tokens ya_condition ya_expression ya_stack ya_part ya_steps ya_place ya_choice ya_bound ya_took ya_nodeOf ya_chosen ya_far n 0 0 := by
  obtain ⟨A1, A2, A3, A4, A5⟩ := A
  have d0 := bb_dg_lt N 0
  have d1 := bb_dg_lt N 1
  have d2 := bb_dg_lt N 2
  have d3 := bb_dg_lt N 3
  have step : ∀ n x acc, x < 4 → acc < 512 → wY_goOn_55 post (nI v) yf_level yf_parts yf_pending yf_conditions yf_spelled yf_depth yf_used (nI w) (nI (ms.length + 1)) yf_lightest yf_some yf_sum ya_labels ya_properties ya_from ya_to ya_types ya_weights ya_variable ya_wanted ya_among ya_direction ya_low ya_high ya_tokens ya_condition ya_expression ya_stack ya_part ya_steps ya_place ya_choice ya_bound ya_took ya_nodeOf ya_chosen ya_far n (nI (acc * 8 + bb_dg N x)) (nI (x + 1)) → wY_goOn_55 post (nI v) yf_level yf_parts yf_pending yf_conditions yf_spelled yf_depth yf_used (nI w) (nI (ms.length + 1)) yf_lightest yf_some yf_sum ya_labels ya_properties ya_from ya_to ya_types ya_weights ya_variable ya_wanted ya_among ya_direction ya_low ya_high ya_tokens ya_condition ya_expression ya_stack ya_part ya_steps ya_place ya_choice ya_bound ya_took ya_nodeOf ya_chosen ya_far (n + 1) (nI acc) (nI x) := by
    intro n x acc hx ha H
    have vx : vp_in (nI x) 4 := vp_in_nI hx (by omega)
    have cx : (nI x).toNatClampNeg = x := nI_clamp (by omega)
    have m8 : nI acc * 8 = nI (acc * 8) := pk_mul acc 8
    have dx := bb_dg_lt N x
    refine br_f (nI_ge (b := 4) hx (by omega)) ⟨vx, ?_⟩
    rw [cx]
    cases z : W.testBit x with
    | true =>
      rw [NO_t O hx z]
      exact br_t (nI_pos' (by omega)) ⟨vx, nm_r (e' := nI (acc * 8 + bb_dg N x)) (by rw [m8, nI_add]) (nm_r (nI_1 x) H)⟩
    | false =>
      rw [hz x hx z] at H
      rw [NO_f O hx z]
      refine br_f (by decide) (nm_r (e' := nI (acc * 8 + 0)) ?_ (nm_r (nI_1 x) H))
      rw [m8]
      exact nI_add (acc * 8) 0
  refine ⟨5, step 4 0 0 (by omega) (by omega) (step 3 1 _ (by omega) (by omega) (step 2 2 _ (by omega) (by omega) (step 1 3 _ (by omega) (by omega) ?_)))⟩
  have ek : (((0 * 8 + bb_dg N 0) * 8 + bb_dg N 1) * 8 + bb_dg N 2) * 8 + bb_dg N 3 = bb_key N := by
    unfold bb_key
    omega
  rw [ek]
  have k12 := bb_key_lt N
  have ch' : ∀ k, k < 4096 → upd ya_chosen (bb_key N) 1 k = if se_in (ms ++ [(N, W, w)]) k = true then 1 else 0 := by
    intro k hk
    rw [se_in_app]
    by_cases e : k = bb_key N
    · subst e; rw [pk_us, decide_eq_true rfl, Bool.or_true]; rfl
    · rw [pk_un e, A5 k hk, decide_eq_false (fun z => e z.symm), Bool.or_false]
  have fin : ∀ li : Int32, (∃ m, li = nI m ∧ se_mn (ms ++ [(N, W, w)]) m) → wY_goOn_123 post (nI v) yf_level yf_parts yf_pending yf_conditions yf_spelled yf_depth yf_used (nI w) (nI (ms.length + 1)) li yf_some yf_sum ya_labels ya_properties ya_from ya_to ya_types ya_weights ya_variable ya_wanted ya_among ya_direction ya_low ya_high ya_tokens ya_condition ya_expression ya_stack ya_part ya_steps ya_place ya_choice ya_bound ya_took ya_nodeOf (upd ya_chosen (bb_key N) 1) ya_far := by
    intro li hm
    refine y_goOn_123 (ms := ms) (w := w) hv G O hb A4 A3 fun so sm s1 s2 => h _ _ _ _ _ ⟨?_, Or.inr hm, s1, s2, ch'⟩
    rw [List.length_append]
    rfl
  refine br_t (nI_le (b := 4) (Nat.le_refl _) (by omega)) ⟨vp_in_nI k12 (by omega), nm_r (e' := upd ya_chosen (bb_key N) 1) (by rw [nI_clamp (by omega), bb_b1]) ?_⟩
  rcases A2 with ⟨e, a⟩ | ⟨mn, a, b⟩
  · rw [a]
    refine br_f (nI_ge (b := 1000000) (by omega) (by omega)) (fin _ ⟨w, rfl, ?_⟩)
    rw [e]
    exact se_mn_1 (x := (N, W, w)) hw
  · rw [a]
    have mb := b.1
    by_cases z : mn ≤ w
    · exact br_t (nI_le z (by omega)) (fin _ ⟨mn, rfl, se_mn_ge b z⟩)
    · exact br_f (nI_ge (by omega) (by omega)) (fin _ ⟨w, rfl, se_mn_lt (x := (N, W, w)) b (show w < mn by omega)⟩)
end
end
section
/-! the reference's search: the loop -/
def YC (P : Nat) (q : Nat → Nat → Nat) (c : Nat → Nat) (m : Nat) (g : Nat → Int64) (lb : Nat → Int32) (pr : Nat → Int64) (fr to ty wt va wn am di lo hi cn : Nat → Int32) : Prop := YQ P q va wn am di lo hi ∧ VG g ∧ YN g 0 lb pr ∧ YE g 0 fr to ty wt ∧ CO cn c m ∧ (∀ k, k < m → c k < 4 → ∃ p, p < P ∧ q 5 p = c k)
def YS (g : Nat → Int64) (q : Nat → Nat → Nat) (P : Nat) (pt st pl ch bo tk : Nat → Int32) : Nat → Nat → Nat → Nat → Nat → List LF → Nat → Prop
  | 0 => fun _ _ _ _ R mu => R = [] ∧ mu = 0
  | i + 1 => fun N W u w R mu => ∃ p t h N0 W0 u0 w0 k R0 m0, (p < P ∧ pt i = nI p ∧ st i = nI t ∧ (q 0 p ≠ 0 → pl i = nI h) ∧ ch i = nI k ∧ k ≤ if q 0 p = 0 then 8 else 25) ∧ FV g q P i p t h N0 W0 u0 w0 ∧ UD g (bo i) (tk i) N W u w N0 W0 u0 w0 ∧ YS g q P pt st pl ch bo tk i N0 W0 u0 w0 R0 m0 ∧ R = se_Y g q P (10 - i) p t h N0 W0 u0 w0 k ++ R0 ∧ mu = (26 - k) * 30 ^ (11 - i) + m0
theorem YS_c {g : Nat → Int64} {q : Nat → Nat → Nat} {P : Nat} {pt st pl ch bo tk pt' st' pl' ch' bo' tk' : Nat → Int32} : ∀ {T N W u w : Nat} {R : List LF} {mu : Nat}, (∀ j, j < T → (pt' j = pt j ∧ st' j = st j ∧ pl' j = pl j) ∧ ch' j = ch j ∧ bo' j = bo j ∧ tk' j = tk j) → YS g q P pt st pl ch bo tk T N W u w R mu → YS g q P pt' st' pl' ch' bo' tk' T N W u w R mu
  | 0, N, W, u, w, R, mu, _, h => h
  | T + 1, N, W, u, w, R, mu, e, h => by
    obtain ⟨p, t, hh, N0, W0, u0, w0, k, R0, m0, h1, h2, h3, h4, h5⟩ := h
    obtain ⟨⟨a1, a2, a3⟩, a4, a5, a6⟩ := e T (by omega)
    refine ⟨p, t, hh, N0, W0, u0, w0, k, R0, m0, ?_, h2, ?_, YS_c (fun j hj => e j (by omega)) h4, h5⟩
    · rw [a1, a2, a3, a4]; exact h1
    · rw [a5, a6]; exact h3
theorem se_f_app (g : Nat → Int64) (c : Nat → Nat) (m : Nat) (a b : List LF) : se_f g c m (a ++ b) = se_f g c m a ++ se_f g c m b := List.filter_append _ _
theorem se_f_1 (g : Nat → Int64) (c : Nat → Nat) (m : Nat) (x : LF) : se_f g c m [x] = if ev_c g c m x.1 = true then [x] else [] := by
  unfold se_f
  by_cases z : ev_c g c m x.1 = true
  · rw [if_pos z]; exact List.filter_cons_of_pos (p := fun x : LF => ev_c g c m x.1) z
  · rw [if_neg z]; exact List.filter_cons_of_neg (p := fun x : LF => ev_c g c m x.1) z
theorem UD_0 {g : Nat → Int64} {bo tk : Int32} {N W u w : Nat} (h1 : bo = -1) (h2 : tk = -1) : UD g bo tk N W u w N W u w := ⟨Or.inl ⟨h1, rfl, rfl⟩, Or.inl ⟨h2, rfl, rfl⟩⟩
section
variable {yf_level yf_parts yf_pending yf_conditions yf_spelled yf_depth yf_used yf_weight yf_found yf_lightest yf_some : Int32} {yf_sum : Int64} {ya_labels : Nat → Int32} {ya_properties : Nat → Int64} {ya_from ya_to ya_types ya_weights ya_variable ya_wanted ya_among ya_direction ya_low ya_high ya_tokens ya_condition ya_expression ya_stack ya_part ya_steps ya_place ya_choice ya_bound ya_took ya_nodeOf ya_chosen ya_far : Nat → Int32} {g : Nat → Int64} {P : Nat} {q : Nat → Nat → Nat} {c : Nat → Nat} {m : Nat}
theorem y_search_92 {post : SY → Prop} {v : Nat} {M : List LF} (C : YC P q c m g ya_labels ya_properties ya_from ya_to ya_types ya_weights ya_variable ya_wanted ya_among ya_direction ya_low ya_high ya_condition) (hv : v < 4) (h : ∀ (ya_part' ya_steps' ya_place' ya_choice' ya_bound' ya_took' : Nat → Int32) (yf_found' yf_lightest' yf_some' : Int32) (yf_sum' : Int64) (ya_chosen' : Nat → Int32) (yf_depth' yf_used' yf_weight' : Int32) (ya_stack' ya_nodeOf' : Nat → Int32), se_CB g v (M.take 1001) yf_found' yf_lightest' yf_some' yf_sum' ya_chosen' → post (yf_level, nI P, yf_pending, nI m, yf_spelled, yf_depth', yf_used', yf_weight', yf_found', yf_lightest', yf_some', yf_sum', ya_labels, ya_properties, ya_from, ya_to, ya_types, ya_weights, ya_variable, ya_wanted, ya_among, ya_direction, ya_low, ya_high, ya_tokens, ya_condition, ya_expression, ya_stack', ya_part', ya_steps', ya_place', ya_choice', ya_bound', ya_took', ya_nodeOf', ya_chosen', ya_far)) : ∀ n T N W u w mu R ms (ya_part ya_steps ya_place ya_choice ya_bound ya_took : Nat → Int32) (yf_found yf_lightest yf_some : Int32) (yf_sum : Int64) (ya_chosen : Nat → Int32) ya_stack ya_nodeOf, mu < n → T ≤ 11 → YS g q P ya_part ya_steps ya_place ya_choice ya_bound ya_took T N W u w R mu → NO ya_nodeOf N W → se_CB g v ms yf_found yf_lightest yf_some yf_sum ya_chosen → ms ++ se_f g c m R = M → ms.length ≤ 1001 → wY_search_92 post (nI v) n yf_level (nI P) yf_pending (nI m) yf_spelled (nI T) (nI u) (nI w) yf_found yf_lightest yf_some yf_sum ya_labels ya_properties ya_from ya_to ya_types ya_weights ya_variable ya_wanted ya_among ya_direction ya_low ya_high ya_tokens ya_condition ya_expression ya_stack ya_part ya_steps ya_place ya_choice ya_bound ya_took ya_nodeOf ya_chosen ya_far := by
  obtain ⟨Q, V, G, E, CO', hcn⟩ := C
  have hP := Q.1
  have hH := Q.2.1
  intro n
  induction n with
  | zero => intro T N W u w mu R ms ya_part ya_steps ya_place ya_choice ya_bound ya_took yf_found yf_lightest yf_some yf_sum ya_chosen ya_stack ya_nodeOf hn; omega
  | succ n ih =>
    intro T N W u w mu R ms ya_part ya_steps ya_place ya_choice ya_bound ya_took yf_found yf_lightest yf_some yf_sum ya_chosen ya_stack ya_nodeOf hn hT S O A hM hl
    have A1 := A.1
    subst A1
    cases T with
    | zero =>
      obtain ⟨rfl, _⟩ := S
      refine br_t (by decide) (h ya_part ya_steps ya_place ya_choice ya_bound ya_took _ _ _ _ _ _ _ _ _ _ ?_)
      have : ms = M := by rw [← hM]; exact (List.append_nil ms).symm
      rw [← this, List.take_of_length_le hl]
      exact A
    | succ d =>
      refine br_f (nI_nle (by omega) (by omega)) ?_
      by_cases z : ms.length = 1001
      · refine br_t (nI_lt (a := 1000) (by omega) (by omega)) (h ya_part ya_steps ya_place ya_choice ya_bound ya_took _ _ _ _ _ _ _ _ _ _ ?_)
        rw [← hM, List.take_left' z]
        exact A
      refine br_f (nI_nlt (a := 1000) (b := ms.length) (by omega) (by omega)) (nm_r (nI_pred d) ?_)
      obtain ⟨p, t, hh, N0, W0, u0, w0, k, R0, m0, ⟨hp, e1, e2, e3, e4, hk⟩, F, U, S0, rfl, rfl⟩ := S
      have FF := F
      obtain ⟨⟨⟨f1, f2, f3, f4, f5⟩, fb, fz⟩, fn, fh, ft, _⟩ := FF
      have d10 := FV_d hP hH F hp
      have cd : (nI d).toNatClampNeg = d := nI_clamp (by omega)
      have vd : vp_in (nI d) 14 := vp_in_nI (by omega) (by omega)
      have cp : (nI p).toNatClampNeg = p := nI_clamp (by omega)
      have vp : vp_in (nI p) 6 := vp_in_nI (by omega) (by omega)
      obtain ⟨⟨k2, k3, k4, k5⟩, k6⟩ := Q.2.2 p hp
      have pw : 0 < 30 ^ (11 - d) := Nat.pow_pos (by decide)
      refine y_takeBack (by omega) V E U O f3 (by omega) fun no hno => ⟨vd, vd, nm_r (e' := upd ya_choice d (nI (k + 1))) (by rw [cd, e4, nI_1]) (nm_r (e' := nI k) (by rw [cd]; exact e4) ⟨vd, ?_⟩)⟩
      rw [cd, e1]
      refine ⟨vp, ?_⟩
      rw [cp]
      clear O U
      -- the frames below are the same
      have below : ∀ {pt st pl ch bo tk : Nat → Int32}, (∀ j, j < d → (pt j = ya_part j ∧ st j = ya_steps j ∧ pl j = ya_place j) ∧ ch j = ya_choice j ∧ bo j = ya_bound j ∧ tk j = ya_took j) → YS g q P pt st pl ch bo tk d N0 W0 u0 w0 R0 m0 := fun e => YS_c e S0
      -- this frame, one choice further
      have frame : k < (if q 0 p = 0 then 8 else 25) → ∀ {pt st pl ch bo tk : Nat → Int32} {N' W' u' w' : Nat}, (∀ j, j < d → (pt j = ya_part j ∧ st j = ya_steps j ∧ pl j = ya_place j) ∧ ch j = ya_choice j ∧ bo j = ya_bound j ∧ tk j = ya_took j) → pt d = ya_part d → st d = ya_steps d → pl d = ya_place d → ch d = nI (k + 1) → UD g (bo d) (tk d) N' W' u' w' N0 W0 u0 w0 → YS g q P pt st pl ch bo tk (d + 1) N' W' u' w' (se_Y g q P (10 - d) p t hh N0 W0 u0 w0 (k + 1) ++ R0) ((26 - (k + 1)) * 30 ^ (11 - d) + m0) := by
        intro hk1 pt st pl ch bo tk N' W' u' w' e x1 x2 x3 x4 ud
        exact ⟨p, t, hh, N0, W0, u0, w0, k + 1, R0, m0, ⟨hp, by rw [x1]; exact e1, by rw [x2]; exact e2, fun z => by rw [x3]; exact e3 z, x4, hk1⟩, F, ud, below e, rfl, rfl⟩
      have less : k < (if q 0 p = 0 then 8 else 25) → (26 - (k + 1)) * 30 ^ (11 - d) + 30 ^ (11 - d) = (26 - k) * 30 ^ (11 - d) := by
        intro hk1
        have : k < 26 := by split at hk1 <;> omega
        rw [show 26 - k = (26 - (k + 1)) + 1 by omega, Nat.add_mul, Nat.one_mul]
      -- nothing comes of the choice
      have skip : k < (if q 0 p = 0 then 8 else 25) → se_f g c m (se_Y g q P (10 - d) p t hh N0 W0 u0 w0 k) = se_f g c m (se_Y g q P (10 - d) p t hh N0 W0 u0 w0 (k + 1)) → ∀ (b : Nat → Int32) (st' no : Nat → Int32) (N' W' : Nat), (∀ j, j ≠ d → b j = ya_bound j) → UD g (b d) (-1) N' W' u0 w0 N0 W0 u0 w0 → NO no N' W' → wY_search_92 post (nI v) n yf_level (nI P) yf_pending (nI m) yf_spelled (nI (d + 1)) (nI u0) (nI w0) (nI ms.length) yf_lightest yf_some yf_sum ya_labels ya_properties ya_from ya_to ya_types ya_weights ya_variable ya_wanted ya_among ya_direction ya_low ya_high ya_tokens ya_condition ya_expression st' ya_part ya_steps ya_place (upd ya_choice d (nI (k + 1))) b (upd ya_took d (-1)) no ya_chosen ya_far := by
        intro hk1 hR b st' no N' W' hb ud hno
        refine ih (d + 1) N' W' u0 w0 _ _ ms _ _ _ _ _ _ _ _ _ _ _ _ _ ?_ hT (frame hk1 (fun j hj => ⟨⟨rfl, rfl, rfl⟩, pk_un (by omega), hb j (by omega), pk_un (by omega)⟩) rfl rfl rfl pk_us (by rw [pk_us]; exact ud)) hno A ?_ hl
        · have := less hk1
          omega
        · rw [← hM, se_f_app, se_f_app, hR]
      -- a frame comes of it
      have push : k < (if q 0 p = 0 then 8 else 25) → ∀ (p' t' h' N' W' u' w' : Nat) (b tk no : Nat → Int32), p' < P → FV g q P (d + 1) p' t' h' N' W' u' w' → se_Y g q P (10 - d) p t hh N0 W0 u0 w0 k = se_lv g q P (10 - d) p' t' h' N' W' u' w' ++ se_Y g q P (10 - d) p t hh N0 W0 u0 w0 (k + 1) → (∀ j, j < d → b j = ya_bound j ∧ tk j = ya_took j) → UD g (b d) (tk d) N' W' u' w' N0 W0 u0 w0 → NO no N' W' → wY_search_92 post (nI v) n yf_level (nI P) yf_pending (nI m) yf_spelled (nI (d + 2)) (nI u') (nI w') (nI ms.length) yf_lightest yf_some yf_sum ya_labels ya_properties ya_from ya_to ya_types ya_weights ya_variable ya_wanted ya_among ya_direction ya_low ya_high ya_tokens ya_condition ya_expression ya_stack (upd ya_part (d + 1) (nI p')) (upd ya_steps (d + 1) (nI t')) (upd ya_place (d + 1) (nI h')) (upd (upd ya_choice d (nI (k + 1))) (d + 1) 0) (upd b (d + 1) (-1)) (upd tk (d + 1) (-1)) no ya_chosen ya_far := by
        intro hk1 p' t' h' N' W' u' w' b tk no hp' F' hR hb ud hno
        have d10' := FV_d hP hH F' hp'
        have lower := frame hk1 (pt := upd ya_part (d + 1) (nI p')) (st := upd ya_steps (d + 1) (nI t')) (pl := upd ya_place (d + 1) (nI h')) (ch := upd (upd ya_choice d (nI (k + 1))) (d + 1) 0) (bo := upd b (d + 1) (-1)) (tk := upd tk (d + 1) (-1)) (N' := N') (W' := W') (u' := u') (w' := w') (fun j hj => ⟨⟨pk_un (by omega), pk_un (by omega), pk_un (by omega)⟩, by rw [pk_un (by omega), pk_un (by omega)], by rw [pk_un (by omega)]; exact (hb j hj).1, by rw [pk_un (by omega)]; exact (hb j hj).2⟩) (pk_un (by omega)) (pk_un (by omega)) (pk_un (by omega)) (by rw [pk_un (by omega), pk_us]) (by rw [pk_un (by omega), pk_un (by omega)]; exact ud)
        refine ih (d + 2) N' W' u' w' _ (se_Y g q P (10 - (d + 1)) p' t' h' N' W' u' w' 0 ++ (se_Y g q P (10 - d) p t hh N0 W0 u0 w0 (k + 1) ++ R0)) ms _ _ _ _ _ _ _ _ _ _ _ _ _ ?_ (by omega) ⟨p', t', h', N', W', u', w', 0, _, _, ⟨hp', pk_us, pk_us, fun _ => pk_us, pk_us, Nat.zero_le _⟩, F', UD_0 pk_us pk_us, lower, rfl, rfl⟩ hno A ?_ hl
        · have l1 := less hk1
          have l2 : (26 - 0) * 30 ^ (11 - (d + 1)) < 30 ^ (11 - d) := by
            rw [show 11 - d = (11 - (d + 1)) + 1 by omega, Nat.pow_succ, Nat.mul_comm]
            exact Nat.mul_lt_mul_of_pos_left (by decide) (Nat.pow_pos (by decide))
          omega
        · rw [← hM, hR, List.append_assoc, show 10 - d = (10 - (d + 1)) + 1 by omega, se_lv_Y (by omega)]
      -- the part is done at node x
      have s246 : ∀ (x : Nat) (x3 x4 : Int32), x < 8 → k < (if q 0 p = 0 then 8 else 25) → (x4 = 0 → ya_place d = nI x) → (¬ x4 = 0 → x3 = nI x) → se_Y g q P (10 - d) p t hh N0 W0 u0 w0 k = (if se_al g q p N0 W0 x = true then se_kb g q P (10 - d) p x N0 W0 u0 w0 else []) ++ se_Y g q P (10 - d) p t hh N0 W0 u0 w0 (k + 1) → wY_search_246 post (wY_search_92 post (nI v) n) (nI v) (nI d) x3 x4 (nI x) (nI d) yf_level (nI P) yf_pending (nI m) yf_spelled (nI (d + 1)) (nI u0) (nI w0) (nI ms.length) yf_lightest yf_some yf_sum ya_labels ya_properties ya_from ya_to ya_types ya_weights ya_variable ya_wanted ya_among ya_direction ya_low ya_high ya_tokens ya_condition ya_expression ya_stack ya_part ya_steps ya_place (upd ya_choice d (nI (k + 1))) (upd ya_bound d (-1)) (upd ya_took d (-1)) no ya_chosen ya_far := by
        intro x x3 x4 x8 hk1 hpl hx3 hR
        refine y_settle Q G (by omega) hp x8 f1 e1 pk_us hno (fun na => br_t rfl ?_) (fun al b no' hb hno' hud => br_f (by decide) ?_)
        · rw [if_neg na, List.nil_append] at hR
          exact skip hk1 (by rw [hR]) _ _ _ N0 W0 (fun j hj => pk_un hj) (UD_0 pk_us rfl) hno
        · rw [if_pos al] at hR
          have F' := FV_bind F hp k3 (fun z => (fh hp z).1) x8 al
          have hb' : ∀ j, j ≠ d → b j = ya_bound j := fun j hj => by rw [hb j hj, pk_un hj]
          have go : wY_search_269 post (wY_search_92 post (nI v) n) (nI v) (nI x) (nI d) yf_level (nI P) yf_pending (nI m) yf_spelled (nI (d + 1)) (nI u0) (nI w0) (nI ms.length) yf_lightest yf_some yf_sum ya_labels ya_properties ya_from ya_to ya_types ya_weights ya_variable ya_wanted ya_among ya_direction ya_low ya_high ya_tokens ya_condition ya_expression ya_stack ya_part ya_steps ya_place (upd ya_choice d (nI (k + 1))) b (upd ya_took d (-1)) no' ya_chosen ya_far := by
            unfold wY_search_269 wpY_goOn
            refine ⟨vd, ?_⟩
            rw [cd, e1, nI_1 p]
            by_cases pP : p + 1 = P
            · -- a match, if the condition holds
              have hbt : ∀ k, k < m → c k < 4 → yB g (bb_st N0 (q 5 p) x) no' (c k) := by
                intro k hk h4
                obtain ⟨p', y1, y2⟩ := hcn k hk h4
                have wt : (W0 ||| 2 ^ q 5 p).testBit (c k) = true := by rw [← y2]; exact F'.2.1 p' (by omega)
                exact ⟨NO_t hno' h4 wt, F'.1.2.1 _ h4 wt⟩
              have leaf : se_kb g q P (10 - d) p x N0 W0 u0 w0 = [(bb_st N0 (q 5 p) x, W0 ||| 2 ^ q 5 p, w0)] := by
                unfold se_kb
                rw [pP, se_lv_P]
              rw [leaf] at hR
              refine br_t (nI_le (by omega) (by omega)) (y_truth CO' hbt G fun r s hr => ?_)
              have sR : se_f g c m (se_Y g q P (10 - d) p t hh N0 W0 u0 w0 k) = (if ev_c g c m (bb_st N0 (q 5 p) x) = true then [(bb_st N0 (q 5 p) x, W0 ||| 2 ^ q 5 p, w0)] else []) ++ se_f g c m (se_Y g q P (10 - d) p t hh N0 W0 u0 w0 (k + 1)) := by rw [hR, se_f_app, se_f_1]
              by_cases r1 : r = 1
              · rw [if_pos (hr.mp r1)] at sR
                refine br_t r1 (nm_r (nI_1 _) (y_goOn_55 (ms := ms) hv G hno' F'.1.1.1 (by omega) F'.1.2.1 F'.1.2.2 (by omega) A fun fo li so sm ch A' => ?_))
                refine ih (d + 1) (bb_st N0 (q 5 p) x) (W0 ||| 2 ^ q 5 p) u0 w0 _ _ (ms ++ [(bb_st N0 (q 5 p) x, W0 ||| 2 ^ q 5 p, w0)]) _ _ _ _ _ _ _ _ _ _ _ _ _ ?_ hT (frame hk1 (fun j hj => ⟨⟨rfl, rfl, rfl⟩, pk_un (by omega), hb' j (by omega), pk_un (by omega)⟩) rfl rfl rfl pk_us (by rw [pk_us]; exact hud _ _ _ rfl)) hno' A' ?_ (by rw [List.length_append]; show ms.length + 1 ≤ 1001; omega)
                · have := less hk1
                  omega
                · rw [← hM, se_f_app, se_f_app, sR, List.append_assoc, List.append_assoc]
              · have r0 : ¬ ev_c g c m (bb_st N0 (q 5 p) x) = true := fun y => r1 (hr.mpr y)
                rw [if_neg r0, List.nil_append] at sR
                exact br_f r1 (skip hk1 sR b s no' _ _ hb' (hud _ _ _ rfl) hno')
            · refine br_f (nI_ge (by omega) (by omega)) ⟨vd, ?_⟩
              refine y_enter (by omega) ?_
              exact push hk1 (p + 1) 0 x _ _ u0 w0 b (upd ya_took d (-1)) no' (by omega) F' hR (fun j hj => ⟨hb' j (by omega), pk_un (by omega)⟩) (by rw [pk_us]; exact hud _ _ _ rfl) hno'
          refine br_c (fun z => ⟨vd, ?_⟩) (fun z => ?_)
          · rw [cd, hpl z]
            exact go
          · rw [hx3 z]
            exact go
      rcases k6 with ⟨k6, am⟩ | ⟨k6, _, ⟨am, am0, am8⟩, ⟨d1, d2⟩, ⟨lo1, lo2⟩, hi1, hi2, hi3⟩
      · -- a start
        rw [if_pos k6] at hk
        rw [am]
        refine br_t rfl (br_f (by decide) ?_)
        by_cases k8 : k = 8
        · subst k8
          refine br_t rfl (nm_r (nI_pred d) ?_)
          refine ih d N0 W0 u0 w0 m0 R0 ms _ _ _ _ _ _ _ _ _ _ _ _ _ ?_ (by omega) (below fun j hj => ⟨⟨rfl, rfl, rfl⟩, pk_un (by omega), pk_un (by omega), pk_un (by omega)⟩) hno A ?_ hl
          · have : 0 < (26 - 8) * 30 ^ (11 - d) := Nat.mul_pos (by decide) pw
            omega
          · rw [← hM, se_Y_s8 k6]
            rfl
        · have hk1 : k < (if q 0 p = 0 then 8 else 25) := by rw [if_pos k6]; omega
          refine br_f (fun x => k8 ((nI_eq (b := 8) (by omega) (by omega)).mp x)) (br_f (by decide) (br_f (by decide) (br_f (by decide) (br_f (by decide) ?_))))
          exact s246 k (nI k) 1 (by omega) hk1 (fun x => absurd x (by decide)) (fun _ => rfl) (se_Y_s k6 (by omega))
      · -- a hop
        have kk : ¬ q 0 p = 0 := by omega
        rw [if_neg kk] at hk
        rw [am]
        refine br_f (nI_ne0 am0 (by omega)) (br_t rfl ?_)
        by_cases k25 : k = 25
        · subst k25
          refine br_t rfl (nm_r (nI_pred d) ?_)
          refine ih d N0 W0 u0 w0 m0 R0 ms _ _ _ _ _ _ _ _ _ _ _ _ _ ?_ (by omega) (below fun j hj => ⟨⟨rfl, rfl, rfl⟩, pk_un (by omega), pk_un (by omega), pk_un (by omega)⟩) hno A ?_ hl
          · have : 0 < (26 - 25) * 30 ^ (11 - d) := Nat.mul_pos (by decide) pw
            omega
          · rw [← hM, se_Y_h25 kk]
            rfl
        · have hk1 : k < (if q 0 p = 0 then 8 else 25) := by rw [if_neg kk]; omega
          refine br_f (fun x => k25 ((nI_eq (b := 25) (by omega) (by omega)).mp x)) (br_t rfl ?_)
          have pl := e3 kk
          obtain ⟨tq, gh⟩ := fh hp kk
          by_cases k0 : k = 0
          · subst k0
            refine br_t rfl (br_t rfl ⟨vd, vd, ?_⟩)
            rw [cd, e1, e2, cp, lo1]
            refine ⟨vp, ?_⟩
            have hY := se_Y_h0 (g := g) (q := q) (P := P) (k := 10 - d) (p := p) (t := t) (h := hh) (N := N0) (W := W0) (u := u0) (w := w0) kk
            by_cases tl : t < q 3 p
            · refine br_t (nI_lt tl (by omega)) (br_t rfl ?_)
              refine skip hk1 ?_ _ _ _ N0 W0 (fun j hj => pk_un hj) (UD_0 pk_us rfl) hno
              rw [hY]
              unfold se_fh
              rw [if_neg (fun x => by omega), List.nil_append]
            · refine br_f (nI_nlt (by omega) (by omega)) (br_f (by decide) (br_t rfl ⟨vd, ?_⟩))
              rw [cd, pl]
              refine s246 hh 0 0 f5 hk1 (fun _ => pl) (fun x => absurd rfl x) ?_
              rw [hY]
              unfold se_fh
              by_cases al : se_al g q p N0 W0 hh = true
              · rw [if_pos ⟨by omega, al⟩, if_pos al]
              · rw [if_neg (fun x => al x.2), if_neg al]
          · refine br_f (fun x => k0 ((nI_eq (b := 0) (by omega) (by omega)).mp x)) ?_
            have km : nI k - 1 = nI (k - 1) := pk_sub (a := k) (b := 1) (by omega)
            obtain ⟨e, b, e12, b2, ke⟩ : ∃ e b, e < 12 ∧ b < 2 ∧ k - 1 = 2 * e + b := ⟨(k - 1) / 2, (k - 1) % 2, by omega, by omega, by omega⟩
            rw [km, ke]
            have hstep : se_Y g q P (10 - d) p t hh N0 W0 u0 w0 k = (if t < q 4 p ∧ se_ok g q p hh u0 e = true ∧ ((q 2 p ≠ 1 ∧ eF g e = hh) ↔ b = 0) then se_ke g q P (10 - d) p t hh N0 W0 u0 w0 e else []) ++ se_Y g q P (10 - d) p t hh N0 W0 u0 w0 (k + 1) := by
              by_cases b0 : b = 0
              · subst b0
                rw [show k = 2 * e + 1 by omega, se_Y_al kk e12]
                refine congrArg (· ++ _) ?_
                unfold se_ya se_fe
                by_cases y : q 2 p ≠ 1 ∧ eF g e = hh
                · rw [if_pos y]
                  exact se_if ⟨fun x => ⟨x.1, x.2, fun _ => rfl, fun _ => y⟩, fun x => ⟨x.1, x.2.1⟩⟩ _ _
                · rw [if_neg y, if_neg (fun x => y (x.2.2.mpr rfl))]
              · have : b = 1 := by omega
                subst this
                rw [show k = 2 * e + 2 by omega, se_Y_ag kk e12]
                refine congrArg (· ++ _) ?_
                unfold se_yb se_fe
                by_cases y : q 2 p ≠ 1 ∧ eF g e = hh
                · rw [if_pos y, if_neg (fun x => absurd (x.2.2.mp y) (by decide))]
                · rw [if_neg y]
                  exact se_if ⟨fun x => ⟨x.1, x.2, fun z => absurd z y, fun z => absurd z (by decide)⟩, fun x => ⟨x.1, x.2.1⟩⟩ _ _
            have e60 : vp_in (nI e) 60 := vp_in_nI (by omega) (by omega)
            have q1 : nI (2 * e + b) / 2 = nI e := by
              have := pk_div (a := 2 * e + b) (d := 2) (by omega) (by omega) (by omega)
              rw [show (2 * e + b) / 2 = e by omega] at this
              exact this
            refine y_along Q V E (by omega) hp kk tq f5 f3 e12 b2 e1 e2 pl (fun y1 y2 y3 => ?_) (fun y => br_t (by decide) ?_)
            · have F' := FV_edge V F hp kk e12 y1 y2
              have s8 := F'.1.1.2.2.2.2
              have g0 := (se_ok_iff.mp y2).1
              rw [if_pos ⟨y1, y2, y3⟩] at hstep
              obtain ⟨_, _, _, we⟩ := y_edge_at E e12 g0.1
              rw [q1]
              refine br_f (nI_pos (by omega)) ⟨by decide, vd, nm_r (e' := upd (upd ya_took d (-1)) d (nI e)) (by rw [cd]) ⟨vd, ?_⟩⟩
              rw [cd, pk_us, e1, e2, nI_1 t]
              refine nm_r (e' := nI (u0 ||| 2 ^ e)) (by rw [bb_1shl (by omega), bb_or]) ⟨vd, e60, nm_r (e' := nI (w0 + eW g e)) (by rw [nI_clamp (by omega), we, nI_add]) ⟨vd, vd, y_enter (by omega) ?_⟩⟩
              exact push hk1 p (t + 1) (se_t g q p hh e) N0 W0 (u0 ||| 2 ^ e) (w0 + eW g e) (upd ya_bound d (-1)) (upd (upd ya_took d (-1)) d (nI e)) no hp F' hstep (fun j hj => ⟨pk_un (by omega), by rw [pk_un (by omega), pk_un (by omega)]⟩) ⟨Or.inl ⟨pk_us, rfl, rfl⟩, Or.inr ⟨e, e12, pk_us, g0.1, g0.2, rfl, rfl⟩⟩ hno
            · rw [if_neg y, List.nil_append] at hstep
              exact skip hk1 (by rw [hstep]) _ _ _ N0 W0 (fun j hj => pk_un hj) (UD_0 pk_us rfl) hno
end
end
section
/-! both searches, whole -/
def se_M (g : Nat → Int64) (q : Nat → Nat → Nat) (P : Nat) (c : Nat → Nat) (m : Nat) : List LF := if P = 0 then [] else se_f g c m (se_lv g q P 11 0 0 0 0 0 0 0)
theorem se_CA0 {g : Nat → Int64} {seen sum : Nat → Int64} {some : Nat → Int32} (h1 : ∀ k, k < 64 → seen k = 0) (h2 : ∀ v, v < 4 → sum v = 0) (h3 : ∀ v, v < 4 → some v = 0) : se_CA g [] 0 0 (-1) seen sum some :=
  ⟨rfl, congrArg nI (cq_0 4096 fun _ _ => rfl).symm, Or.inl ⟨rfl, rfl⟩, fun k hk => by rw [h1 _ (by omega), bl_0]; rfl, h2, h3⟩
theorem FV_0 {g : Nat → Int64} {q : Nat → Nat → Nat} {P : Nat} (h0 : 0 < P → q 0 0 = 0) : FV g q P 0 0 0 0 0 0 0 0 :=
  ⟨⟨⟨by decide, by decide, by decide, Nat.le_refl _, by decide⟩, fun v _ z => by rw [Nat.zero_testBit] at z; exact absurd z (by decide), fun v _ _ => bb_dg0 v⟩, fun p' z => absurd z (Nat.not_lt_zero p'), fun z y => absurd (h0 z) y, fun _ => rfl, Nat.zero_le _⟩
theorem QS0 {P : Nat} {q : Nat → Nat → Nat} {kd ty di lo hi va la : Nat → Int32} (Q : XQ P q kd ty di lo hi va la) (h : 0 < P) : q 0 0 = 0 := by
  rcases (Q.2.2 0 h).2 with z | ⟨_, z, _⟩
  · exact z
  · omega
theorem bb_nd_0 {a b : Nat} (h : ∀ i, a.testBit i = true → b.testBit i = true) : bb_nd a b = 0 := by
  apply Nat.eq_of_testBit_eq
  intro i
  rw [bb_nd_t, Nat.zero_testBit]
  cases z : a.testBit i with
  | false => rfl
  | true => rw [h i z]; rfl
theorem bb_nd_sub {a b : Nat} (h : bb_nd a b = 0) (i : Nat) (hi : a.testBit i = true) : b.testBit i = true := by
  have := bb_nd_t a b i
  rw [h, Nat.zero_testBit, hi, Bool.true_and] at this
  cases z : b.testBit i with
  | true => rfl
  | false => rw [z] at this; exact absurd this (by decide)
section
variable {f_level f_indexed f_parts f_highs f_tokens f_conditionLength f_conditionNames f_depth f_found f_testAt f_count f_different f_cheapest f_positions f_starts f_accepts f_empty f_written f_target f_steps : Int32} {a_state a_old : Nat → Int64} {a_kept a_leaving a_coming a_ofType a_withLabels a_kind a_types a_direction a_low a_high a_variable a_labels a_token a_condition a_truth a_number a_variableOf a_atPart a_trail a_here a_bound a_named a_used a_weight a_left a_ends : Nat → Int32} {a_seen a_sum : Nat → Int64} {a_some a_letter a_follow a_firstOf a_lastOf a_nullable a_spelled a_visited a_front a_next : Nat → Int32} {P : Nat} {q : Nat → Nat → Nat} {c : Nat → Nat} {m ta : Nat} {post : SX → Prop}
theorem x_search_147 (C : XC P q c m ta a_state a_leaving a_coming a_ofType a_withLabels a_kind a_types a_direction a_low a_high a_variable a_labels a_condition) (hc : ta = 0 → ev_c a_state c m 0 = true) (A : se_CA a_state [] f_count f_different f_cheapest a_seen a_sum a_some) (h : ∀ (f_depth' : Int32) (a_truth' a_number' a_variableOf' : Nat → Int32) (a_atPart' a_trail' a_here' a_bound' a_named' a_used' a_weight' a_left' a_ends' : Nat → Int32) (f_count' f_different' f_cheapest' : Int32) (a_seen' a_sum' : Nat → Int64) (a_some' : Nat → Int32), se_CA a_state ((se_M a_state q P c m).take 1001) f_count' f_different' f_cheapest' a_seen' a_sum' a_some' → post (f_level, f_indexed, nI P, f_highs, f_tokens, nI m, f_conditionNames, f_depth', f_found, nI ta, f_count', f_different', f_cheapest', f_positions, f_starts, f_accepts, f_empty, f_written, f_target, f_steps, a_state, a_old, a_kept, a_leaving, a_coming, a_ofType, a_withLabels, a_kind, a_types, a_direction, a_low, a_high, a_variable, a_labels, a_token, a_condition, a_truth', a_number', a_variableOf', a_atPart', a_trail', a_here', a_bound', a_named', a_used', a_weight', a_left', a_ends', a_seen', a_sum', a_some', a_letter, a_follow, a_firstOf, a_lastOf, a_nullable, a_spelled, a_visited, a_front, a_next)) : wX_search_147 post f_level f_indexed (nI P) f_highs f_tokens (nI m) f_conditionNames f_depth f_found (nI ta) f_count f_different f_cheapest f_positions f_starts f_accepts f_empty f_written f_target f_steps a_state a_old a_kept a_leaving a_coming a_ofType a_withLabels a_kind a_types a_direction a_low a_high a_variable a_labels a_token a_condition a_truth a_number a_variableOf a_atPart a_trail a_here a_bound a_named a_used a_weight a_left a_ends a_seen a_sum a_some a_letter a_follow a_firstOf a_lastOf a_nullable a_spelled a_visited a_front a_next := by
  have CC := C
  obtain ⟨Q, V, I, CO', hta, hcn, P0⟩ := CC
  have q0 := QS0 Q P0
  obtain ⟨lf, en, S, E, s1, s2, s3, s4, ⟨s5, s6⟩, s7, go1⟩ := x_enter' (a_state := a_state) (a_leaving := a_leaving) (a_coming := a_coming) (a_ofType := a_ofType) (a_withLabels := a_withLabels) (a_here := a_here) (a_left := a_left) (a_ends := a_ends) (D := 0) (p := 0) (t := 0) (h := 0) (N := 0) (W := 0) Q I (by omega) (by omega) (by omega) (by omega) (by omega) (fun _ z => absurd q0 z)
  unfold wX_search_147
  refine go1 _ (nm_r (e' := upd a_used 0 0) (by rw [bb_s0]) (nm_r (e' := upd a_weight 0 0) (by rw [bb_s0]) ?_))
  have e0 := s3 P0 q0
  refine ⟨_, x_search_172 (M := se_M a_state q P c m) C h _ 1 _ (se_f a_state c m (se_lv a_state q P 11 0 0 0 0 0 0 0) ++ []) [] _ _ _ _ _ _ _ _ _ _ _ _ _ _ _ _ _ _ _ (Nat.lt_succ_self _) (by omega) ⟨se_f a_state c m (se_lv a_state q P 11 0 0 0 0 0 0 0), (1 + (if E = true then 1 else 0) + S) * 10000 ^ (11 - 0), [], 0, Or.inr (Or.inr ⟨0, 0, 0, 0, 0, 0, 0, S, E, ⟨P0, pk_us, pk_us, fun z => absurd q0 z, pk_us, pk_us, pk_us, pk_us, s5, s6⟩, FV_0 (fun _ => q0), fun z => hc (by omega), s1, fun _ => ⟨e0.1, fun n y => (e0.2 n).mp y⟩, fun z => absurd q0 z, ?_, rfl⟩), ⟨rfl, rfl⟩, rfl, rfl⟩ A ?_ (by decide)⟩
  · refine congrArg _ (se_lv_X (E := E) (S := S) (by omega) (fun z n hn => ?_) (fun z => absurd q0 z))
    rw [e0.2 n]
    exact ⟨fun y => y.2, fun y => ⟨hn, y⟩⟩
  · unfold se_M
    rw [if_neg (by omega), List.append_nil]
    rfl
theorem x_search_95 {CN : Nat} (Q : XQ P q a_kind a_types a_direction a_low a_high a_variable a_labels) (V : VG a_state) (I : IX a_state a_leaving a_coming a_ofType a_withLabels) (CO' : CO a_condition c m) (P0 : 0 < P) (cn16 : CN < 16) (cn1 : ∀ k, k < m → c k < 4 → CN.testBit (c k) = true) (cn2 : ∀ v, CN.testBit v = true → ∃ p, p < P ∧ q 5 p = v) (A : se_CA a_state [] f_count f_different f_cheapest a_seen a_sum a_some) (h : ∀ f_testAt (f_depth' : Int32) (a_truth' a_number' a_variableOf' : Nat → Int32) (a_atPart' a_trail' a_here' a_bound' a_named' a_used' a_weight' a_left' a_ends' : Nat → Int32) (f_count' f_different' f_cheapest' : Int32) (a_seen' a_sum' : Nat → Int64) (a_some' : Nat → Int32), se_CA a_state ((se_M a_state q P c m).take 1001) f_count' f_different' f_cheapest' a_seen' a_sum' a_some' → post (f_level, f_indexed, nI P, f_highs, f_tokens, nI m, nI CN, f_depth', f_found, f_testAt, f_count', f_different', f_cheapest', f_positions, f_starts, f_accepts, f_empty, f_written, f_target, f_steps, a_state, a_old, a_kept, a_leaving, a_coming, a_ofType, a_withLabels, a_kind, a_types, a_direction, a_low, a_high, a_variable, a_labels, a_token, a_condition, a_truth', a_number', a_variableOf', a_atPart', a_trail', a_here', a_bound', a_named', a_used', a_weight', a_left', a_ends', a_seen', a_sum', a_some', a_letter, a_follow, a_firstOf, a_lastOf, a_nullable, a_spelled, a_visited, a_front, a_next)) : ∀ n i S, i ≤ P → P - i < n → S < 2 ^ 4 → (∀ v, S.testBit v = true ↔ ∃ p, p < i ∧ q 5 p = v) → wX_search_95 post f_level f_indexed (nI P) f_highs f_tokens (nI m) (nI CN) f_depth f_found f_count f_different f_cheapest f_positions f_starts f_accepts f_empty f_written f_target f_steps a_state a_old a_kept a_leaving a_coming a_ofType a_withLabels a_kind a_types a_direction a_low a_high a_variable a_labels a_token a_condition a_truth a_number a_variableOf a_atPart a_trail a_here a_bound a_named a_used a_weight a_left a_ends a_seen a_sum a_some a_letter a_follow a_firstOf a_lastOf a_nullable a_spelled a_visited a_front a_next n (nI S) (nI i) := by
  intro n
  induction n with
  | zero => intro i S _ hn; omega
  | succ n ih =>
    intro i S hi hn hS J
    have hP := Q.1
    have ndl := bb_nd_le CN S
    have key : (nI CN &&& (nI S ^^^ (-1))) = 0 ↔ bb_nd CN S = 0 := by
      rw [bb_andn]
      exact nI_eq (b := 0) (by omega) (by omega)
    by_cases z : bb_nd CN S = 0
    · refine br_t (key.mpr z) ?_
      have C : XC P q c m i a_state a_leaving a_coming a_ofType a_withLabels a_kind a_types a_direction a_low a_high a_variable a_labels a_condition := ⟨Q, V, I, CO', hi, fun k hk h4 => (J _).mp (bb_nd_sub z _ (cn1 k hk h4)), P0⟩
      by_cases i0 : i = 0
      · subst i0
        refine br_t rfl (x_holds (N := 0) CO' (by omega) fun r f_depth' a_truth' a_number' a_variableOf' hr => ?_)
        by_cases r2 : r = 2
        · exact br_t r2 (x_search_147 C (fun _ => hr.mp r2) A fun f_depth1 a_truth1 a_number1 a_variableOf1 a_atPart1 a_trail1 a_here1 a_bound1 a_named1 a_used1 a_weight1 a_left1 a_ends1 f_count1 f_different1 f_cheapest1 a_seen1 a_sum1 a_some1 A' => h _ f_depth1 a_truth1 a_number1 a_variableOf1 a_atPart1 a_trail1 a_here1 a_bound1 a_named1 a_used1 a_weight1 a_left1 a_ends1 f_count1 f_different1 f_cheapest1 a_seen1 a_sum1 a_some1 A')
        · have r3 : ev_c a_state c m 0 = false := ts_nt fun y => r2 (hr.mpr y)
          refine br_f r2 (h _ f_depth' a_truth' a_number' a_variableOf' a_atPart a_trail a_here a_bound a_named a_used a_weight a_left a_ends f_count f_different f_cheapest a_seen a_sum a_some ?_)
          have e : se_M a_state q P c m = [] := by
            unfold se_M
            rw [if_neg (by omega)]
            refine se_f_nil (fun p hp => (Q.2.2 p hp).1.2.2.1) (by omega) (by omega) (by omega) (fun k hk h4 => ?_) r3
            obtain ⟨p, y, _⟩ := C.2.2.2.2.2.1 k hk h4
            exact absurd y (Nat.not_lt_zero p)
          rw [e]
          exact A
      · refine br_f (nI_ne0 (by omega) (by omega)) (x_search_147 C (fun y => absurd y i0) A fun f_depth1 a_truth1 a_number1 a_variableOf1 a_atPart1 a_trail1 a_here1 a_bound1 a_named1 a_used1 a_weight1 a_left1 a_ends1 f_count1 f_different1 f_cheapest1 a_seen1 a_sum1 a_some1 A' => h _ f_depth1 a_truth1 a_number1 a_variableOf1 a_atPart1 a_trail1 a_here1 a_bound1 a_named1 a_used1 a_weight1 a_left1 a_ends1 f_count1 f_different1 f_cheapest1 a_seen1 a_sum1 a_some1 A')
    · have iP : i < P := by
        rcases Nat.lt_or_ge i P with y | y
        · exact y
        · refine absurd (bb_nd_0 fun v hv => ?_) z
          obtain ⟨p, p1, p2⟩ := cn2 v hv
          exact (J v).mpr ⟨p, by omega, p2⟩
      obtain ⟨⟨_, k2, k3, _⟩, _⟩ := Q.2.2 i iP
      refine br_f (fun y => z (key.mp y)) (nm_r (nI_1 i) ⟨vp_in_nI (by omega) (by omega), nm_r (e' := nI (S ||| 2 ^ q 5 i)) ?_ (ih (i + 1) _ (by omega) (by omega) (bb_or2_lt hS k3) fun v => ?_)⟩)
      · rw [nI_clamp (by omega), k2, bb_1shl (by omega), bb_or]
      · rw [bb_or2, Bool.or_eq_true, decide_eq_true_eq, J]
        constructor
        · rintro (⟨p, z1, z2⟩ | z)
          · exact ⟨p, by omega, z2⟩
          · exact ⟨i, by omega, z⟩
        · rintro ⟨p, z1, z2⟩
          by_cases y : p = i
          · subst y; exact Or.inr z2
          · exact Or.inl ⟨p, by omega, z2⟩
/-- the cached sums -/
def RFc (found : Int32) (g : Nat → Int64) (q : Nat → Nat → Nat) (P : Nat) (c : Nat → Nat) (m : Nat) (count diff cheap : Int32) (seen sum : Nat → Int64) (some : Nat → Int32) : Prop := found = 0 ∨ (found = 1 ∧ se_CA g ((se_M g q P c m).take 1001) count diff cheap seen sum some)
theorem x_search {CN : Nat} (Q : XQ P q a_kind a_types a_direction a_low a_high a_variable a_labels) (V : VG a_state) (RI' : RI f_indexed a_state a_leaving a_coming a_ofType a_withLabels) (CO' : CO a_condition c m) (cn16 : CN < 16) (cn1 : ∀ k, k < m → c k < 4 → CN.testBit (c k) = true) (cn2 : ∀ v, CN.testBit v = true → ∃ p, p < P ∧ q 5 p = v) (RFc' : RFc f_found a_state q P c m f_count f_different f_cheapest a_seen a_sum a_some) (h : ∀ f_indexed (a_leaving' a_coming' a_ofType' a_withLabels' : Nat → Int32) f_testAt (f_depth' : Int32) (a_truth' a_number' a_variableOf' : Nat → Int32) (a_atPart' a_trail' a_here' a_bound' a_named' a_used' a_weight' a_left' a_ends' : Nat → Int32) (f_count' f_different' f_cheapest' : Int32) (a_seen' a_sum' : Nat → Int64) (a_some' : Nat → Int32), RI f_indexed a_state a_leaving' a_coming' a_ofType' a_withLabels' → se_CA a_state ((se_M a_state q P c m).take 1001) f_count' f_different' f_cheapest' a_seen' a_sum' a_some' → post (f_level, f_indexed, nI P, f_highs, f_tokens, nI m, nI CN, f_depth', 1, f_testAt, f_count', f_different', f_cheapest', f_positions, f_starts, f_accepts, f_empty, f_written, f_target, f_steps, a_state, a_old, a_kept, a_leaving', a_coming', a_ofType', a_withLabels', a_kind, a_types, a_direction, a_low, a_high, a_variable, a_labels, a_token, a_condition, a_truth', a_number', a_variableOf', a_atPart', a_trail', a_here', a_bound', a_named', a_used', a_weight', a_left', a_ends', a_seen', a_sum', a_some', a_letter, a_follow, a_firstOf, a_lastOf, a_nullable, a_spelled, a_visited, a_front, a_next)) : wpX_search post (f_level, f_indexed, nI P, f_highs, f_tokens, nI m, nI CN, f_depth, f_found, f_testAt, f_count, f_different, f_cheapest, f_positions, f_starts, f_accepts, f_empty, f_written, f_target, f_steps, a_state, a_old, a_kept, a_leaving, a_coming, a_ofType, a_withLabels, a_kind, a_types, a_direction, a_low, a_high, a_variable, a_labels, a_token, a_condition, a_truth, a_number, a_variableOf, a_atPart, a_trail, a_here, a_bound, a_named, a_used, a_weight, a_left, a_ends, a_seen, a_sum, a_some, a_letter, a_follow, a_firstOf, a_lastOf, a_nullable, a_spelled, a_visited, a_front, a_next) := by
  have hP := Q.1
  unfold wpX_search
  rcases RFc' with e | ⟨e, A⟩
  · subst e
    refine br_t rfl (x_index V RI' fun lv cm ot wl I => ?_)
    have s55 : ∀ se, (∀ k, k < 64 → se k = 0) → ∀ n i sm so, i ≤ 4 → 4 - i < n → (∀ x, x < i → sm x = 0 ∧ so x = 0) → wX_search_55 post f_level 1 (nI P) f_highs f_tokens (nI m) (nI CN) f_depth 1 f_testAt 0 0 (-1) f_positions f_starts f_accepts f_empty f_written f_target f_steps n (nI i) a_state a_old a_kept lv cm ot wl a_kind a_types a_direction a_low a_high a_variable a_labels a_token a_condition a_truth a_number a_variableOf a_atPart a_trail a_here a_bound a_named a_used a_weight a_left a_ends se sm so a_letter a_follow a_firstOf a_lastOf a_nullable a_spelled a_visited a_front a_next := by
      intro se hse n
      induction n with
      | zero => intro i sm so _ hn; omega
      | succ n ih =>
        intro i sm so hi hn J
        by_cases e : i = 4
        · subst e
          have A0 : se_CA a_state [] 0 0 (-1) se sm so := se_CA0 hse (fun v hv => (J v hv).1) (fun v hv => (J v hv).2)
          refine br_t (nI_le (b := 4) (Nat.le_refl _) (by omega)) ?_
          by_cases P0 : P = 0
          · subst P0
            exact br_t rfl (h 1 lv cm ot wl _ _ _ _ _ _ _ _ _ _ _ _ _ _ _ _ _ _ _ _ (Or.inr ⟨rfl, I⟩) A0)
          · exact br_f (nI_ne0 (by omega) (by omega)) ⟨P + 1, x_search_95 Q V I CO' (by omega) cn16 cn1 cn2 A0 (fun f_testAt f_depth' a_truth' a_number' a_variableOf' a_atPart' a_trail' a_here' a_bound' a_named' a_used' a_weight' a_left' a_ends' f_count' f_different' f_cheapest' a_seen' a_sum' a_some' A' => h 1 lv cm ot wl f_testAt f_depth' a_truth' a_number' a_variableOf' a_atPart' a_trail' a_here' a_bound' a_named' a_used' a_weight' a_left' a_ends' f_count' f_different' f_cheapest' a_seen' a_sum' a_some' (Or.inr ⟨rfl, I⟩) A') (P + 1) 0 0 (by omega) (by omega) (by decide) (fun v => ⟨fun z => by rw [Nat.zero_testBit] at z; exact absurd z (by decide), fun ⟨p, z, _⟩ => absurd z (Nat.not_lt_zero p)⟩)⟩
        · have hi : i < 4 := by omega
          have ci : (nI i).toNatClampNeg = i := nI_clamp (by omega)
          refine br_f (nI_ge (b := 4) hi (by omega)) ⟨vp_in_nI hi (by omega), nm_r (e' := vp_updL sm i 0) (by rw [ci]) ⟨vp_in_nI hi (by omega), nm_r (e' := upd so i 0) (by rw [ci, bb_b0]) (nm_r (nI_1 i) (ih (i + 1) _ _ (by omega) (by omega) fun x hx => ?_))⟩⟩
          by_cases y : x = i
          · subst y; rw [pk_uLs, pk_us]; exact ⟨rfl, rfl⟩
          · rw [pk_uLn y, pk_un y]; exact J x (by omega)
    have s34 : ∀ n i se, i ≤ 64 → 64 - i < n → (∀ x, x < i → se x = 0) → wX_search_34 post f_level 1 (nI P) f_highs f_tokens (nI m) (nI CN) f_depth 1 f_testAt 0 0 (-1) f_positions f_starts f_accepts f_empty f_written f_target f_steps n (nI i) a_state a_old a_kept lv cm ot wl a_kind a_types a_direction a_low a_high a_variable a_labels a_token a_condition a_truth a_number a_variableOf a_atPart a_trail a_here a_bound a_named a_used a_weight a_left a_ends se a_sum a_some a_letter a_follow a_firstOf a_lastOf a_nullable a_spelled a_visited a_front a_next := by
      intro n
      induction n with
      | zero => intro i se _ hn; omega
      | succ n ih =>
        intro i se hi hn J
        by_cases e : i = 64
        · subst e
          exact br_t (nI_le (b := 64) (Nat.le_refl _) (by omega)) ⟨5, s55 se J 5 0 _ _ (by omega) (by omega) (fun x hx => absurd hx (Nat.not_lt_zero x))⟩
        · have hi : i < 64 := by omega
          refine br_f (nI_ge (b := 64) hi (by omega)) ⟨vp_in_nI hi (by omega), nm_r (e' := vp_updL se i 0) (by rw [nI_clamp (by omega)]) (nm_r (nI_1 i) (ih (i + 1) _ (by omega) (by omega) fun x hx => ?_))⟩
          by_cases y : x = i
          · subst y; exact pk_uLs
          · rw [pk_uLn y]; exact J x (by omega)
    exact ⟨65, s34 65 0 _ (by omega) (by omega) (fun x hx => absurd hx (Nat.not_lt_zero x))⟩
  · subst e
    exact br_f (by decide) (h _ _ _ _ _ _ _ _ _ _ _ _ _ _ _ _ _ _ _ _ _ _ _ _ _ RI' A)
end
section
variable {yf_level yf_parts yf_pending yf_conditions yf_spelled yf_depth yf_used yf_weight yf_found yf_lightest yf_some : Int32} {yf_sum : Int64} {ya_labels : Nat → Int32} {ya_properties : Nat → Int64} {ya_from ya_to ya_types ya_weights ya_variable ya_wanted ya_among ya_direction ya_low ya_high ya_tokens ya_condition ya_expression ya_stack ya_part ya_steps ya_place ya_choice ya_bound ya_took ya_nodeOf ya_chosen ya_far : Nat → Int32} {g : Nat → Int64} {P : Nat} {q : Nat → Nat → Nat} {c : Nat → Nat} {m : Nat} {post : SY → Prop}
theorem y_search {v : Nat} (C : YC P q c m g ya_labels ya_properties ya_from ya_to ya_types ya_weights ya_variable ya_wanted ya_among ya_direction ya_low ya_high ya_condition) (hv : v < 4) (h : ∀ (ya_part' ya_steps' ya_place' ya_choice' ya_bound' ya_took' : Nat → Int32) (yf_found' yf_lightest' yf_some' : Int32) (yf_sum' : Int64) (ya_chosen' : Nat → Int32) (yf_depth' yf_used' yf_weight' : Int32) (ya_stack' ya_nodeOf' : Nat → Int32), se_CB g v ((se_M g q P c m).take 1001) yf_found' yf_lightest' yf_some' yf_sum' ya_chosen' → post (yf_level, nI P, yf_pending, nI m, yf_spelled, yf_depth', yf_used', yf_weight', yf_found', yf_lightest', yf_some', yf_sum', ya_labels, ya_properties, ya_from, ya_to, ya_types, ya_weights, ya_variable, ya_wanted, ya_among, ya_direction, ya_low, ya_high, ya_tokens, ya_condition, ya_expression, ya_stack', ya_part', ya_steps', ya_place', ya_choice', ya_bound', ya_took', ya_nodeOf', ya_chosen', ya_far)) : wpY_search post (yf_level, nI P, yf_pending, nI m, yf_spelled, yf_depth, yf_used, yf_weight, yf_found, yf_lightest, yf_some, yf_sum, ya_labels, ya_properties, ya_from, ya_to, ya_types, ya_weights, ya_variable, ya_wanted, ya_among, ya_direction, ya_low, ya_high, ya_tokens, ya_condition, ya_expression, ya_stack, ya_part, ya_steps, ya_place, ya_choice, ya_bound, ya_took, ya_nodeOf, ya_chosen, ya_far) (nI v) := by
  have hP := C.1.1
  have CB0 : ∀ ch : Nat → Int32, (∀ k, k < 4096 → ch k = 0) → se_CB g v [] 0 1000000 0 0 ch := fun ch hch => ⟨rfl, Or.inl ⟨rfl, rfl⟩, rfl, rfl, fun k hk => by rw [hch k hk]; rfl⟩
  have no0 : ∀ no : Nat → Int32, (∀ x, x < 4 → no x = -1) → NO no 0 0 := fun no hno x hx => by rw [hno x hx, Nat.zero_testBit]; rfl
  have s22 : ∀ no : Nat → Int32, (∀ x, x < 4 → no x = -1) → ∀ n i ch, i ≤ 4096 → 4096 - i < n → (∀ x, x < i → ch x = 0) → wY_search_22 post (nI v) yf_level (nI P) yf_pending (nI m) yf_spelled yf_depth yf_used yf_weight yf_found yf_lightest yf_some yf_sum n (nI i) ya_labels ya_properties ya_from ya_to ya_types ya_weights ya_variable ya_wanted ya_among ya_direction ya_low ya_high ya_tokens ya_condition ya_expression ya_stack ya_part ya_steps ya_place ya_choice ya_bound ya_took no ch ya_far := by
    intro no hno n
    induction n with
    | zero => intro i ch _ hn; omega
    | succ n ih =>
      intro i ch hi hn J
      by_cases e : i = 4096
      · subst e
        refine br_t (nI_le (b := 4096) (Nat.le_refl _) (by omega)) ?_
        by_cases P0 : P = 0
        · subst P0
          refine br_t (by decide) ⟨1, y_search_92 (M := se_M g q 0 c m) C hv h 1 0 0 0 0 0 0 [] [] _ _ _ _ _ _ _ _ _ _ _ _ _ (by omega) (by omega) ⟨rfl, rfl⟩ (no0 no hno) (CB0 ch J) rfl (by decide)⟩
        · have q0 : q 0 0 = 0 := by
            rcases (C.1.2.2 0 (by omega)).2 with z | ⟨_, z, _⟩
            · exact z.1
            · omega
          refine br_f (nI_nle (by omega) (by omega)) (y_enter (d := 0) (by omega) ⟨_, y_search_92 (M := se_M g q P c m) C hv h _ 1 0 0 0 0 _ (se_Y g q P (10 - 0) 0 0 0 0 0 0 0 0 ++ []) [] _ _ _ _ _ _ _ _ _ _ _ _ _ (Nat.lt_succ_self _) (by omega) ⟨0, 0, 0, 0, 0, 0, 0, 0, [], 0, ⟨by omega, pk_us, pk_us, fun z => absurd q0 z, pk_us, Nat.zero_le _⟩, FV_0 (fun _ => q0), UD_0 pk_us pk_us, ⟨rfl, rfl⟩, rfl, rfl⟩ (no0 no hno) (CB0 ch J) ?_ (by decide)⟩)
          unfold se_M
          rw [if_neg P0, List.append_nil, List.nil_append, se_lv_Y (k := 10) (by omega)]
      · have hi : i < 4096 := by omega
        refine br_f (nI_ge (b := 4096) hi (by omega)) ⟨vp_in_nI hi (by omega), nm_r (e' := upd ch i 0) (by rw [nI_clamp (by omega), bb_b0]) (nm_r (nI_1 i) (ih (i + 1) _ (by omega) (by omega) fun x hx => ?_))⟩
        by_cases y : x = i
        · subst y; exact pk_us
        · rw [pk_un y]; exact J x (by omega)
  have s2 : ∀ n i no, i ≤ 4 → 4 - i < n → (∀ x, x < i → no x = -1) → wY_search_2 post (nI v) yf_level (nI P) yf_pending (nI m) yf_spelled yf_depth yf_used yf_weight yf_found yf_lightest yf_some yf_sum n (nI i) ya_labels ya_properties ya_from ya_to ya_types ya_weights ya_variable ya_wanted ya_among ya_direction ya_low ya_high ya_tokens ya_condition ya_expression ya_stack ya_part ya_steps ya_place ya_choice ya_bound ya_took no ya_chosen ya_far := by
    intro n
    induction n with
    | zero => intro i no _ hn; omega
    | succ n ih =>
      intro i no hi hn J
      by_cases e : i = 4
      · subst e
        exact br_t (nI_le (b := 4) (Nat.le_refl _) (by omega)) ⟨4097, s22 no J 4097 0 _ (by omega) (by omega) (fun x hx => absurd hx (Nat.not_lt_zero x))⟩
      · have hi : i < 4 := by omega
        refine br_f (nI_ge (b := 4) hi (by omega)) ⟨vp_in_nI hi (by omega), nm_r (e' := upd no i (-1)) (by rw [nI_clamp (by omega)]) (nm_r (nI_1 i) (ih (i + 1) _ (by omega) (by omega) fun x hx => ?_))⟩
        by_cases y : x = i
        · subst y; exact pk_us
        · rw [pk_un y]; exact J x (by omega)
  unfold wpY_search
  exact ⟨5, s2 5 0 _ (by omega) (by omega) (fun x hx => absurd hx (Nat.not_lt_zero x))⟩
end
end
section
/-! the component joins parts of an expression -/
def bi (b : Bool) : Int32 := if b = true then 1 else 0
theorem bi_0 (b : Bool) : bi b = 0 ↔ b = false := by cases b <;> decide
theorem bi_n (b : Bool) : vp_nar .boolean (bi b) = bi b := by cases b <;> rfl
section
variable {f_level f_indexed f_parts f_highs f_tokens f_conditionLength f_conditionNames f_depth f_found f_testAt f_count f_different f_cheapest f_positions f_starts f_accepts f_empty f_written f_target f_steps : Int32} {a_state a_old : Nat → Int64} {a_kept a_leaving a_coming a_ofType a_withLabels a_kind a_types a_direction a_low a_high a_variable a_labels a_token a_condition a_truth a_number a_variableOf a_atPart a_trail a_here a_bound a_named a_used a_weight a_left a_ends : Nat → Int32} {a_seen a_sum : Nat → Int64} {a_some a_letter a_follow a_firstOf a_lastOf a_nullable a_spelled a_visited a_front a_next : Nat → Int32} {post : SX → Prop}
theorem x_join {d E B : Nat} (hd : d ≤ 10) (hE : E < 2 ^ 10) (hB : B < 2 ^ 10) (ok : ∀ p, p < d → ∃ S, S < 2 ^ 10 ∧ a_follow p = nI S) (h : ∀ fo, (∀ p, ¬ (p < d ∧ E.testBit p = true) → fo p = a_follow p) → (∀ p, p < d → E.testBit p = true → fo p = nI ((a_follow p).toNatClampNeg ||| B)) → post (f_level, f_indexed, f_parts, f_highs, f_tokens, f_conditionLength, f_conditionNames, f_depth, f_found, f_testAt, f_count, f_different, f_cheapest, nI d, f_starts, f_accepts, f_empty, f_written, f_target, f_steps, a_state, a_old, a_kept, a_leaving, a_coming, a_ofType, a_withLabels, a_kind, a_types, a_direction, a_low, a_high, a_variable, a_labels, a_token, a_condition, a_truth, a_number, a_variableOf, a_atPart, a_trail, a_here, a_bound, a_named, a_used, a_weight, a_left, a_ends, a_seen, a_sum, a_some, a_letter, fo, a_firstOf, a_lastOf, a_nullable, a_spelled, a_visited, a_front, a_next)) : wpX_join post (f_level, f_indexed, f_parts, f_highs, f_tokens, f_conditionLength, f_conditionNames, f_depth, f_found, f_testAt, f_count, f_different, f_cheapest, nI d, f_starts, f_accepts, f_empty, f_written, f_target, f_steps, a_state, a_old, a_kept, a_leaving, a_coming, a_ofType, a_withLabels, a_kind, a_types, a_direction, a_low, a_high, a_variable, a_labels, a_token, a_condition, a_truth, a_number, a_variableOf, a_atPart, a_trail, a_here, a_bound, a_named, a_used, a_weight, a_left, a_ends, a_seen, a_sum, a_some, a_letter, a_follow, a_firstOf, a_lastOf, a_nullable, a_spelled, a_visited, a_front, a_next) (nI E) (nI B) := by
  have key : ∀ n i fo, i ≤ d → d - i < n → (∀ p, ¬ (p < i ∧ E.testBit p = true) → fo p = a_follow p) → (∀ p, p < i → E.testBit p = true → fo p = nI ((a_follow p).toNatClampNeg ||| B)) → wX_join_2 post (nI E) (nI B) f_level f_indexed f_parts f_highs f_tokens f_conditionLength f_conditionNames f_depth f_found f_testAt f_count f_different f_cheapest (nI d) f_starts f_accepts f_empty f_written f_target f_steps n (nI i) a_state a_old a_kept a_leaving a_coming a_ofType a_withLabels a_kind a_types a_direction a_low a_high a_variable a_labels a_token a_condition a_truth a_number a_variableOf a_atPart a_trail a_here a_bound a_named a_used a_weight a_left a_ends a_seen a_sum a_some a_letter fo a_firstOf a_lastOf a_nullable a_spelled a_visited a_front a_next := by
    intro n
    induction n with
    | zero => intro i fo _ hn; omega
    | succ n ih =>
      intro i fo hi hn J1 J2
      by_cases e : i = d
      · subst e
        exact br_t (nI_le (Nat.le_refl _) (by omega)) (h fo J1 J2)
      · have ci : (nI i).toNatClampNeg = i := nI_clamp (by omega)
        refine br_f (nI_ge (by omega) (by omega)) ?_
        cases z : E.testBit i with
        | false =>
          refine br_t ((bb_bit (by omega) (by omega)).mpr z) (nm_r (nI_1 i) (ih (i + 1) fo (by omega) (by omega) (fun p hp => J1 p fun y => hp ⟨by omega, y.2⟩) (fun p hp y => ?_)))
          by_cases w : p = i
          · subst w; rw [z] at y; exact absurd y (by decide)
          · exact J2 p (by omega) y
        | true =>
          obtain ⟨S, s1, s2⟩ := ok i (by omega)
          have fi : fo i = nI S := by rw [J1 i (fun y => by omega)]; exact s2
          have sc : (a_follow i).toNatClampNeg = S := by rw [s2, nI_clamp (by omega)]
          have vi : vp_in (nI i) 10 := vp_in_nI (by omega) (by omega)
          have o := Nat.or_lt_two_pow s1 hB
          refine br_f ((bb_bitT (by omega) (by omega)).mpr z) ⟨vi, vi, nm_r (e' := upd fo i (nI (S ||| B))) (by rw [ci, fi, bb_or, bb_sh (by omega)]) (nm_r (nI_1 i) (ih (i + 1) _ (by omega) (by omega) (fun p hp => ?_) (fun p hp y => ?_)))⟩
          · have w : p ≠ i := fun w => hp ⟨by omega, by rw [w]; exact z⟩
            rw [pk_un w]
            exact J1 p fun y => hp ⟨by omega, y.2⟩
          · by_cases w : p = i
            · subst w; rw [pk_us, sc]
            · rw [pk_un w]; exact J2 p (by omega) y
  unfold wpX_join
  exact ⟨d + 1, key (d + 1) 0 _ (by omega) (by omega) (fun _ _ => rfl) (fun p hp => absurd hp (Nat.not_lt_zero p))⟩
theorem x_two_38 {t ia ib Fa La Fb Lb : Nat} {na nb : Bool} (ht : t = 10 ∨ t = 11) (hia : ia < 10) (hib : ib < 10) (l1 : Fa < 2 ^ 10) (l2 : La < 2 ^ 10) (l3 : Fb < 2 ^ 10) (l4 : Lb < 2 ^ 10) (e1 : a_firstOf ib = nI Fb) (e2 : a_lastOf ia = nI La) (e3 : a_nullable ia = bi na) (e4 : a_nullable ib = bi nb) (h : post (f_level, f_indexed, f_parts, f_highs, f_tokens, f_conditionLength, f_conditionNames, f_depth, f_found, f_testAt, f_count, f_different, f_cheapest, f_positions, f_starts, f_accepts, f_empty, f_written, f_target, f_steps, a_state, a_old, a_kept, a_leaving, a_coming, a_ofType, a_withLabels, a_kind, a_types, a_direction, a_low, a_high, a_variable, a_labels, a_token, a_condition, a_truth, a_number, a_variableOf, a_atPart, a_trail, a_here, a_bound, a_named, a_used, a_weight, a_left, a_ends, a_seen, a_sum, a_some, a_letter, a_follow, upd a_firstOf ib (nI (if t = 11 ∨ na = true then Fa ||| Fb else Fa)), upd a_lastOf ib (nI (if t = 11 ∨ nb = true then Lb ||| La else Lb)), upd a_nullable ib (bi (if t = 10 then na && nb else na || nb)), a_spelled, a_visited, a_front, a_next)) : wX_two_38 post (nI t) (nI ia) (nI ib) (nI Fa) (nI Lb) f_level f_indexed f_parts f_highs f_tokens f_conditionLength f_conditionNames f_depth f_found f_testAt f_count f_different f_cheapest f_positions f_starts f_accepts f_empty f_written f_target f_steps a_state a_old a_kept a_leaving a_coming a_ofType a_withLabels a_kind a_types a_direction a_low a_high a_variable a_labels a_token a_condition a_truth a_number a_variableOf a_atPart a_trail a_here a_bound a_named a_used a_weight a_left a_ends a_seen a_sum a_some a_letter a_follow a_firstOf a_lastOf a_nullable a_spelled a_visited a_front a_next := by
  have ca : (nI ia).toNatClampNeg = ia := nI_clamp (by omega)
  have cb : (nI ib).toNatClampNeg = ib := nI_clamp (by omega)
  have va : vp_in (nI ia) 10 := vp_in_nI hia (by omega)
  have vb : vp_in (nI ib) 10 := vp_in_nI hib (by omega)
  have o1 := Nat.or_lt_two_pow l1 l3
  have o2 := Nat.or_lt_two_pow l4 l2
  have s150 : ∀ (x4 x5 z0 : Int32), x4 = nI (if t = 11 ∨ na = true then Fa ||| Fb else Fa) → x5 = nI (if t = 11 ∨ nb = true then Lb ||| La else Lb) → z0 = bi (if t = 10 then na && nb else na || nb) → wX_two_150 post (nI ib) x4 x5 z0 (nI ib) f_level f_indexed f_parts f_highs f_tokens f_conditionLength f_conditionNames f_depth f_found f_testAt f_count f_different f_cheapest f_positions f_starts f_accepts f_empty f_written f_target f_steps a_state a_old a_kept a_leaving a_coming a_ofType a_withLabels a_kind a_types a_direction a_low a_high a_variable a_labels a_token a_condition a_truth a_number a_variableOf a_atPart a_trail a_here a_bound a_named a_used a_weight a_left a_ends a_seen a_sum a_some a_letter a_follow a_firstOf a_lastOf a_nullable a_spelled a_visited a_front a_next := by
    intro x4 x5 z0 h4 h5 h0
    have b4 : (if t = 11 ∨ na = true then Fa ||| Fb else Fa) < 2 ^ 15 := by split <;> omega
    have b5 : (if t = 11 ∨ nb = true then Lb ||| La else Lb) < 2 ^ 15 := by split <;> omega
    rw [h4, h5, h0]
    exact ⟨vb, nm_r (e' := upd a_nullable ib (bi (if t = 10 then na && nb else na || nb))) (by rw [cb, bi_n]) ⟨vb, nm_r (e' := upd a_firstOf ib (nI (if t = 11 ∨ na = true then Fa ||| Fb else Fa))) (by rw [cb, bb_sh b4]) ⟨vb, nm_r (e' := upd a_lastOf ib (nI (if t = 11 ∨ nb = true then Lb ||| La else Lb))) (by rw [cb, bb_sh b5]) h⟩⟩⟩
  have s90 : ∀ (x4 x5 : Int32), x4 = nI (if t = 11 ∨ na = true then Fa ||| Fb else Fa) → x5 = nI (if t = 11 ∨ nb = true then Lb ||| La else Lb) → wX_two_90 post (nI t) (nI ia) (nI ib) x4 x5 f_level f_indexed f_parts f_highs f_tokens f_conditionLength f_conditionNames f_depth f_found f_testAt f_count f_different f_cheapest f_positions f_starts f_accepts f_empty f_written f_target f_steps a_state a_old a_kept a_leaving a_coming a_ofType a_withLabels a_kind a_types a_direction a_low a_high a_variable a_labels a_token a_condition a_truth a_number a_variableOf a_atPart a_trail a_here a_bound a_named a_used a_weight a_left a_ends a_seen a_sum a_some a_letter a_follow a_firstOf a_lastOf a_nullable a_spelled a_visited a_front a_next := by
    intro x4 x5 h4 h5
    rcases ht with rfl | rfl
    · refine br_t rfl ⟨va, ?_⟩
      rw [ca, cb, e3, e4]
      cases na with
      | false => exact br_t rfl (s150 _ _ 0 h4 h5 rfl)
      | true =>
        refine br_f (by decide) ⟨vb, ?_⟩
        cases nb with
        | false => exact br_t rfl (s150 _ _ 0 h4 h5 rfl)
        | true => exact br_f (by decide) (s150 _ _ 1 h4 h5 rfl)
    · refine br_f (by decide) ⟨va, ?_⟩
      rw [ca, cb, e3, e4]
      cases na with
      | false =>
        refine br_t rfl ⟨vb, ?_⟩
        cases nb with
        | false => exact br_t rfl (s150 _ _ 0 h4 h5 rfl)
        | true => exact br_f (by decide) (s150 _ _ 1 h4 h5 rfl)
      | true => exact br_f (by decide) (s150 _ _ 1 h4 h5 rfl)
  have s79 : t = 11 ∨ nb = true → ∀ x4 : Int32, x4 = nI (if t = 11 ∨ na = true then Fa ||| Fb else Fa) → wX_two_79 post (nI t) (nI ia) (nI ib) x4 (nI Lb) f_level f_indexed f_parts f_highs f_tokens f_conditionLength f_conditionNames f_depth f_found f_testAt f_count f_different f_cheapest f_positions f_starts f_accepts f_empty f_written f_target f_steps a_state a_old a_kept a_leaving a_coming a_ofType a_withLabels a_kind a_types a_direction a_low a_high a_variable a_labels a_token a_condition a_truth a_number a_variableOf a_atPart a_trail a_here a_bound a_named a_used a_weight a_left a_ends a_seen a_sum a_some a_letter a_follow a_firstOf a_lastOf a_nullable a_spelled a_visited a_front a_next := by
    intro z x4 h4
    exact ⟨va, nm_r (e' := nI (Lb ||| La)) (by rw [ca, e2, bb_or]) (s90 _ _ h4 (by rw [if_pos z]))⟩
  have s64 : ∀ x4 : Int32, x4 = nI (if t = 11 ∨ na = true then Fa ||| Fb else Fa) → wX_two_64 post (nI t) (nI ia) (nI ib) x4 (nI Lb) f_level f_indexed f_parts f_highs f_tokens f_conditionLength f_conditionNames f_depth f_found f_testAt f_count f_different f_cheapest f_positions f_starts f_accepts f_empty f_written f_target f_steps a_state a_old a_kept a_leaving a_coming a_ofType a_withLabels a_kind a_types a_direction a_low a_high a_variable a_labels a_token a_condition a_truth a_number a_variableOf a_atPart a_trail a_here a_bound a_named a_used a_weight a_left a_ends a_seen a_sum a_some a_letter a_follow a_firstOf a_lastOf a_nullable a_spelled a_visited a_front a_next := by
    intro x4 h4
    by_cases z : t = 11
    · exact br_t (congrArg nI z) (s79 (Or.inl z) x4 h4)
    · refine br_f (fun y => z ((nI_eq (b := 11) (by omega) (by omega)).mp y)) ⟨vb, ?_⟩
      rw [cb, e4]
      cases nb with
      | false => exact br_t rfl (s90 _ _ h4 (by rw [if_neg (fun y => y.elim z (fun w => absurd w (by decide)))]))
      | true => exact br_f (by decide) (s79 (Or.inr rfl) x4 h4)
  have s53 : t = 11 ∨ na = true → wX_two_53 post (nI t) (nI ia) (nI ib) (nI Fa) (nI Lb) f_level f_indexed f_parts f_highs f_tokens f_conditionLength f_conditionNames f_depth f_found f_testAt f_count f_different f_cheapest f_positions f_starts f_accepts f_empty f_written f_target f_steps a_state a_old a_kept a_leaving a_coming a_ofType a_withLabels a_kind a_types a_direction a_low a_high a_variable a_labels a_token a_condition a_truth a_number a_variableOf a_atPart a_trail a_here a_bound a_named a_used a_weight a_left a_ends a_seen a_sum a_some a_letter a_follow a_firstOf a_lastOf a_nullable a_spelled a_visited a_front a_next := by
    intro z
    exact ⟨vb, nm_r (e' := nI (Fa ||| Fb)) (by rw [cb, e1, bb_or]) (s64 _ (by rw [if_pos z]))⟩
  by_cases z : t = 11
  · exact br_t (congrArg nI z) (s53 (Or.inl z))
  · refine br_f (fun y => z ((nI_eq (b := 11) (by omega) (by omega)).mp y)) ⟨va, ?_⟩
    rw [ca, e3]
    cases na with
    | false => exact br_t rfl (s64 _ (by rw [if_neg (fun y => y.elim z (fun w => absurd w (by decide)))]))
    | true => exact br_f (by decide) (s53 (Or.inr rfl))
theorem x_two {d t ia ib Fa La Fb Lb : Nat} {na nb : Bool} (ht : t = 10 ∨ t = 11) (hd : d ≤ 10) (hia : ia < 10) (hib : ib < 10) (l1 : Fa < 2 ^ 10) (l2 : La < 2 ^ 10) (l3 : Fb < 2 ^ 10) (l4 : Lb < 2 ^ 10) (e0 : a_firstOf ia = nI Fa) (e1 : a_firstOf ib = nI Fb) (e2 : a_lastOf ia = nI La) (e5 : a_lastOf ib = nI Lb) (e3 : a_nullable ia = bi na) (e4 : a_nullable ib = bi nb) (ok : ∀ p, p < d → ∃ S, S < 2 ^ 10 ∧ a_follow p = nI S) (h : ∀ fo, (t = 11 → fo = a_follow) → (t = 10 → (∀ p, ¬ (p < d ∧ La.testBit p = true) → fo p = a_follow p) ∧ (∀ p, p < d → La.testBit p = true → fo p = nI ((a_follow p).toNatClampNeg ||| Fb))) → post (f_level, f_indexed, f_parts, f_highs, f_tokens, f_conditionLength, f_conditionNames, f_depth, f_found, f_testAt, f_count, f_different, f_cheapest, nI d, f_starts, f_accepts, f_empty, f_written, f_target, f_steps, a_state, a_old, a_kept, a_leaving, a_coming, a_ofType, a_withLabels, a_kind, a_types, a_direction, a_low, a_high, a_variable, a_labels, a_token, a_condition, a_truth, a_number, a_variableOf, a_atPart, a_trail, a_here, a_bound, a_named, a_used, a_weight, a_left, a_ends, a_seen, a_sum, a_some, a_letter, fo, upd a_firstOf ib (nI (if t = 11 ∨ na = true then Fa ||| Fb else Fa)), upd a_lastOf ib (nI (if t = 11 ∨ nb = true then Lb ||| La else Lb)), upd a_nullable ib (bi (if t = 10 then na && nb else na || nb)), a_spelled, a_visited, a_front, a_next)) : wpX_two post (f_level, f_indexed, f_parts, f_highs, f_tokens, f_conditionLength, f_conditionNames, f_depth, f_found, f_testAt, f_count, f_different, f_cheapest, nI d, f_starts, f_accepts, f_empty, f_written, f_target, f_steps, a_state, a_old, a_kept, a_leaving, a_coming, a_ofType, a_withLabels, a_kind, a_types, a_direction, a_low, a_high, a_variable, a_labels, a_token, a_condition, a_truth, a_number, a_variableOf, a_atPart, a_trail, a_here, a_bound, a_named, a_used, a_weight, a_left, a_ends, a_seen, a_sum, a_some, a_letter, a_follow, a_firstOf, a_lastOf, a_nullable, a_spelled, a_visited, a_front, a_next) (nI t) (nI ia) (nI ib) := by
  have ca : (nI ia).toNatClampNeg = ia := nI_clamp (by omega)
  have cb : (nI ib).toNatClampNeg = ib := nI_clamp (by omega)
  have va : vp_in (nI ia) 10 := vp_in_nI hia (by omega)
  have vb : vp_in (nI ib) 10 := vp_in_nI hib (by omega)
  unfold wpX_two
  refine ⟨va, nm_r (e' := nI Fa) (by rw [ca]; exact e0) ⟨vb, nm_r (e' := nI Lb) (by rw [cb]; exact e5) ?_⟩⟩
  rw [ca, cb, e2, e1]
  rcases ht with rfl | rfl
  · refine br_t rfl ⟨va, vb, x_join hd l2 l3 ok fun fo q1 q2 => ?_⟩
    exact x_two_38 (Or.inl rfl) hia hib l1 l2 l3 l4 e1 e2 e3 e4 (h fo (fun z => absurd z (by decide)) (fun _ => ⟨q1, q2⟩))
  · exact br_f (by decide) (x_two_38 (Or.inr rfl) hia hib l1 l2 l3 l4 e1 e2 e3 e4 (h a_follow (fun _ => rfl) (fun z => absurd z (by decide))))
end
end
section
/-! an expression's parts on the stack (plain law) -/
def wk_h (l : List (WW → WW)) : WW → WW := l.headD (fun _ _ _ _ => False)
def wk_s (t : Nat) (l : List (WW → WW)) : List (WW → WW) :=
  if t < 6 then wk_L t :: l
  else if t = 10 then wk_C (wk_h l) (wk_h l.tail) :: l.tail.tail
  else if t = 11 then wk_U (wk_h l) (wk_h l.tail) :: l.tail.tail
  else if t = 12 then wk_S (wk_h l) :: l.tail
  else if t = 13 then wk_C (wk_h l) (wk_S (wk_h l)) :: l.tail
  else wk_O (wk_h l) :: l.tail
def wk_st (c : Nat → Nat) (n : Nat) : Nat → List (WW → WW)
  | 0 => []
  | j + 1 => wk_s (c (n - 1 - j)) (wk_st c n j)
def wk_op (c : Nat → Nat) (n : Nat) (op : Nat → Nat) : Prop := op 0 = 1 ∧ op n = 0 ∧ ∀ k, k < n → (c k < 6 ∨ (10 ≤ c k ∧ c k ≤ 14)) ∧ 0 < op k ∧ op (k + 1) = if c k < 6 then op k - 1 else if c k < 12 then op k + 1 else op k
theorem wk_s_l {t : Nat} {l : List (WW → WW)} (h : t < 6) : wk_s t l = wk_L t :: l := if_pos h
theorem wk_s_10 {A B : WW → WW} {l : List (WW → WW)} : wk_s 10 (A :: B :: l) = wk_C A B :: l := rfl
theorem wk_s_11 {A B : WW → WW} {l : List (WW → WW)} : wk_s 11 (A :: B :: l) = wk_U A B :: l := rfl
theorem wk_s_12 {A : WW → WW} {l : List (WW → WW)} : wk_s 12 (A :: l) = wk_S A :: l := rfl
theorem wk_s_13 {A : WW → WW} {l : List (WW → WW)} : wk_s 13 (A :: l) = wk_C A (wk_S A) :: l := rfl
theorem wk_s_14 {A : WW → WW} {l : List (WW → WW)} : wk_s 14 (A :: l) = wk_O A :: l := rfl
def wk_sh (t : Nat) (l : List (WW → WW)) : Prop := t < 6 ∨ ((t = 10 ∨ t = 11) ∧ ∃ A B r, l = A :: B :: r) ∨ ((t = 12 ∨ t = 13 ∨ t = 14) ∧ ∃ A r, l = A :: r)
theorem wk_len {c op : Nat → Nat} {n : Nat} (E : wk_op c n op) : ∀ j, j ≤ n → (wk_st c n j).length = op (n - j) ∧ (wk_st c n j).length ≤ j ∧ (j < n → wk_sh (c (n - 1 - j)) (wk_st c n j)) := by
  have shape : ∀ j, j < n → (wk_st c n j).length = op (n - j) → wk_sh (c (n - 1 - j)) (wk_st c n j) := by
    intro j hj hl
    obtain ⟨h1, h2, h3⟩ := E.2.2 (n - 1 - j) (by omega)
    rw [show n - 1 - j + 1 = n - j by omega, ← hl] at h3
    unfold wk_sh
    by_cases a : c (n - 1 - j) < 6
    · exact Or.inl a
    · rw [if_neg a] at h3
      by_cases b : c (n - 1 - j) < 12
      · rw [if_pos b] at h3
        refine Or.inr (Or.inl ⟨by omega, ?_⟩)
        revert h3
        generalize wk_st c n j = l
        intro h3
        cases l with
        | nil => rw [List.length_nil] at h3; omega
        | cons x l =>
          cases l with
          | nil => rw [List.length_cons, List.length_nil] at h3; omega
          | cons y l => exact ⟨x, y, l, rfl⟩
      · rw [if_neg b] at h3
        refine Or.inr (Or.inr ⟨by omega, ?_⟩)
        revert h3
        generalize wk_st c n j = l
        intro h3
        cases l with
        | nil => rw [List.length_nil] at h3; omega
        | cons x l => exact ⟨x, l, rfl⟩
  intro j
  induction j with
  | zero =>
    intro _
    have l0 : (wk_st c n 0).length = op (n - 0) := by rw [Nat.sub_zero, E.2.1]; rfl
    exact ⟨l0, Nat.le_refl _, fun h => shape 0 h l0⟩
  | succ j ih =>
    intro hj
    obtain ⟨i1, i2, i3⟩ := ih (by omega)
    obtain ⟨h1, h2, h3⟩ := E.2.2 (n - 1 - j) (by omega)
    rw [show n - 1 - j + 1 = n - j by omega, ← i1] at h3
    have l1 : (wk_st c n (j + 1)).length = op (n - (j + 1)) ∧ (wk_st c n (j + 1)).length ≤ j + 1 := by
      rw [show n - (j + 1) = n - 1 - j by omega]
      show (wk_s (c (n - 1 - j)) (wk_st c n j)).length = _ ∧ (wk_s (c (n - 1 - j)) (wk_st c n j)).length ≤ _
      rcases i3 (by omega) with a | ⟨a, A, B, r, e⟩ | ⟨a, A, r, e⟩
      · rw [wk_s_l a, List.length_cons]
        rw [if_pos a] at h3
        omega
      · rw [if_neg (by omega), if_pos (by omega)] at h3
        rw [e, List.length_cons, List.length_cons] at h3 i2
        rcases a with a | a <;> rw [a, e]
        · rw [wk_s_10, List.length_cons]; omega
        · rw [wk_s_11, List.length_cons]; omega
      · rw [if_neg (by omega), if_neg (by omega)] at h3
        rw [e, List.length_cons] at h3 i2
        rcases a with a | a | a <;> rw [a, e]
        · rw [wk_s_12, List.length_cons]; omega
        · rw [wk_s_13, List.length_cons]; omega
        · rw [wk_s_14, List.length_cons]; omega
    exact ⟨l1.1, l1.2, fun h => shape (j + 1) h l1.1⟩
/-! the component's stack -/
def gl_f (fo : Nat → Int32) (p' p : Nat) : Prop := ((fo p').toNatClampNeg).testBit p = true
def gl_t (S p : Nat) : Prop := S.testBit p = true
def gl_r (b d p : Nat) : Prop := b ≤ p ∧ p < d
def gl_E (fo : Nat → Int32) (le : Nat → Nat) (b d F L : Nat) (nul : Bool) (A : WW → WW) : Prop := wk_cl (gl_r b d) (gl_t F) (gl_t L) (gl_f fo) ∧ ∀ st i j n, A st i j n ↔ wk_G st le (gl_t F) (gl_t L) (nul = true) (gl_f fo) i j n
def gl_B (fi la nu fo : Nat → Int32) (le : Nat → Nat) : List (WW → WW) → Nat → Prop
  | [] => fun d => d = 0
  | A :: r => fun d => ∃ b F L, ∃ nul : Bool, b ≤ d ∧ ((F < 2 ^ 10 ∧ L < 2 ^ 10) ∧ fi r.length = nI F ∧ la r.length = nI L ∧ nu r.length = bi nul) ∧ gl_E fo le b d F L nul A ∧ gl_B fi la nu fo le r b
theorem gl_f_c {fo fo' : Nat → Int32} {p' : Nat} (h : fo' p' = fo p') (p : Nat) : gl_f fo' p' p ↔ gl_f fo p' p := by unfold gl_f; rw [h]
theorem gl_E_c {fo fo' : Nat → Int32} {le le' : Nat → Nat} {b d F L : Nat} {nul : Bool} {A : WW → WW} (h1 : ∀ p, p < d → fo' p = fo p) (h2 : ∀ p, p < d → le' p = le p) (E : gl_E fo le b d F L nul A) : gl_E fo' le' b d F L nul A := by
  obtain ⟨c, e⟩ := E
  refine ⟨⟨c.1, c.2.1, fun p' p hr hf => c.2.2 p' p hr ((gl_f_c (h1 p' hr.2) p).mp hf)⟩, fun st i j n => (e st i j n).trans (wk_G_cong c (fun p hr => (h2 p hr.2).symm) (fun p' p hr => (gl_f_c (h1 p' hr.2) p).symm) i j n)⟩
theorem gl_B_c {fi la nu fo fi' la' nu' fo' : Nat → Int32} {le le' : Nat → Nat} : ∀ {l : List (WW → WW)} {d : Nat}, (∀ j, j < l.length → fi' j = fi j ∧ la' j = la j ∧ nu' j = nu j) → (∀ p, p < d → fo' p = fo p) → (∀ p, p < d → le' p = le p) → gl_B fi la nu fo le l d → gl_B fi' la' nu' fo' le' l d
  | [], d, _, _, _, h => h
  | A :: r, d, h1, h2, h3, h => by
    obtain ⟨b, F, L, nul, hb, ⟨hF, e1, e2, e3⟩, E, h⟩ := h
    obtain ⟨a1, a2, a3⟩ := h1 r.length (by rw [List.length_cons]; omega)
    refine ⟨b, F, L, nul, hb, ⟨hF, by rw [a1]; exact e1, by rw [a2]; exact e2, by rw [a3]; exact e3⟩, gl_E_c h2 h3 E, gl_B_c (fun j hj => h1 j (by rw [List.length_cons]; omega)) (fun p hp => h2 p (by omega)) (fun p hp => h3 p (by omega)) h⟩
theorem wk_G_F {st : WW} {le : Nat → Nat} {F F' L L' : Nat → Prop} {nul nul' : Prop} {fo : Nat → Nat → Prop} (h1 : ∀ p, F p ↔ F' p) (h2 : ∀ p, L p ↔ L' p) (h3 : nul ↔ nul') (i j n : Nat) : wk_G st le F L nul fo i j n ↔ wk_G st le F' L' nul' fo i j n := by
  have e1 : F = F' := funext fun p => propext (h1 p)
  have e2 : L = L' := funext fun p => propext (h2 p)
  have e3 : nul = nul' := propext h3
  rw [e1, e2, e3]
theorem gl_pow {d p : Nat} : gl_t (2 ^ d) p ↔ p = d := by
  unfold gl_t
  rw [Nat.testBit_two_pow, decide_eq_true_eq]
  exact ⟨fun h => h.symm, fun h => h.symm⟩
theorem gl_or {a b p : Nat} : gl_t (a ||| b) p ↔ gl_t a p ∨ gl_t b p := by
  unfold gl_t
  rw [Nat.testBit_or, Bool.or_eq_true]
/-- a letter -/
theorem gl_let {fi la nu fo : Nat → Int32} {le : Nat → Nat} {l : List (WW → WW)} {d t : Nat} (hd : d < 10) (h : gl_B fi la nu fo le l d) : gl_B (upd fi l.length (nI (2 ^ d))) (upd la l.length (nI (2 ^ d))) (upd nu l.length 0) (upd fo d 0) (fun p => if p = d then t else le p) (wk_L t :: l) (d + 1) := by
  have pw : 2 ^ d < 2 ^ 10 := Nat.pow_lt_pow_right (by decide) hd
  have nf : ∀ p, ¬ gl_f (upd fo d 0) d p := by
    intro p z
    unfold gl_f at z
    rw [pk_us, show (0 : Int32).toNatClampNeg = 0 by decide, Nat.zero_testBit] at z
    exact absurd z (by decide)
  refine ⟨d, 2 ^ d, 2 ^ d, false, by omega, ⟨⟨pw, pw⟩, pk_us, pk_us, pk_us⟩, ⟨⟨fun p z => ?_, fun p z => ?_, fun p' p hr z => ?_⟩, fun st i j n => ?_⟩, gl_B_c (fun j hj => ⟨pk_un (by omega), pk_un (by omega), pk_un (by omega)⟩) (fun p hp => pk_un (by omega)) (fun p hp => if_neg (by omega)) h⟩
  · rw [gl_pow.mp z]; exact ⟨Nat.le_refl _, by omega⟩
  · rw [gl_pow.mp z]; exact ⟨Nat.le_refl _, by omega⟩
  · have : p' = d := by have := hr.1; have := hr.2; omega
    subst this
    exact (nf p z).elim
  · exact (wk_let (st := st) (le := fun p => if p = d then t else le p) (q := d) (if_pos rfl) nf i j n).trans (wk_G_F (fun p => gl_pow.symm) (fun p => gl_pow.symm) ⟨fun z => z.elim, fun z => absurd z (by decide)⟩ i j n)
/-- what a join does to what follows -/
theorem gl_join {fo fo' : Nat → Int32} {d E B : Nat} (hE : ∀ p, gl_t E p → p < d) (ok : ∀ p, p < d → ∃ S, S < 2 ^ 10 ∧ fo p = nI S) (hB : B < 2 ^ 10) (q1 : ∀ p, ¬ (p < d ∧ E.testBit p = true) → fo' p = fo p) (q2 : ∀ p, p < d → E.testBit p = true → fo' p = nI ((fo p).toNatClampNeg ||| B)) : (∀ p' p, gl_f fo' p' p ↔ gl_f fo p' p ∨ (gl_t E p' ∧ gl_t B p)) ∧ ∀ p, p < d → ∃ S, S < 2 ^ 10 ∧ fo' p = nI S := by
  constructor
  · intro p' p
    by_cases z : p' < d ∧ E.testBit p' = true
    · obtain ⟨S, s1, s2⟩ := ok p' z.1
      have o := Nat.or_lt_two_pow s1 hB
      have e : (fo p').toNatClampNeg = S := by rw [s2, nI_clamp (by omega)]
      unfold gl_f
      rw [q2 p' z.1 z.2, e, nI_clamp (by omega), Nat.testBit_or, Bool.or_eq_true]
      exact ⟨fun w => w.elim Or.inl (fun w => Or.inr ⟨z.2, w⟩), fun w => w.elim Or.inl (fun w => Or.inr w.2)⟩
    · rw [gl_f_c (q1 p' z)]
      exact ⟨Or.inl, fun w => w.elim id (fun w => absurd ⟨hE p' w.1, w.1⟩ z)⟩
  · intro p hp
    obtain ⟨S, s1, s2⟩ := ok p hp
    by_cases z : p < d ∧ E.testBit p = true
    · refine ⟨S ||| B, Nat.or_lt_two_pow s1 hB, ?_⟩
      rw [q2 p z.1 z.2, s2, nI_clamp (by omega)]
    · exact ⟨S, s1, by rw [q1 p z]; exact s2⟩
/-- two parts, one behind the other or side by side -/
theorem gl_two {fi la nu fo fo' : Nat → Int32} {le : Nat → Nat} {A B : WW → WW} {l : List (WW → WW)} {d t b1 b0 Fa La Fb Lb : Nat} {na nb : Bool} (ht : t = 10 ∨ t = 11) (h1 : b1 ≤ d) (h0 : b0 ≤ b1) (lf : Fa < 2 ^ 10) (ll : La < 2 ^ 10) (lf' : Fb < 2 ^ 10) (ll' : Lb < 2 ^ 10) (EA : gl_E fo le b1 d Fa La na A) (EB : gl_E fo le b0 b1 Fb Lb nb B) (h : gl_B fi la nu fo le l b0) (j11 : t = 11 → fo' = fo) (j10 : t = 10 → ∀ p' p, gl_f fo' p' p ↔ gl_f fo p' p ∨ (gl_t La p' ∧ gl_t Fb p)) (keep : ∀ p, p < b1 → fo' p = fo p) : ∃ C, wk_s t (A :: B :: l) = C :: l ∧ gl_B (upd fi l.length (nI (if t = 11 ∨ na = true then Fa ||| Fb else Fa))) (upd la l.length (nI (if t = 11 ∨ nb = true then Lb ||| La else Lb))) (upd nu l.length (bi (if t = 10 then na && nb else na || nb))) fo' le (C :: l) d := by
  obtain ⟨ca, ea⟩ := EA
  obtain ⟨cb, eb⟩ := EB
  have hd : ∀ p, gl_r b1 d p → gl_r b0 b1 p → False := fun p x y => by have := x.1; have := y.2; omega
  have bf : (if t = 11 ∨ na = true then Fa ||| Fb else Fa) < 2 ^ 10 := by
    split
    · exact Nat.or_lt_two_pow lf lf'
    · exact lf
  have bl : (if t = 11 ∨ nb = true then Lb ||| La else Lb) < 2 ^ 10 := by
    split
    · exact Nat.or_lt_two_pow ll' ll
    · exact ll'
  have lower := gl_B_c (fi' := upd fi l.length (nI (if t = 11 ∨ na = true then Fa ||| Fb else Fa))) (la' := upd la l.length (nI (if t = 11 ∨ nb = true then Lb ||| La else Lb))) (nu' := upd nu l.length (bi (if t = 10 then na && nb else na || nb))) (fo' := fo') (le' := le) (fun j hj => ⟨pk_un (by omega), pk_un (by omega), pk_un (by omega)⟩) (fun p hp => keep p (by omega)) (fun _ _ => rfl) h
  have hF : ∀ p, gl_t (if t = 11 ∨ na = true then Fa ||| Fb else Fa) p ↔ gl_t Fa p ∨ ((t = 11 ∨ na = true) ∧ gl_t Fb p) := by
    intro p
    by_cases z : t = 11 ∨ na = true
    · rw [if_pos z, gl_or]; exact ⟨fun w => w.elim Or.inl (fun w => Or.inr ⟨z, w⟩), fun w => w.elim Or.inl (fun w => Or.inr w.2)⟩
    · rw [if_neg z]; exact ⟨Or.inl, fun w => w.elim id (fun w => absurd w.1 z)⟩
  have hL : ∀ p, gl_t (if t = 11 ∨ nb = true then Lb ||| La else Lb) p ↔ gl_t Lb p ∨ ((t = 11 ∨ nb = true) ∧ gl_t La p) := by
    intro p
    by_cases z : t = 11 ∨ nb = true
    · rw [if_pos z, gl_or]; exact ⟨fun w => w.elim Or.inl (fun w => Or.inr ⟨z, w⟩), fun w => w.elim Or.inl (fun w => Or.inr w.2)⟩
    · rw [if_neg z]; exact ⟨Or.inl, fun w => w.elim id (fun w => absurd w.1 z)⟩
  have ra : ∀ p, gl_r b1 d p → gl_r b0 d p := fun p x => ⟨by have := x.1; omega, x.2⟩
  have rb : ∀ p, gl_r b0 b1 p → gl_r b0 d p := fun p x => ⟨x.1, by have := x.2; omega⟩
  have foc : ∀ p' p, gl_f fo' p' p → gl_f fo p' p ∨ (gl_t La p' ∧ gl_t Fb p) := by
    intro p' p z
    rcases ht with e | e
    · exact (j10 e p' p).mp z
    · rw [j11 e] at z; exact Or.inl z
  have cl : wk_cl (gl_r b0 d) (gl_t (if t = 11 ∨ na = true then Fa ||| Fb else Fa)) (gl_t (if t = 11 ∨ nb = true then Lb ||| La else Lb)) (gl_f fo') := by
    refine ⟨fun p z => ?_, fun p z => ?_, fun p' p x z => ?_⟩
    · rcases (hF p).mp z with w | w
      · exact ra p (ca.1 p w)
      · exact rb p (cb.1 p w.2)
    · rcases (hL p).mp z with w | w
      · exact rb p (cb.2.1 p w)
      · exact ra p (ca.2.1 p w.2)
    · rcases foc p' p z with w | w
      · by_cases y : b1 ≤ p'
        · exact ra p (ca.2.2 p' p ⟨y, x.2⟩ w)
        · exact rb p (cb.2.2 p' p ⟨x.1, by omega⟩ w)
      · exact rb p (cb.1 p w.2)
  rcases ht with rfl | rfl
  · refine ⟨wk_C A B, wk_s_10, b0, _, _, na && nb, by omega, ⟨⟨bf, bl⟩, pk_us, pk_us, pk_us⟩, ⟨cl, fun st i j n => ?_⟩, lower⟩
    refine (wk_cat (ea st) (eb st) ca cb hd (j10 rfl) i j n).trans (wk_G_F (fun p => ?_) (fun p => ?_) ?_ i j n)
    · rw [hF]
      exact ⟨fun w => w.elim Or.inl (fun w => Or.inr ⟨Or.inr w.1, w.2⟩), fun w => w.elim Or.inl (fun w => Or.inr ⟨w.1.elim (fun y => absurd y (by decide)) id, w.2⟩)⟩
    · rw [hL]
      exact ⟨fun w => w.elim Or.inl (fun w => Or.inr ⟨Or.inr w.1, w.2⟩), fun w => w.elim Or.inl (fun w => Or.inr ⟨w.1.elim (fun y => absurd y (by decide)) id, w.2⟩)⟩
    · rw [Bool.and_eq_true]
  · have e := j11 rfl
    subst e
    refine ⟨wk_U A B, wk_s_11, b0, _, _, na || nb, by omega, ⟨⟨bf, bl⟩, pk_us, pk_us, pk_us⟩, ⟨cl, fun st i j n => ?_⟩, lower⟩
    refine (wk_alt (ea st) (eb st) ca cb hd i j n).trans (wk_G_F (fun p => ?_) (fun p => ?_) ?_ i j n)
    · rw [hF]
      exact ⟨fun w => w.elim Or.inl (fun w => Or.inr ⟨Or.inl rfl, w⟩), fun w => w.elim Or.inl (fun w => Or.inr w.2)⟩
    · rw [hL]
      exact ⟨fun w => w.elim Or.inl (fun w => Or.inr ⟨Or.inl rfl, w⟩), fun w => w.elim Or.inl (fun w => Or.inr w.2)⟩
    · rw [Bool.or_eq_true]
/-- one part repeated, or left out -/
theorem gl_one {fi la nu fo fo' : Nat → Int32} {le : Nat → Nat} {A : WW → WW} {l : List (WW → WW)} {d t b F L : Nat} {na : Bool} (ht : t = 12 ∨ t = 13 ∨ t = 14) (hb : b ≤ d) (lf : F < 2 ^ 10) (ll : L < 2 ^ 10) (e1 : fi l.length = nI F) (e2 : la l.length = nI L) (E : gl_E fo le b d F L na A) (h : gl_B fi la nu fo le l b) (j14 : t = 14 → fo' = fo) (j12 : t ≠ 14 → ∀ p' p, gl_f fo' p' p ↔ gl_f fo p' p ∨ (gl_t L p' ∧ gl_t F p)) (keep : ∀ p, p < b → fo' p = fo p) : ∃ C, wk_s t (A :: l) = C :: l ∧ gl_B fi la (upd nu l.length (bi (na || decide (t ≠ 13)))) fo' le (C :: l) d := by
  obtain ⟨ca, ea⟩ := E
  have lower := gl_B_c (fi' := fi) (la' := la) (nu' := upd nu l.length (bi (na || decide (t ≠ 13)))) (fo' := fo') (le' := le) (fun j hj => ⟨rfl, rfl, pk_un (by omega)⟩) (fun p hp => keep p hp) (fun _ _ => rfl) h
  have cl : wk_cl (gl_r b d) (gl_t F) (gl_t L) (gl_f fo') := by
    refine ⟨ca.1, ca.2.1, fun p' p x z => ?_⟩
    by_cases e : t = 14
    · rw [j14 e] at z; exact ca.2.2 p' p x z
    · rcases (j12 e p' p).mp z with w | w
      · exact ca.2.2 p' p x w
      · exact ca.1 p w.2
  rcases ht with rfl | rfl | rfl
  · refine ⟨wk_S A, wk_s_12, b, F, L, na || decide (12 ≠ 13), hb, ⟨⟨lf, ll⟩, e1, e2, pk_us⟩, ⟨cl, fun st i j n => ?_⟩, lower⟩
    refine (wk_star (ea st) (j12 (by decide)) i j n).trans (wk_G_F (fun p => Iff.rfl) (fun p => Iff.rfl) ?_ i j n)
    cases na <;> decide
  · refine ⟨wk_C A (wk_S A), wk_s_13, b, F, L, na || decide (13 ≠ 13), hb, ⟨⟨lf, ll⟩, e1, e2, pk_us⟩, ⟨cl, fun st i j n => ?_⟩, lower⟩
    refine (wk_plus (ea st) (j12 (by decide)) i j n).trans (wk_G_F (fun p => Iff.rfl) (fun p => Iff.rfl) ?_ i j n)
    cases na <;> decide
  · have e := j14 rfl
    subst e
    refine ⟨wk_O A, wk_s_14, b, F, L, na || decide (14 ≠ 13), hb, ⟨⟨lf, ll⟩, e1, e2, pk_us⟩, ⟨cl, fun st i j n => ?_⟩, lower⟩
    refine (wk_opt (ea st) i j n).trans (wk_G_F (fun p => Iff.rfl) (fun p => Iff.rfl) ?_ i j n)
    cases na <;> decide
end
section
/-! the component builds the positions of an expression -/
def gl_S (sp : Nat → Int32) (le : Nat → Nat) (d : Nat) : Prop := ∀ t, t < 6 → ∃ S, S < 2 ^ 10 ∧ sp t = nI S ∧ ∀ p, S.testBit p = true ↔ (p < d ∧ le p = t)
def gl_ok (fo : Nat → Int32) (d : Nat) : Prop := ∀ p, p < d → ∃ S, S < 2 ^ 10 ∧ fo p = nI S
theorem gl_S_let {sp : Nat → Int32} {le : Nat → Nat} {d t : Nat} (hd : d < 10) (ht : t < 6) (h : gl_S sp le d) : ∃ S, S < 2 ^ 10 ∧ sp t = nI S ∧ gl_S (upd sp t (nI (S ||| 2 ^ d))) (fun p => if p = d then t else le p) (d + 1) := by
  obtain ⟨S, s1, s2, s3⟩ := h t ht
  refine ⟨S, s1, s2, fun x hx => ?_⟩
  by_cases e : x = t
  · subst e
    refine ⟨S ||| 2 ^ d, bb_or2_lt s1 hd, pk_us, fun p => ?_⟩
    rw [bb_or2, Bool.or_eq_true, decide_eq_true_eq, s3]
    dsimp only
    constructor
    · rintro (⟨a, b⟩ | rfl)
      · exact ⟨by omega, by rw [if_neg (by omega)]; exact b⟩
      · exact ⟨by omega, if_pos rfl⟩
    · rintro ⟨a, b⟩
      by_cases y : p = d
      · exact Or.inr y.symm
      · rw [if_neg y] at b; exact Or.inl ⟨by omega, b⟩
  · obtain ⟨S', a1, a2, a3⟩ := h x hx
    refine ⟨S', a1, by rw [pk_un e]; exact a2, fun p => ?_⟩
    rw [a3]
    dsimp only
    constructor
    · rintro ⟨a, b⟩; exact ⟨by omega, by rw [if_neg (by omega)]; exact b⟩
    · rintro ⟨a, b⟩
      by_cases y : p = d
      · rw [if_pos y] at b; exact absurd b.symm e
      · rw [if_neg y] at b; exact ⟨by omega, b⟩
section
variable {f_level f_indexed f_parts f_highs f_tokens f_conditionLength f_conditionNames f_depth f_found f_testAt f_count f_different f_cheapest f_positions f_starts f_accepts f_empty f_written f_target f_steps : Int32} {a_state a_old : Nat → Int64} {a_kept a_leaving a_coming a_ofType a_withLabels a_kind a_types a_direction a_low a_high a_variable a_labels a_token a_condition a_truth a_number a_variableOf a_atPart a_trail a_here a_bound a_named a_used a_weight a_left a_ends : Nat → Int32} {a_seen a_sum : Nat → Int64} {a_some a_letter a_follow a_firstOf a_lastOf a_nullable a_spelled a_visited a_front a_next : Nat → Int32} {post : SX → Prop}
theorem x_build_32 {nt : Nat} {c op : Nat → Nat} (EP : wk_op c nt op) (hn : nt ≤ 10) (tk : ∀ k, k < nt → a_token k = nI (c k)) (h : ∀ d F L (nul : Bool) le a_letter a_follow a_firstOf a_lastOf a_nullable a_spelled, d ≤ 10 → gl_ok a_follow d → F < 2 ^ 10 → L < 2 ^ 10 → gl_E a_follow le 0 d F L nul (wk_h (wk_st c nt nt)) → gl_S a_spelled le d → post (f_level, f_indexed, f_parts, f_highs, f_tokens, f_conditionLength, f_conditionNames, f_depth, f_found, f_testAt, f_count, f_different, f_cheapest, nI d, nI F, nI L, bi nul, f_written, f_target, f_steps, a_state, a_old, a_kept, a_leaving, a_coming, a_ofType, a_withLabels, a_kind, a_types, a_direction, a_low, a_high, a_variable, a_labels, a_token, a_condition, a_truth, a_number, a_variableOf, a_atPart, a_trail, a_here, a_bound, a_named, a_used, a_weight, a_left, a_ends, a_seen, a_sum, a_some, a_letter, a_follow, a_firstOf, a_lastOf, a_nullable, a_spelled, a_visited, a_front, a_next)) : ∀ r n j, j + r = nt → r < n → ∀ d le a_letter a_follow a_firstOf a_lastOf a_nullable a_spelled, gl_B a_firstOf a_lastOf a_nullable a_follow le (wk_st c nt j) d → d ≤ j → gl_ok a_follow d → gl_S a_spelled le d → wX_build_32 post n (nI (wk_st c nt j).length) (dn r) f_level f_indexed f_parts f_highs f_tokens f_conditionLength f_conditionNames f_depth f_found f_testAt f_count f_different f_cheapest (nI d) f_starts f_accepts f_empty f_written f_target f_steps a_state a_old a_kept a_leaving a_coming a_ofType a_withLabels a_kind a_types a_direction a_low a_high a_variable a_labels a_token a_condition a_truth a_number a_variableOf a_atPart a_trail a_here a_bound a_named a_used a_weight a_left a_ends a_seen a_sum a_some a_letter a_follow a_firstOf a_lastOf a_nullable a_spelled a_visited a_front a_next := by
  intro r
  induction r with
  | zero =>
    intro n j hj hn' d le a_letter a_follow a_firstOf a_lastOf a_nullable a_spelled B hd ok SP
    obtain ⟨n, rfl⟩ : ∃ k, n = k + 1 := ⟨n - 1, by omega⟩
    have hj : j = nt := hj
    subst hj
    have len := (wk_len EP j (Nat.le_refl _)).1
    rw [Nat.sub_self, EP.1] at len
    have H := h
    revert B len H
    generalize wk_st c j j = l
    intro B len H
    cases l with
    | nil => exact absurd len (by decide)
    | cons A l =>
      cases l with
      | cons B' l => rw [List.length_cons, List.length_cons] at len; omega
      | nil =>
        obtain ⟨b, F, L, nul, hb, ⟨⟨lF, lL⟩, e1, e2, e3⟩, E, hz⟩ := B
        have hz : b = 0 := hz
        subst hz
        refine br_t (by decide) (nm_r (e' := nI F) e1 (nm_r (e' := nI L) e2 (nm_r (e' := bi nul) e3 ⟨by cases nul <;> rfl, by cases nul <;> decide, H d F L nul le a_letter a_follow a_firstOf a_lastOf a_nullable a_spelled (by omega) ok lF lL E SP⟩)))
  | succ r ih =>
    intro n j hj hn' d le a_letter a_follow a_firstOf a_lastOf a_nullable a_spelled B hd ok SP
    obtain ⟨n, rfl⟩ : ∃ k, n = k + 1 := ⟨n - 1, by omega⟩
    have e : nt - 1 - j = r := by omega
    obtain ⟨_, len, sh⟩ := wk_len EP j (by omega)
    have sh := sh (by omega)
    rw [e] at sh
    have E : wk_st c nt (j + 1) = wk_s (c r) (wk_st c nt j) := by
      show wk_s (c (nt - 1 - j)) _ = _
      rw [e]
    have ih2 := ih n (j + 1) (by omega) (by omega)
    rw [E] at ih2
    have tkr : a_token (nI r).toNatClampNeg = nI (c r) := by rw [nI_clamp (by omega)]; exact tk r (by omega)
    have c14 := (EP.2.2 r (by omega)).1
    clear E
    generalize wk_st c nt j = l at B len sh ih2 ⊢
    rw [dn_s]
    refine br_f (nI_pos (by omega)) ⟨vp_in_nI (by omega) (by omega), nm_r (e' := nI (c r)) tkr ?_⟩
    generalize c r = t at *
    have K : ∀ (C : List (WW → WW)), wk_s t l = C → ∀ d le a_letter a_follow a_firstOf a_lastOf a_nullable a_spelled, gl_B a_firstOf a_lastOf a_nullable a_follow le C d → d ≤ j + 1 → gl_ok a_follow d → gl_S a_spelled le d → ∀ x, x = nI r + (-1) → wX_build_32 post n (nI C.length) x f_level f_indexed f_parts f_highs f_tokens f_conditionLength f_conditionNames f_depth f_found f_testAt f_count f_different f_cheapest (nI d) f_starts f_accepts f_empty f_written f_target f_steps a_state a_old a_kept a_leaving a_coming a_ofType a_withLabels a_kind a_types a_direction a_low a_high a_variable a_labels a_token a_condition a_truth a_number a_variableOf a_atPart a_trail a_here a_bound a_named a_used a_weight a_left a_ends a_seen a_sum a_some a_letter a_follow a_firstOf a_lastOf a_nullable a_spelled a_visited a_front a_next := by
      intro C eC d le a_letter a_follow a_firstOf a_lastOf a_nullable a_spelled B hd ok SP x ex
      subst eC
      rw [ex, dn_m]
      exact ih2 d le a_letter a_follow a_firstOf a_lastOf a_nullable a_spelled B hd ok SP
    rcases sh with a | ⟨a, A, B', l', rfl⟩ | ⟨a, A, l', rfl⟩
    · -- a letter
      have pw : 2 ^ d < 2 ^ 10 := Nat.pow_lt_pow_right (by decide) (by omega)
      have cd : (nI d).toNatClampNeg = d := nI_clamp (by omega)
      have ct : (nI t).toNatClampNeg = t := nI_clamp (by omega)
      have cl : (nI l.length).toNatClampNeg = l.length := nI_clamp (by omega)
      have vd : vp_in (nI d) 10 := vp_in_nI (by omega) (by omega)
      have vt : vp_in (nI t) 6 := vp_in_nI a (by omega)
      have vl : vp_in (nI l.length) 10 := vp_in_nI (by omega) (by omega)
      obtain ⟨S, s1, s2, s3⟩ := gl_S_let (show d < 10 by omega) a SP
      have o := bb_or2_lt s1 (show d < 10 by omega)
      refine br_f (nI_ge (b := 6) a (by omega)) (nm_r (e' := nI (2 ^ d)) (bb_1shl (by omega)) ⟨vd, nm_e (nm_r (nI_1 d) ⟨vd, nm_r (e' := upd a_follow d 0) (by rw [cd, bb_s0]) ⟨vt, vt, nm_r (e' := upd a_spelled t (nI (S ||| 2 ^ d))) (by rw [ct, s2, bb_or, bb_sh (by omega)]) ⟨vl, nm_r (e' := upd a_firstOf l.length (nI (2 ^ d))) (by rw [cl, bb_sh (by omega)]) ⟨vl, nm_r (e' := upd a_lastOf l.length (nI (2 ^ d))) (by rw [cl, bb_sh (by omega)]) (nm_r (nI_1 _) ⟨vl, nm_r (e' := upd a_nullable l.length 0) (by rw [cl, bb_b0]) (K _ (wk_s_l a) (d + 1) _ _ _ _ _ _ _ (gl_let (by omega) B) (by omega) ?_ s3)⟩)⟩⟩⟩⟩)⟩)
      intro p hp
      by_cases y : p = d
      · subst y; exact ⟨0, by decide, pk_us⟩
      · rw [pk_un y]; exact ok p (by omega)
    · -- two parts
      rw [List.length_cons, List.length_cons] at len ⊢
      obtain ⟨b1, Fa, La, na, hb1, ⟨⟨lFa, lLa⟩, a1, a2, a3⟩, EA, b0, Fb, Lb, nb, hb0, ⟨⟨lFb, lLb⟩, c1, c2, c3⟩, EB, BB⟩ := B
      rw [List.length_cons] at a1 a2 a3
      refine br_t (nI_le (a := 6) (by omega) (by omega)) (br_t (nI_le (b := 11) (by omega) (by omega)) (nm_r (e' := nI (l'.length + 1)) (pk_m1 _) ?_))
      rw [nI_pred]
      refine x_two a (by omega) (by omega) (by omega) lFa lLa lFb lLb a1 c1 a2 c2 a3 c3 ok fun fo q11 q10 => ?_
      have jn : t = 10 → (∀ p' p, gl_f fo p' p ↔ gl_f a_follow p' p ∨ (gl_t La p' ∧ gl_t Fb p)) ∧ ∀ p, p < d → ∃ S, S < 2 ^ 10 ∧ fo p = nI S := fun y => gl_join (fun p z => (EA.1.2.1 p z).2) ok lFb (q10 y).1 (q10 y).2
      have keep : ∀ p, p < b1 → fo p = a_follow p := by
        intro p hp
        rcases a with y | y
        · exact (q10 y).1 p fun z => by have := (EA.1.2.1 p z.2).1; omega
        · rw [q11 y]
      obtain ⟨C, eC, BC⟩ := gl_two a hb1 hb0 lFa lLa lFb lLb EA EB BB q11 (fun y => (jn y).1) keep
      refine K (C :: l') eC d le _ _ _ _ _ _ BC (by omega) ?_ SP
      rcases a with y | y
      · exact (jn y).2
      · rw [q11 y]; exact ok
    · -- one part
      rw [List.length_cons] at len ⊢
      obtain ⟨b, F, L, na, hb, ⟨⟨lF, lL⟩, a1, a2, a3⟩, EA, BB⟩ := B
      have cl : (nI l'.length).toNatClampNeg = l'.length := nI_clamp (by omega)
      have vl : vp_in (nI l'.length) 10 := vp_in_nI (by omega) (by omega)
      have s166 : ∀ fo, (t = 14 → fo = a_follow) → (t ≠ 14 → (∀ p' p, gl_f fo p' p ↔ gl_f a_follow p' p ∨ (gl_t L p' ∧ gl_t F p)) ∧ (∀ p, p < d → ∃ S, S < 2 ^ 10 ∧ fo p = nI S)) → (∀ p, p < b → fo p = a_follow p) → wX_build_166 post (wX_build_32 post n) (nI (l'.length + 1)) (nI r) (nI t) f_level f_indexed f_parts f_highs f_tokens f_conditionLength f_conditionNames f_depth f_found f_testAt f_count f_different f_cheapest (nI d) f_starts f_accepts f_empty f_written f_target f_steps a_state a_old a_kept a_leaving a_coming a_ofType a_withLabels a_kind a_types a_direction a_low a_high a_variable a_labels a_token a_condition a_truth a_number a_variableOf a_atPart a_trail a_here a_bound a_named a_used a_weight a_left a_ends a_seen a_sum a_some a_letter fo a_firstOf a_lastOf a_nullable a_spelled a_visited a_front a_next := by
        intro fo j14 j12 keep
        obtain ⟨C, eC, BC⟩ := gl_one a hb lF lL a1 a2 EA BB j14 (fun y => (j12 y).1) keep
        have okf : gl_ok fo d := by
          by_cases y : t = 14
          · rw [j14 y]; exact ok
          · exact (j12 y).2
        unfold wX_build_166
        rw [nI_pred]
        refine ⟨vl, ?_⟩
        rw [cl, a3]
        by_cases y : t = 13
        · refine br_t (congrArg nI y) ⟨vl, nm_r (e' := upd a_nullable l'.length (bi (na || decide (t ≠ 13)))) ?_ (K (C :: l') eC d le _ _ _ _ _ _ BC (by omega) okf SP)⟩
          rw [decide_eq_false (fun z => z y)]
          cases na <;> rfl
        · refine br_f (fun z => y ((nI_eq (b := 13) (by omega) (by omega)).mp z)) ⟨vl, nm_r (e' := upd a_nullable l'.length (bi (na || decide (t ≠ 13)))) ?_ (K (C :: l') eC d le _ _ _ _ _ _ BC (by omega) okf SP)⟩
          rw [decide_eq_true y]
          cases na <;> rfl
      refine br_t (nI_le (a := 6) (by omega) (by omega)) (br_f (nI_ge (a := 11) (by omega) (by omega)) ?_)
      by_cases y : t = 14
      · exact br_t (nI_le (a := 14) (by omega) (by omega)) (s166 a_follow (fun _ => rfl) (fun z => absurd y z) (fun _ _ => rfl))
      · refine br_f (nI_ge (b := 14) (by omega) (by omega)) ?_
        rw [nI_pred, cl, a1, a2]
        refine ⟨vl, vl, x_join (by omega) lL lF ok fun fo q1 q2 => s166 fo (fun z => absurd z y) (fun _ => gl_join (fun p z => (EA.1.2.1 p z).2) ok lF q1 q2) (fun p hp => q1 p fun z => ?_)⟩
        have := (EA.1.2.1 p z.2).1
        omega
theorem x_build {nt : Nat} {c op : Nat → Nat} (EP : wk_op c nt op) (hn : nt ≤ 10) (h0 : 0 < nt) (tk : ∀ k, k < nt → a_token k = nI (c k)) (h : ∀ d F L (nul : Bool) le a_letter a_follow a_firstOf a_lastOf a_nullable a_spelled, d ≤ 10 → gl_ok a_follow d → F < 2 ^ 10 → L < 2 ^ 10 → gl_E a_follow le 0 d F L nul (wk_h (wk_st c nt nt)) → gl_S a_spelled le d → post (f_level, f_indexed, f_parts, f_highs, f_tokens, f_conditionLength, f_conditionNames, f_depth, f_found, f_testAt, f_count, f_different, f_cheapest, nI d, nI F, nI L, bi nul, f_written, f_target, f_steps, a_state, a_old, a_kept, a_leaving, a_coming, a_ofType, a_withLabels, a_kind, a_types, a_direction, a_low, a_high, a_variable, a_labels, a_token, a_condition, a_truth, a_number, a_variableOf, a_atPart, a_trail, a_here, a_bound, a_named, a_used, a_weight, a_left, a_ends, a_seen, a_sum, a_some, a_letter, a_follow, a_firstOf, a_lastOf, a_nullable, a_spelled, a_visited, a_front, a_next)) : wpX_build post (f_level, f_indexed, f_parts, f_highs, f_tokens, f_conditionLength, f_conditionNames, f_depth, f_found, f_testAt, f_count, f_different, f_cheapest, f_positions, f_starts, f_accepts, f_empty, f_written, f_target, f_steps, a_state, a_old, a_kept, a_leaving, a_coming, a_ofType, a_withLabels, a_kind, a_types, a_direction, a_low, a_high, a_variable, a_labels, a_token, a_condition, a_truth, a_number, a_variableOf, a_atPart, a_trail, a_here, a_bound, a_named, a_used, a_weight, a_left, a_ends, a_seen, a_sum, a_some, a_letter, a_follow, a_firstOf, a_lastOf, a_nullable, a_spelled, a_visited, a_front, a_next) (nI nt) := by
  have key : ∀ n i sp, i ≤ 6 → 6 - i < n → (∀ x, x < i → sp x = 0) → wX_build_7 post (nI nt) f_level f_indexed f_parts f_highs f_tokens f_conditionLength f_conditionNames f_depth f_found f_testAt f_count f_different f_cheapest (nI 0) f_starts f_accepts f_empty f_written f_target f_steps n (nI i) a_state a_old a_kept a_leaving a_coming a_ofType a_withLabels a_kind a_types a_direction a_low a_high a_variable a_labels a_token a_condition a_truth a_number a_variableOf a_atPart a_trail a_here a_bound a_named a_used a_weight a_left a_ends a_seen a_sum a_some a_letter a_follow a_firstOf a_lastOf a_nullable sp a_visited a_front a_next := by
    intro n
    induction n with
    | zero => intro i sp _ hn; omega
    | succ n ih =>
      intro i sp hi hn' J
      by_cases e : i = 6
      · subst e
        refine br_t (nI_le (b := 6) (Nat.le_refl _) (by omega)) (nm_r (e' := dn nt) ?_ ⟨nt + 1, x_build_32 EP hn tk h nt (nt + 1) 0 (by omega) (by omega) 0 (fun _ => 0) _ _ _ _ _ _ rfl (by omega) (fun p hp => absurd hp (Nat.not_lt_zero p)) (fun t ht => ⟨0, by decide, J t ht, fun p => ⟨fun z => by rw [Nat.zero_testBit] at z; exact absurd z (by decide), fun z => absurd z.1 (Nat.not_lt_zero p)⟩⟩)⟩)
        obtain ⟨k, rfl⟩ : ∃ k, nt = k + 1 := ⟨nt - 1, by omega⟩
        exact nI_pred k
      · have hi : i < 6 := by omega
        refine br_f (nI_ge (b := 6) hi (by omega)) ⟨vp_in_nI hi (by omega), nm_r (e' := upd sp i 0) (by rw [nI_clamp (by omega), bb_s0]) (nm_r (nI_1 i) (ih (i + 1) _ (by omega) (by omega) fun x hx => ?_))⟩
        by_cases y : x = i
        · subst y; exact pk_us
        · rw [pk_un y]; exact J x (by omega)
  unfold wpX_build
  exact ⟨7, key 7 0 _ (by omega) (by omega) (fun x hx => absurd hx (Nat.not_lt_zero x))⟩
end
end
section
/-! the component spreads over a node's edges -/
def gsu (g : Nat → Int64) (k : Nat) : WW := fun t i j => ∃ e, e < k ∧ ¬ g (8 + e) = 0 ∧ ((t = eY g e ∧ eF g e = i ∧ eT g e = j) ∨ (t = 3 + eY g e ∧ eT g e = i ∧ eF g e = j))
theorem gsu_8 {g : Nat → Int64} {k t i j : Nat} (h : gsu g k t i j) : j < 8 := by
  obtain ⟨e, _, _, ⟨_, _, h⟩ | ⟨_, _, h⟩⟩ := h
  · rw [← h]; exact (eT_e g e).2
  · rw [← h]; exact (eF_e g e).2
theorem gsu_s {g : Nat → Int64} {k t i j : Nat} : gsu g (k + 1) t i j ↔ gsu g k t i j ∨ (¬ g (8 + k) = 0 ∧ ((t = eY g k ∧ eF g k = i ∧ eT g k = j) ∨ (t = 3 + eY g k ∧ eT g k = i ∧ eF g k = j))) := by
  constructor
  · rintro ⟨e, h1, h2⟩
    by_cases z : e = k
    · subst z; exact Or.inr h2
    · exact Or.inl ⟨e, by omega, h2⟩
  · rintro (⟨e, h1, h2⟩ | h)
    · exact ⟨e, by omega, h2⟩
    · exact ⟨k, by omega, h⟩
/-- sets of positions by node -/
def gl_N (nx : Nat → Int32) (N : Nat → Nat) : Prop := ∀ m, m < 8 → nx m = nI (N m) ∧ N m < 2 ^ 10
theorem gl_N_up {nx : Nat → Int32} {N : Nat → Nat} {x V : Nat} (hV : V < 2 ^ 10) (h : gl_N nx N) : gl_N (upd nx x (nI V)) (fun m => if m = x then V else N m) := by
  intro m hm
  by_cases e : m = x
  · subst e; rw [pk_us]; simp only [if_true]; exact ⟨by trivial, hV⟩
  · rw [pk_un e]; simp only [if_neg e]; exact h m hm
section
variable {f_level f_indexed f_parts f_highs f_tokens f_conditionLength f_conditionNames f_depth f_found f_testAt f_count f_different f_cheapest f_positions f_starts f_accepts f_empty f_written f_target f_steps : Int32} {a_state a_old : Nat → Int64} {a_kept a_leaving a_coming a_ofType a_withLabels a_kind a_types a_direction a_low a_high a_variable a_labels a_token a_condition a_truth a_number a_variableOf a_atPart a_trail a_here a_bound a_named a_used a_weight a_left a_ends : Nat → Int32} {a_seen a_sum : Nat → Int64} {a_some a_letter a_follow a_firstOf a_lastOf a_nullable a_spelled a_visited a_front a_next : Nat → Int32} {post : SX → Prop}
theorem x_spread {n B d : Nat} {N : Nat → Nat} {le : Nat → Nat} (V : VG a_state) (I : IX a_state a_leaving a_coming a_ofType a_withLabels) (hn : n < 8) (hB : B < 2 ^ 10) (Bd : ∀ p, B.testBit p = true → p < d) (SP : gl_S a_spelled le d) (X : gl_N a_next N) (h : ∀ nx N', gl_N nx N' → (∀ m, m < 8 → ∀ p, (N' m).testBit p = true ↔ (N m).testBit p = true ∨ (B.testBit p = true ∧ gsu a_state 12 (le p) n m)) → post (f_level, f_indexed, f_parts, f_highs, f_tokens, f_conditionLength, f_conditionNames, f_depth, f_found, f_testAt, f_count, f_different, f_cheapest, f_positions, f_starts, f_accepts, f_empty, f_written, f_target, f_steps, a_state, a_old, a_kept, a_leaving, a_coming, a_ofType, a_withLabels, a_kind, a_types, a_direction, a_low, a_high, a_variable, a_labels, a_token, a_condition, a_truth, a_number, a_variableOf, a_atPart, a_trail, a_here, a_bound, a_named, a_used, a_weight, a_left, a_ends, a_seen, a_sum, a_some, a_letter, a_follow, a_firstOf, a_lastOf, a_nullable, a_spelled, a_visited, a_front, nx)) : wpX_spread post (f_level, f_indexed, f_parts, f_highs, f_tokens, f_conditionLength, f_conditionNames, f_depth, f_found, f_testAt, f_count, f_different, f_cheapest, f_positions, f_starts, f_accepts, f_empty, f_written, f_target, f_steps, a_state, a_old, a_kept, a_leaving, a_coming, a_ofType, a_withLabels, a_kind, a_types, a_direction, a_low, a_high, a_variable, a_labels, a_token, a_condition, a_truth, a_number, a_variableOf, a_atPart, a_trail, a_here, a_bound, a_named, a_used, a_weight, a_left, a_ends, a_seen, a_sum, a_some, a_letter, a_follow, a_firstOf, a_lastOf, a_nullable, a_spelled, a_visited, a_front, a_next) (nI n) (nI B) := by
  have cn : (nI n).toNatClampNeg = n := nI_clamp (by omega)
  have vn : vp_in (nI n) 8 := vp_in_nI hn (by omega)
  obtain ⟨⟨I1, I2, I3⟩, _⟩ := I
  obtain ⟨L, l1, l2, l3⟩ := I1 n hn
  obtain ⟨C, c1, c2, c3⟩ := I2 n hn
  have LC : L ||| C < 2 ^ 12 := Nat.or_lt_two_pow l1 c1
  have LCt : ∀ e, (L ||| C).testBit e = true ↔ (e < 12 ∧ ¬ a_state (8 + e) = 0 ∧ (eF a_state e = n ∨ eT a_state e = n)) := by
    intro e
    rw [Nat.testBit_or, Bool.or_eq_true, l3, c3]
    constructor
    · rintro (⟨x, y, z⟩ | ⟨x, y, z⟩)
      · exact ⟨x, y, Or.inl z⟩
      · exact ⟨x, y, Or.inr z⟩
    · rintro ⟨x, y, z | z⟩
      · exact Or.inl ⟨x, y, z⟩
      · exact Or.inr ⟨x, y, z⟩
  -- one store
  have one : ∀ (x t : Nat) (nx : Nat → Int32) (N' : Nat → Nat), x < 8 → t < 6 → gl_N nx N' → ∃ V, V < 2 ^ 10 ∧ vp_nar .short (((nx x) ||| (nI B &&& a_spelled t)).toInt16.toInt32) = nI V ∧ ∀ p, V.testBit p = true ↔ (N' x).testBit p = true ∨ (B.testBit p = true ∧ le p = t) := by
    intro x t nx N' hx ht hN
    obtain ⟨S, s1, s2, s3⟩ := SP t ht
    obtain ⟨e1, e2⟩ := hN x hx
    have ba : B &&& S < 2 ^ 10 := Nat.lt_of_le_of_lt Nat.and_le_left hB
    have o := Nat.or_lt_two_pow e2 ba
    refine ⟨N' x ||| (B &&& S), o, by rw [e1, s2, nx_and, bb_or, bb_sh (by omega)], fun p => ?_⟩
    rw [Nat.testBit_or, Nat.testBit_and, Bool.or_eq_true, Bool.and_eq_true, s3]
    exact ⟨fun w => w.elim Or.inl (fun w => Or.inr ⟨w.1, w.2.2⟩), fun w => w.elim Or.inl (fun w => Or.inr ⟨w.1, Bd p w.1, w.2⟩)⟩
  have key : ∀ k i nx N', i ≤ 12 → 12 - i < k → gl_N nx N' → (∀ m, m < 8 → ∀ p, (N' m).testBit p = true ↔ (N m).testBit p = true ∨ (B.testBit p = true ∧ gsu a_state i (le p) n m)) → wX_spread_17 post (nI n) (nI B) (nI (L ||| C)) f_level f_indexed f_parts f_highs f_tokens f_conditionLength f_conditionNames f_depth f_found f_testAt f_count f_different f_cheapest f_positions f_starts f_accepts f_empty f_written f_target f_steps k (nI i) a_state a_old a_kept a_leaving a_coming a_ofType a_withLabels a_kind a_types a_direction a_low a_high a_variable a_labels a_token a_condition a_truth a_number a_variableOf a_atPart a_trail a_here a_bound a_named a_used a_weight a_left a_ends a_seen a_sum a_some a_letter a_follow a_firstOf a_lastOf a_nullable a_spelled a_visited a_front nx := by
    intro k
    induction k with
    | zero => intro i nx N' _ hk; omega
    | succ k ih =>
      intro i nx N' hi hk hN J
      by_cases e : i = 12
      · subst e
        exact br_t (nI_le (b := 12) (Nat.le_refl _) (by omega)) (h nx N' hN J)
      · have hi : i < 12 := by omega
        have e8 : (8 : Int32) + nI i = nI (8 + i) := nI_add 8 i
        have c8 : ((8 : Int32) + nI i).toNatClampNeg = 8 + i := by rw [e8, nI_clamp (by omega)]
        have v8 : vp_in ((8 : Int32) + nI i) 20 := by rw [e8]; exact vp_in_nI (by omega) (by omega)
        have f8 := (eF_e a_state i).2
        have t8 := (eT_e a_state i).2
        refine br_f (nI_ge (b := 12) hi (by omega)) ?_
        cases z : (L ||| C).testBit i with
        | false =>
          refine br_t ((bb_bit (by omega) (by omega)).mpr z) (nm_r (nI_1 i) (ih (i + 1) nx N' (by omega) (by omega) hN fun m hm p => ?_))
          rw [J m hm p, gsu_s]
          have no : ∀ w : ¬ a_state (8 + i) = 0, ¬ (eF a_state i = n ∨ eT a_state i = n) := by
            intro w y
            have := (LCt i).mpr ⟨hi, w, y⟩
            rw [z] at this
            exact absurd this (by decide)
          constructor
          · rintro (w | ⟨w1, w2⟩)
            · exact Or.inl w
            · exact Or.inr ⟨w1, Or.inl w2⟩
          · rintro (w | ⟨w1, w2 | ⟨w2, ⟨_, w3, _⟩ | ⟨_, w3, _⟩⟩⟩)
            · exact Or.inl w
            · exact Or.inr ⟨w1, w2⟩
            · exact absurd (Or.inl w3) (no w2)
            · exact absurd (Or.inr w3) (no w2)
        | true =>
          obtain ⟨_, hz, ft⟩ := (LCt i).mp z
          have y3 := (V.2 i hi hz).2.1
          have ty : (((a_state ((8 : Int32) + nI i).toNatClampNeg).toInt32) >>> ((7 : Int32) &&& 31)) &&& 3 = nI (eY a_state i) := by rw [c8]; exact (eY_e a_state i).1
          -- the second half
          have s88 : ∀ nx N', gl_N nx N' → (∀ m, m < 8 → ∀ p, (N' m).testBit p = true ↔ ((N m).testBit p = true ∨ (B.testBit p = true ∧ gsu a_state i (le p) n m)) ∨ (B.testBit p = true ∧ le p = eY a_state i ∧ eF a_state i = n ∧ eT a_state i = m)) → wX_spread_88 post (wX_spread_17 post (nI n) (nI B) (nI (L ||| C)) f_level f_indexed f_parts f_highs f_tokens f_conditionLength f_conditionNames f_depth f_found f_testAt f_count f_different f_cheapest f_positions f_starts f_accepts f_empty f_written f_target f_steps k) (nI n) (nI B) (nI (L ||| C)) (nI i) (nI (eY a_state i)) f_level f_indexed f_parts f_highs f_tokens f_conditionLength f_conditionNames f_depth f_found f_testAt f_count f_different f_cheapest f_positions f_starts f_accepts f_empty f_written f_target f_steps a_state a_old a_kept a_leaving a_coming a_ofType a_withLabels a_kind a_types a_direction a_low a_high a_variable a_labels a_token a_condition a_truth a_number a_variableOf a_atPart a_trail a_here a_bound a_named a_used a_weight a_left a_ends a_seen a_sum a_some a_letter a_follow a_firstOf a_lastOf a_nullable a_spelled a_visited a_front nx := by
            intro nx N' hN J
            refine x_toOf hi ?_
            by_cases w : eT a_state i = n
            · have e3 : (3 : Int32) + nI (eY a_state i) = nI (3 + eY a_state i) := nI_add 3 _
              obtain ⟨V', v1, v2, v3⟩ := one (eF a_state i) (3 + eY a_state i) nx N' f8 (by omega) hN
              refine br_t (congrArg nI w) (x_fromOf hi ⟨vp_in_nI f8 (by omega), by rw [e3]; exact vp_in_nI (by omega) (by omega), vp_in_nI f8 (by omega), nm_r (e' := upd nx (eF a_state i) (nI V')) ?_ (nm_r (nI_1 i) (ih (i + 1) _ _ (by omega) (by omega) (gl_N_up v1 hN) fun m hm p => ?_))⟩)
              · rw [e3, nI_clamp (by omega), nI_clamp (by omega), v2]
              · rw [gsu_s]
                by_cases y : m = eF a_state i
                · subst y
                  simp only [if_true]
                  rw [v3, J _ hm]
                  constructor
                  · rintro (((q | ⟨q1, q2⟩) | ⟨q1, q2, q3, q4⟩) | ⟨q1, q2⟩)
                    · exact Or.inl q
                    · exact Or.inr ⟨q1, Or.inl q2⟩
                    · exact Or.inr ⟨q1, Or.inr ⟨hz, Or.inl ⟨q2, q3, q4⟩⟩⟩
                    · exact Or.inr ⟨q1, Or.inr ⟨hz, Or.inr ⟨q2, w, by trivial⟩⟩⟩
                  · rintro (q | ⟨q1, q2 | ⟨_, ⟨q2, q3, q4⟩ | ⟨q2, _, _⟩⟩⟩)
                    · exact Or.inl (Or.inl (Or.inl q))
                    · exact Or.inl (Or.inl (Or.inr ⟨q1, q2⟩))
                    · exact Or.inl (Or.inr ⟨q1, q2, q3, q4⟩)
                    · exact Or.inr ⟨q1, q2⟩
                · simp only [if_neg y]
                  rw [J m hm]
                  constructor
                  · rintro ((q | ⟨q1, q2⟩) | ⟨q1, q2, q3, q4⟩)
                    · exact Or.inl q
                    · exact Or.inr ⟨q1, Or.inl q2⟩
                    · exact Or.inr ⟨q1, Or.inr ⟨hz, Or.inl ⟨q2, q3, q4⟩⟩⟩
                  · rintro (q | ⟨q1, q2 | ⟨_, ⟨q2, q3, q4⟩ | ⟨_, _, q4⟩⟩⟩)
                    · exact Or.inl (Or.inl q)
                    · exact Or.inl (Or.inr ⟨q1, q2⟩)
                    · exact Or.inr ⟨q1, q2, q3, q4⟩
                    · exact absurd q4.symm y
            · refine br_f (fun y => w ((nI_eq (by omega) (by omega)).mp y)) (nm_r (nI_1 i) (ih (i + 1) nx N' (by omega) (by omega) hN fun m hm p => ?_))
              rw [gsu_s, J m hm]
              constructor
              · rintro ((q | ⟨q1, q2⟩) | ⟨q1, q2, q3, q4⟩)
                · exact Or.inl q
                · exact Or.inr ⟨q1, Or.inl q2⟩
                · exact Or.inr ⟨q1, Or.inr ⟨hz, Or.inl ⟨q2, q3, q4⟩⟩⟩
              · rintro (q | ⟨q1, q2 | ⟨_, ⟨q2, q3, q4⟩ | ⟨_, q3, _⟩⟩⟩)
                · exact Or.inl (Or.inl q)
                · exact Or.inl (Or.inr ⟨q1, q2⟩)
                · exact Or.inr ⟨q1, q2, q3, q4⟩
                · exact absurd q3 w
          refine br_f ((bb_bitT (by omega) (by omega)).mpr z) ⟨v8, nm_r (e' := nI (eY a_state i)) ty (x_fromOf hi ?_)⟩
          by_cases w : eF a_state i = n
          · obtain ⟨V', v1, v2, v3⟩ := one (eT a_state i) (eY a_state i) nx N' t8 (by omega) hN
            refine br_t (congrArg nI w) (x_toOf hi ⟨vp_in_nI t8 (by omega), vp_in_nI (by omega) (by omega), vp_in_nI t8 (by omega), nm_r (e' := upd nx (eT a_state i) (nI V')) ?_ (s88 _ _ (gl_N_up v1 hN) fun m hm p => ?_)⟩)
            · rw [nI_clamp (by omega), nI_clamp (by omega), v2]
            · by_cases y : m = eT a_state i
              · subst y
                simp only [if_true]
                rw [v3, J _ hm]
                exact ⟨fun q => q.elim Or.inl (fun q => Or.inr ⟨q.1, q.2, w, by trivial⟩), fun q => q.elim Or.inl (fun q => Or.inr ⟨q.1, q.2.1⟩)⟩
              · simp only [if_neg y]
                rw [J m hm]
                exact ⟨Or.inl, fun q => q.elim id (fun q => absurd q.2.2.2.symm y)⟩
          · refine br_f (fun y => w ((nI_eq (by omega) (by omega)).mp y)) (s88 nx N' hN fun m hm p => ?_)
            rw [J m hm]
            exact ⟨Or.inl, fun q => q.elim id (fun q => absurd q.2.2.1 w)⟩
  unfold wpX_spread
  refine ⟨vn, vn, nm_r (e' := nI (L ||| C)) (by rw [cn, l2, c2, bb_or]) ⟨13, key 13 0 _ N (by omega) (by omega) X fun m hm p => ?_⟩⟩
  exact ⟨Or.inl, fun q => q.elim id (fun q => by obtain ⟨_, e, he, _⟩ := q; exact absurd he (Nat.not_lt_zero e))⟩
theorem x_leave {n FR d : Nat} {N : Nat → Nat} {le : Nat → Nat} (V : VG a_state) (I : IX a_state a_leaving a_coming a_ofType a_withLabels) (hn : n < 8) (hd : d ≤ 10) (hF : FR < 2 ^ 10) (fr : a_front n = nI FR) (ok : gl_ok a_follow d) (cl : ∀ p' p, p' < d → gl_f a_follow p' p → p < d) (SP : gl_S a_spelled le d) (X : gl_N a_next N) (h : ∀ nx N', gl_N nx N' → (∀ m, m < 8 → ∀ p, (N' m).testBit p = true ↔ (N m).testBit p = true ∨ ∃ p', p' < d ∧ FR.testBit p' = true ∧ gl_f a_follow p' p ∧ gsu a_state 12 (le p) n m) → post (f_level, f_indexed, f_parts, f_highs, f_tokens, f_conditionLength, f_conditionNames, f_depth, f_found, f_testAt, f_count, f_different, f_cheapest, nI d, f_starts, f_accepts, f_empty, f_written, f_target, f_steps, a_state, a_old, a_kept, a_leaving, a_coming, a_ofType, a_withLabels, a_kind, a_types, a_direction, a_low, a_high, a_variable, a_labels, a_token, a_condition, a_truth, a_number, a_variableOf, a_atPart, a_trail, a_here, a_bound, a_named, a_used, a_weight, a_left, a_ends, a_seen, a_sum, a_some, a_letter, a_follow, a_firstOf, a_lastOf, a_nullable, a_spelled, a_visited, a_front, nx)) : wpX_leave post (f_level, f_indexed, f_parts, f_highs, f_tokens, f_conditionLength, f_conditionNames, f_depth, f_found, f_testAt, f_count, f_different, f_cheapest, nI d, f_starts, f_accepts, f_empty, f_written, f_target, f_steps, a_state, a_old, a_kept, a_leaving, a_coming, a_ofType, a_withLabels, a_kind, a_types, a_direction, a_low, a_high, a_variable, a_labels, a_token, a_condition, a_truth, a_number, a_variableOf, a_atPart, a_trail, a_here, a_bound, a_named, a_used, a_weight, a_left, a_ends, a_seen, a_sum, a_some, a_letter, a_follow, a_firstOf, a_lastOf, a_nullable, a_spelled, a_visited, a_front, a_next) (nI n) := by
  have cn : (nI n).toNatClampNeg = n := nI_clamp (by omega)
  have vn : vp_in (nI n) 8 := vp_in_nI hn (by omega)
  have key : ∀ k i B, i ≤ d → d - i < k → B < 2 ^ 10 → (∀ p, B.testBit p = true ↔ ∃ p', p' < i ∧ FR.testBit p' = true ∧ gl_f a_follow p' p) → wX_leave_4 post (nI n) f_level f_indexed f_parts f_highs f_tokens f_conditionLength f_conditionNames f_depth f_found f_testAt f_count f_different f_cheapest (nI d) f_starts f_accepts f_empty f_written f_target f_steps a_state a_old a_kept a_leaving a_coming a_ofType a_withLabels a_kind a_types a_direction a_low a_high a_variable a_labels a_token a_condition a_truth a_number a_variableOf a_atPart a_trail a_here a_bound a_named a_used a_weight a_left a_ends a_seen a_sum a_some a_letter a_follow a_firstOf a_lastOf a_nullable a_spelled a_visited a_front a_next k (nI B) (nI i) := by
    intro k
    induction k with
    | zero => intro i B _ hk; omega
    | succ k ih =>
      intro i B hi hk hB J
      by_cases e : i = d
      · subst e
        refine br_t (nI_le (Nat.le_refl _) (by omega)) ?_
        by_cases B0 : B = 0
        · subst B0
          refine br_t rfl (h _ N X fun m hm p => ⟨Or.inl, fun q => q.elim id (fun q => ?_)⟩)
          obtain ⟨p', q1, q2, q3, _⟩ := q
          have := (J p).mpr ⟨p', q1, q2, q3⟩
          rw [Nat.zero_testBit] at this
          exact absurd this (by decide)
        · refine br_f (nI_ne0 (by omega) (by omega)) (x_spread V I hn hB (fun p hp => ?_) SP X fun nx N' hN' J' => h nx N' hN' fun m hm p => ?_)
          · obtain ⟨p', q1, q2, q3⟩ := (J p).mp hp
            exact cl p' p q1 q3
          · rw [J' m hm p, J]
            constructor
            · rintro (q | ⟨⟨p', q1, q2, q3⟩, q4⟩)
              · exact Or.inl q
              · exact Or.inr ⟨p', q1, q2, q3, q4⟩
            · rintro (q | ⟨p', q1, q2, q3, q4⟩)
              · exact Or.inl q
              · exact Or.inr ⟨⟨p', q1, q2, q3⟩, q4⟩
      · refine br_f (nI_ge (by omega) (by omega)) ⟨vn, ?_⟩
        rw [cn, fr]
        cases z : FR.testBit i with
        | false =>
          refine br_t ((bb_bit (by omega) (by omega)).mpr z) (nm_r (nI_1 i) (ih (i + 1) B (by omega) (by omega) hB fun p => ?_))
          rw [J]
          constructor
          · rintro ⟨p', q1, q2⟩; exact ⟨p', by omega, q2⟩
          · rintro ⟨p', q1, q2, q3⟩
            by_cases y : p' = i
            · subst y; rw [z] at q2; exact absurd q2 (by decide)
            · exact ⟨p', by omega, q2, q3⟩
        | true =>
          obtain ⟨S, s1, s2⟩ := ok i (by omega)
          have sc : (a_follow i).toNatClampNeg = S := by rw [s2, nI_clamp (by omega)]
          refine br_f ((bb_bitT (by omega) (by omega)).mpr z) ⟨vp_in_nI (by omega) (by omega), nm_r (e' := nI (B ||| S)) (by rw [nI_clamp (by omega), s2, bb_or]) (nm_r (nI_1 i) (ih (i + 1) _ (by omega) (by omega) (Nat.or_lt_two_pow hB s1) fun p => ?_))⟩
          rw [Nat.testBit_or, Bool.or_eq_true, J]
          constructor
          · rintro (⟨p', q1, q2⟩ | q)
            · exact ⟨p', by omega, q2⟩
            · exact ⟨i, by omega, z, by unfold gl_f; rw [sc]; exact q⟩
          · rintro ⟨p', q1, q2, q3⟩
            by_cases y : p' = i
            · subst y; unfold gl_f at q3; rw [sc] at q3; exact Or.inr q3
            · exact Or.inl ⟨p', by omega, q2, q3⟩
  unfold wpX_leave
  exact ⟨d + 1, key (d + 1) 0 0 (by omega) (by omega) (by decide) fun p => ⟨fun z => by rw [Nat.zero_testBit] at z; exact absurd z (by decide), fun ⟨p', z, _⟩ => absurd z (Nat.not_lt_zero p')⟩⟩
end
end
section
/-! the component goes through all positions -/
theorem bb_ex {S : Nat} (h : S ≠ 0) : ∃ p, S.testBit p = true := by
  obtain ⟨b, h1, _⟩ := bb_low S (by omega)
  exact ⟨b, h1⟩
theorem bb_and_ne {a b : Nat} : a &&& b ≠ 0 ↔ ∃ p, a.testBit p = true ∧ b.testBit p = true := by
  constructor
  · intro h
    obtain ⟨p, hp⟩ := bb_ex h
    rw [Nat.testBit_and, Bool.and_eq_true] at hp
    exact ⟨p, hp⟩
  · rintro ⟨p, h1, h2⟩ h
    have : (a &&& b).testBit p = true := by rw [Nat.testBit_and, h1, h2]; rfl
    rw [h, Nat.zero_testBit] at this
    exact absurd this (by decide)
section
variable {st : WW} {le : Nat → Nat} {F L : Nat} {nul : Bool} {fo : Nat → Nat → Prop} {s : Nat}
theorem go_acc {l m : Nat} {Vis Nx : Nat → Nat} (I : bf_I (wk_R st le (gl_t F) fo s) l Vis Nx) (hm : m < 8) : (∃ n, n ≤ l + 1 ∧ wk_G st le (gl_t F) (gl_t L) (nul = true) fo s m n) ↔ (∃ n, n ≤ l ∧ wk_G st le (gl_t F) (gl_t L) (nul = true) fo s m n) ∨ bb_nd (Nx m) (Vis m) &&& L ≠ 0 := by
  constructor
  · rintro ⟨n, hn, D⟩
    by_cases e : n ≤ l
    · exact Or.inl ⟨n, e, D⟩
    · have : n = l + 1 := by omega
      subst this
      rcases D with ⟨_, _, z⟩ | ⟨k, p, e1, hL, hR⟩
      · omega
      · have : k = l := by omega
        subst this
        obtain ⟨a, b, c⟩ := I m hm p
        cases v : (Vis m).testBit p with
        | true =>
          obtain ⟨k', h1, h2⟩ := a.mp v
          exact Or.inl ⟨k' + 1, by omega, Or.inr ⟨k', p, rfl, hL, h2⟩⟩
        | false =>
          refine Or.inr (bb_and_ne.mpr ⟨p, ?_, hL⟩)
          rw [bb_nd_t, v]
          rcases c hR with y | y
          · rw [y]; rfl
          · rw [v] at y; exact absurd y (by decide)
  · rintro (⟨n, hn, D⟩ | h)
    · exact ⟨n, by omega, D⟩
    · obtain ⟨p, h1, h2⟩ := bb_and_ne.mp h
      rw [bb_nd_t, Bool.and_eq_true] at h1
      exact ⟨l + 1, Nat.le_refl _, Or.inr ⟨l, p, rfl, h2, (I m hm p).2.1 h1.1⟩⟩
end
/-- the least number of edges so far -/
def go_S (D : Nat → Prop) (l : Nat) (s : Int32) : Prop := (s = -1 ∧ ∀ n, n ≤ l → ¬ D n) ∨ ∃ n, n ≤ l ∧ s = nI n ∧ D n ∧ ∀ n', n' < n → ¬ D n'
theorem go_S_up {D : Nat → Prop} {l : Nat} {s : Int32} {c : Prop} (hl : l < 2 ^ 30) (h : go_S D l s) (acc : (∃ n, n ≤ l + 1 ∧ D n) ↔ (∃ n, n ≤ l ∧ D n) ∨ c) : (c → (0 ≤ s → go_S D (l + 1) s) ∧ (¬ 0 ≤ s → go_S D (l + 1) (nI (l + 1)))) ∧ (¬ c → go_S D (l + 1) s) := by
  rcases h with ⟨h1, h2⟩ | ⟨n, h1, h2, h3, h4⟩
  · have no : ¬ ∃ n, n ≤ l ∧ D n := fun ⟨n, a, b⟩ => h2 n a b
    constructor
    · intro hc
      constructor
      · intro z; rw [h1] at z; exact absurd z (by decide)
      · intro _
        obtain ⟨n, n1, n2⟩ := acc.mpr (Or.inr hc)
        have : n = l + 1 := by
          rcases Nat.lt_or_ge l n with y | y
          · omega
          · exact absurd n2 (h2 n y)
        subst this
        exact Or.inr ⟨l + 1, Nat.le_refl _, rfl, n2, fun n' hn' => h2 n' (by omega)⟩
    · intro hc
      refine Or.inl ⟨h1, fun n hn z => ?_⟩
      rcases acc.mp ⟨n, hn, z⟩ with y | y
      · exact no y
      · exact hc y
  · have keep : go_S D (l + 1) s := Or.inr ⟨n, by omega, h2, h3, h4⟩
    refine ⟨fun _ => ⟨fun _ => keep, fun z => absurd ?_ z⟩, fun _ => keep⟩
    rw [h2]
    exact nI_pos' (by omega)
section
variable {f_level f_indexed f_parts f_highs f_tokens f_conditionLength f_conditionNames f_depth f_found f_testAt f_count f_different f_cheapest f_positions f_starts f_accepts f_empty f_written f_target f_steps : Int32} {a_state a_old : Nat → Int64} {a_kept a_leaving a_coming a_ofType a_withLabels a_kind a_types a_direction a_low a_high a_variable a_labels a_token a_condition a_truth a_number a_variableOf a_atPart a_trail a_here a_bound a_named a_used a_weight a_left a_ends : Nat → Int32} {a_seen a_sum : Nat → Int64} {a_some a_letter a_follow a_firstOf a_lastOf a_nullable a_spelled a_visited a_front a_next : Nat → Int32} {post : Int32 → SX → Prop} {d F L src tg : Nat} {nul : Bool} {le : Nat → Nat} {A : WW → WW}
theorem x_go_228 {n : Nat} {MT x3 : Int32} {mo : Bool} {Fr : Nat → Nat} (V : VG a_state) (I : IX a_state a_leaving a_coming a_ofType a_withLabels) (hd : d ≤ 10) (ok : gl_ok a_follow d) (cl : ∀ p' p, p' < d → gl_f a_follow p' p → p < d) (SP : gl_S a_spelled le d) (hF : ∀ m, m < 8 → a_front m = nI (Fr m) ∧ Fr m < 2 ^ 10 ∧ ∀ p, (Fr m).testBit p = true → p < d) (N0 : gl_N a_next (fun _ => 0)) (h0 : mo = false → wX_go_92 post n MT x3 0 f_level f_indexed f_parts f_highs f_tokens f_conditionLength f_conditionNames f_depth f_found f_testAt f_count f_different f_cheapest (nI d) f_starts f_accepts f_empty f_written f_target f_steps a_state a_old a_kept a_leaving a_coming a_ofType a_withLabels a_kind a_types a_direction a_low a_high a_variable a_labels a_token a_condition a_truth a_number a_variableOf a_atPart a_trail a_here a_bound a_named a_used a_weight a_left a_ends a_seen a_sum a_some a_letter a_follow a_firstOf a_lastOf a_nullable a_spelled a_visited a_front a_next) (h1 : mo = true → ∀ nx N', gl_N nx N' → (∀ m, m < 8 → ∀ p, (N' m).testBit p = true ↔ ∃ p' m', m' < 8 ∧ (Fr m').testBit p' = true ∧ (gl_f a_follow p' p ∧ gsu a_state 12 (le p) m' m)) → wX_go_92 post n MT x3 1 f_level f_indexed f_parts f_highs f_tokens f_conditionLength f_conditionNames f_depth f_found f_testAt f_count f_different f_cheapest (nI d) f_starts f_accepts f_empty f_written f_target f_steps a_state a_old a_kept a_leaving a_coming a_ofType a_withLabels a_kind a_types a_direction a_low a_high a_variable a_labels a_token a_condition a_truth a_number a_variableOf a_atPart a_trail a_here a_bound a_named a_used a_weight a_left a_ends a_seen a_sum a_some a_letter a_follow a_firstOf a_lastOf a_nullable a_spelled a_visited a_front nx) : ∃ k, wX_go_228 post (wX_go_92 post n) MT x3 (bi mo) k 0 f_level f_indexed f_parts f_highs f_tokens f_conditionLength f_conditionNames f_depth f_found f_testAt f_count f_different f_cheapest (nI d) f_starts f_accepts f_empty f_written f_target f_steps a_state a_old a_kept a_leaving a_coming a_ofType a_withLabels a_kind a_types a_direction a_low a_high a_variable a_labels a_token a_condition a_truth a_number a_variableOf a_atPart a_trail a_here a_bound a_named a_used a_weight a_left a_ends a_seen a_sum a_some a_letter a_follow a_firstOf a_lastOf a_nullable a_spelled a_visited a_front a_next := by
  cases mo with
  | false => exact ⟨1, br_f (by decide) (br_t rfl (h0 rfl))⟩
  | true =>
    have key : ∀ k i nx N', i ≤ 8 → 8 - i < k → gl_N nx N' → (∀ m, m < 8 → ∀ p, (N' m).testBit p = true ↔ ∃ p' m', m' < i ∧ (Fr m').testBit p' = true ∧ (gl_f a_follow p' p ∧ gsu a_state 12 (le p) m' m)) → wX_go_228 post (wX_go_92 post n) MT x3 (bi true) k (nI i) f_level f_indexed f_parts f_highs f_tokens f_conditionLength f_conditionNames f_depth f_found f_testAt f_count f_different f_cheapest (nI d) f_starts f_accepts f_empty f_written f_target f_steps a_state a_old a_kept a_leaving a_coming a_ofType a_withLabels a_kind a_types a_direction a_low a_high a_variable a_labels a_token a_condition a_truth a_number a_variableOf a_atPart a_trail a_here a_bound a_named a_used a_weight a_left a_ends a_seen a_sum a_some a_letter a_follow a_firstOf a_lastOf a_nullable a_spelled a_visited a_front nx := by
      intro k
      induction k with
      | zero => intro i nx N' _ hk; omega
      | succ k ih =>
        intro i nx N' hi hk hN J
        by_cases e : i = 8
        · subst e
          exact br_t (nI_le (b := 8) (Nat.le_refl _) (by omega)) (h1 rfl nx N' hN J)
        · have hi : i < 8 := by omega
          obtain ⟨f1, f2, f3⟩ := hF i hi
          refine br_f (nI_ge (b := 8) hi (by omega)) (br_f (by decide) (x_leave V I hi hd f2 f1 ok cl SP hN fun nx' N'' hN'' J'' => nm_r (nI_1 i) (ih (i + 1) nx' N'' (by omega) (by omega) hN'' fun m hm p => ?_)))
          rw [J'' m hm p, J m hm p]
          constructor
          · rintro (⟨p', m', a, b⟩ | ⟨p', _, b, c⟩)
            · exact ⟨p', m', by omega, b⟩
            · exact ⟨p', i, by omega, b, c⟩
          · rintro ⟨p', m', a, b, c⟩
            by_cases y : m' = i
            · subst y; exact Or.inr ⟨p', f3 p' b, b, c⟩
            · exact Or.inl ⟨p', m', by omega, b, c⟩
    refine ⟨9, key 9 0 _ _ (by omega) (by omega) N0 fun m hm p => ?_⟩
    exact ⟨fun z => by rw [Nat.zero_testBit] at z; exact absurd z (by decide), fun ⟨_, m', z, _⟩ => absurd z (Nat.not_lt_zero m')⟩
theorem x_go_92 (V : VG a_state) (I : IX a_state a_leaving a_coming a_ofType a_withLabels) (hd : d ≤ 10) (ok : gl_ok a_follow d) (E : gl_E a_follow le 0 d F L nul A) (SP : gl_S a_spelled le d) (hL : L < 2 ^ 10) (ht : tg < 8) (h : ∀ MT s (a_visited' a_front' a_next' : Nat → Int32), MT < 2 ^ 8 → (∀ m, MT.testBit m = true ↔ m < 8 ∧ ∃ n, A (gsu a_state 12) src m n) → (∃ l, l < 10000 ∧ go_S (fun n => A (gsu a_state 12) src tg n) l s ∧ ∀ m n, A (gsu a_state 12) src m n → ∃ n', n' ≤ l ∧ A (gsu a_state 12) src m n') → post (nI MT) (f_level, f_indexed, f_parts, f_highs, f_tokens, f_conditionLength, f_conditionNames, f_depth, f_found, f_testAt, f_count, f_different, f_cheapest, nI d, f_starts, nI L, f_empty, f_written, nI tg, s, a_state, a_old, a_kept, a_leaving, a_coming, a_ofType, a_withLabels, a_kind, a_types, a_direction, a_low, a_high, a_variable, a_labels, a_token, a_condition, a_truth, a_number, a_variableOf, a_atPart, a_trail, a_here, a_bound, a_named, a_used, a_weight, a_left, a_ends, a_seen, a_sum, a_some, a_letter, a_follow, a_firstOf, a_lastOf, a_nullable, a_spelled, a_visited', a_front', a_next')) : ∀ n l MT s Vis Nx (a_visited a_front a_next : Nat → Int32), bf_mu Vis 8 + 1 < n → l + bf_mu Vis 8 ≤ 8192 → gl_N a_visited Vis → gl_N a_next Nx → (∀ m, m < 8 → ∀ p, (Nx m).testBit p = true → p < d) → bf_I (wk_R (gsu a_state 12) le (gl_t F) (gl_f a_follow) src) l Vis Nx → MT < 2 ^ 8 → (∀ m, MT.testBit m = true ↔ m < 8 ∧ ∃ n, n ≤ l ∧ A (gsu a_state 12) src m n) → go_S (fun n => A (gsu a_state 12) src tg n) l s → wX_go_92 post n (nI MT) (nI l) 1 f_level f_indexed f_parts f_highs f_tokens f_conditionLength f_conditionNames f_depth f_found f_testAt f_count f_different f_cheapest (nI d) f_starts (nI L) f_empty f_written (nI tg) s a_state a_old a_kept a_leaving a_coming a_ofType a_withLabels a_kind a_types a_direction a_low a_high a_variable a_labels a_token a_condition a_truth a_number a_variableOf a_atPart a_trail a_here a_bound a_named a_used a_weight a_left a_ends a_seen a_sum a_some a_letter a_follow a_firstOf a_lastOf a_nullable a_spelled a_visited a_front a_next := by
  have hR : ∀ k p m, wk_R (gsu a_state 12) le (gl_t F) (gl_f a_follow) src (k + 1) p m ↔ ∃ p' m', wk_R (gsu a_state 12) le (gl_t F) (gl_f a_follow) src k p' m' ∧ (gl_f a_follow p' p ∧ gsu a_state 12 (le p) m' m) := fun k p m => Iff.rfl
  have h8 : ∀ k p m, wk_R (gsu a_state 12) le (gl_t F) (gl_f a_follow) src k p m → m < 8 := by
    intro k p m z
    cases k with
    | zero => exact gsu_8 z.2
    | succ k => obtain ⟨_, _, _, _, z⟩ := z; exact gsu_8 z
  have cl : ∀ p' p, p' < d → gl_f a_follow p' p → p < d := fun p' p a b => (E.1.2.2 p' p ⟨Nat.zero_le _, a⟩ b).2
  have eA : ∀ m n, A (gsu a_state 12) src m n ↔ wk_G (gsu a_state 12) le (gl_t F) (gl_t L) (nul = true) (gl_f a_follow) src m n := fun m n => E.2 _ _ _ _
  have acc : ∀ {l : Nat} {Vis Nx : Nat → Nat}, bf_I (wk_R (gsu a_state 12) le (gl_t F) (gl_f a_follow) src) l Vis Nx → ∀ {m : Nat}, m < 8 → ((∃ n, n ≤ l + 1 ∧ A (gsu a_state 12) src m n) ↔ (∃ n, n ≤ l ∧ A (gsu a_state 12) src m n) ∨ bb_nd (Nx m) (Vis m) &&& L ≠ 0) := by
    intro l Vis Nx J m hm
    simp only [eA]
    exact go_acc J hm
  intro n
  induction n with
  | zero => intro l MT s Vis Nx a_visited a_front a_next hn; omega
  | succ n ih =>
    intro l MT s Vis Nx a_visited a_front a_next hn hl hV hN hp J hM M S
    have Fr10 : ∀ m, m < 8 → bb_nd (Nx m) (Vis m) < 2 ^ 10 := fun m hm => Nat.lt_of_le_of_lt (bb_nd_le _ _) (hN m hm).2
    have Frd : ∀ m, m < 8 → ∀ p, (bb_nd (Nx m) (Vis m)).testBit p = true → p < d := by
      intro m hm p z
      rw [bb_nd_t, Bool.and_eq_true] at z
      exact hp m hm p z.1
    refine br_f (by decide) (nm_r (nI_1 l) ?_)
    -- the round over the nodes
    have round : ∀ k i MTi (mo : Bool) si vis fr nx, i ≤ 8 → 8 - i < k → gl_N vis (fun m => if m < i then Vis m ||| bb_nd (Nx m) (Vis m) else Vis m) → (∀ m, m < i → fr m = nI (bb_nd (Nx m) (Vis m))) → gl_N nx (fun m => if m < i then 0 else Nx m) → MTi < 2 ^ 8 → (∀ m, MTi.testBit m = true ↔ MT.testBit m = true ∨ (m < i ∧ bb_nd (Nx m) (Vis m) &&& L ≠ 0)) → (mo = true ↔ ∃ m, m < i ∧ bb_nd (Nx m) (Vis m) ≠ 0) → (i ≤ tg → si = s) → (tg < i → go_S (fun n => A (gsu a_state 12) src tg n) (l + 1) si) → wX_go_106 post (wX_go_92 post n) (nI (l + 1)) f_level f_indexed f_parts f_highs f_tokens f_conditionLength f_conditionNames f_depth f_found f_testAt f_count f_different f_cheapest (nI d) f_starts (nI L) f_empty f_written (nI tg) k (nI MTi) (bi mo) (nI i) si a_state a_old a_kept a_leaving a_coming a_ofType a_withLabels a_kind a_types a_direction a_low a_high a_variable a_labels a_token a_condition a_truth a_number a_variableOf a_atPart a_trail a_here a_bound a_named a_used a_weight a_left a_ends a_seen a_sum a_some a_letter a_follow a_firstOf a_lastOf a_nullable a_spelled vis fr nx := by
      intro k
      induction k with
      | zero => intro i MTi mo si vis fr nx _ hk; omega
      | succ k ihk =>
        intro i MTi mo si vis fr nx hi hk v1 v2 v3 v4 v5 v6 v7 v8
        by_cases e : i = 8
        · subst e
          have S' := v8 ht
          have M' : ∀ m, MTi.testBit m = true ↔ m < 8 ∧ ∃ n, n ≤ l + 1 ∧ A (gsu a_state 12) src m n := by
            intro m
            rw [v5, M]
            constructor
            · rintro (⟨a, b⟩ | ⟨a, b⟩)
              · exact ⟨a, (acc J a).mpr (Or.inl b)⟩
              · exact ⟨a, (acc J a).mpr (Or.inr b)⟩
            · rintro ⟨a, b⟩
              rcases (acc J a).mp b with b | b
              · exact Or.inl ⟨a, b⟩
              · exact Or.inr ⟨a, b⟩
          have V8 : gl_N vis (fun m => Vis m ||| bb_nd (Nx m) (Vis m)) := fun m hm => by
            have := v1 m hm
            simp only [if_pos hm] at this
            exact this
          have N8 : gl_N nx (fun _ => 0) := fun m hm => by
            have := v3 m hm
            simp only [if_pos hm] at this
            exact this
          refine br_t (nI_le (b := 8) (Nat.le_refl _) (by omega)) (x_go_228 V I hd ok cl SP (Fr := fun m => bb_nd (Nx m) (Vis m)) (fun m hm => ⟨v2 m hm, Fr10 m hm, Frd m hm⟩) N8 (fun mo0 => ?_) (fun mo1 nx' N' hN' J' => ?_))
          · obtain ⟨n, rfl⟩ : ∃ k, n = k + 1 := ⟨n - 1, by omega⟩
            have fin : ∀ k p m, wk_R (gsu a_state 12) le (gl_t F) (gl_f a_follow) src k p m → ∃ k', k' < l ∧ wk_R (gsu a_state 12) le (gl_t F) (gl_f a_follow) src k' p m := by
              refine bf_end hR h8 J fun m hm => ?_
              by_cases y : bb_nd (Nx m) (Vis m) = 0
              · exact y
              · have := v6.mpr ⟨m, hm, y⟩
                rw [mo0] at this
                exact absurd this (by decide)
            have all : ∀ m n, A (gsu a_state 12) src m n → ∃ n', n' ≤ l + 1 ∧ A (gsu a_state 12) src m n' := by
              intro m n z
              rcases (eA m n).mp z with ⟨a, b, c⟩ | ⟨k, p, _, hL', hR'⟩
              · exact ⟨0, by omega, (eA m 0).mpr (Or.inl ⟨a, b, rfl⟩)⟩
              · obtain ⟨k', y1, y2⟩ := fin k p m hR'
                exact ⟨k' + 1, by omega, (eA m _).mpr (Or.inr ⟨k', p, rfl, hL', y2⟩)⟩
            refine br_t rfl (h MTi si _ _ _ v4 (fun m => ?_) ⟨l + 1, by omega, S', all⟩)
            rw [M']
            exact ⟨fun y => ⟨y.1, by obtain ⟨n, _, z⟩ := y.2; exact ⟨n, z⟩⟩, fun y => ⟨y.1, by obtain ⟨n, z⟩ := y.2; exact all m n z⟩⟩
          · obtain ⟨x, x1, x2⟩ := v6.mp mo1
            have mono : ∀ m, m < 8 → Vis m ≤ Vis m ||| bb_nd (Nx m) (Vis m) := fun m _ => bb_or_le _ _
            have lt := bf_mu_lt (a := Vis) (b := fun m => Vis m ||| bb_nd (Nx m) (Vis m)) (x := x) 8 mono x1 (bb_or_lt x2) (V8 x x1).2
            refine ih (l + 1) MTi si (fun m => Vis m ||| bb_nd (Nx m) (Vis m)) N' _ _ _ (by omega) (by omega) V8 hN' (fun m hm p z => ?_) (bf_step hR h8 J J') v4 M' S'
            obtain ⟨p', m', y1, y2, y3, _⟩ := (J' m hm p).mp z
            exact cl p' p (Frd m' y1 p' y2) y3
        · have hi : i < 8 := by omega
          have ci : (nI i).toNatClampNeg = i := nI_clamp (by omega)
          have vi : vp_in (nI i) 8 := vp_in_nI hi (by omega)
          have a1 : vis i = nI (Vis i) ∧ Vis i < 2 ^ 10 := by
            have := v1 i hi
            simp only [if_neg (Nat.lt_irrefl i)] at this
            exact this
          have a2 : nx i = nI (Nx i) ∧ Nx i < 2 ^ 10 := by
            have := v3 i hi
            simp only [if_neg (Nat.lt_irrefl i)] at this
            exact this
          have f10 := Fr10 i hi
          have o10 := Nat.or_lt_two_pow a1.2 f10
          have n1 : gl_N (upd vis i (nI (Vis i ||| bb_nd (Nx i) (Vis i)))) (fun m => if m < i + 1 then Vis m ||| bb_nd (Nx m) (Vis m) else Vis m) := by
            intro m hm
            by_cases y : m = i
            · subst y; rw [pk_us]; simp only [if_pos (Nat.lt_succ_self m)]; exact ⟨by trivial, o10⟩
            · have := v1 m hm
              rw [pk_un y]
              by_cases w : m < i
              · simp only [if_pos w] at this
                simp only [if_pos (show m < i + 1 by omega)]
                exact this
              · simp only [if_neg w] at this
                simp only [if_neg (show ¬ m < i + 1 by omega)]
                exact this
          have n2 : ∀ m, m < i + 1 → upd fr i (nI (bb_nd (Nx i) (Vis i))) m = nI (bb_nd (Nx m) (Vis m)) := by
            intro m hm
            by_cases y : m = i
            · subst y; exact pk_us
            · rw [pk_un y]; exact v2 m (by omega)
          have n3 : gl_N (upd nx i 0) (fun m => if m < i + 1 then 0 else Nx m) := by
            intro m hm
            by_cases y : m = i
            · subst y; rw [pk_us]; simp only [if_pos (Nat.lt_succ_self m)]; exact ⟨by trivial, by decide⟩
            · have := v3 m hm
              rw [pk_un y]
              by_cases w : m < i
              · simp only [if_pos w] at this
                simp only [if_pos (show m < i + 1 by omega)]
                exact this
              · simp only [if_neg w] at this
                simp only [if_neg (show ¬ m < i + 1 by omega)]
                exact this
          have up := go_S_up (c := bb_nd (Nx tg) (Vis tg) &&& L ≠ 0) (show l < 2 ^ 30 by omega) S (acc J ht)
          have i1 : i + 1 ≤ 8 := by omega
          have k1 : 8 - (i + 1) < k := by clear v6 v5; omega
          have n31 : i < 31 := by omega
          have tle : i + 1 ≤ tg → i ≤ tg := fun y => by omega
          have tlt : tg < i + 1 → tg ≠ i → tg < i := fun y w => by omega
          have tno : i = tg → ¬ i + 1 ≤ tg := fun y w => by omega
          have s175 : ∀ (z : Bool), (z = true ↔ bb_nd (Nx i) (Vis i) ≠ 0) → wX_go_175 post (wX_go_92 post n) (wX_go_106 post (wX_go_92 post n) (nI (l + 1)) f_level f_indexed f_parts f_highs f_tokens f_conditionLength f_conditionNames f_depth f_found f_testAt f_count f_different f_cheapest (nI d) f_starts (nI L) f_empty f_written (nI tg) k) (nI MTi) (nI (l + 1)) (nI i) (nI (bb_nd (Nx i) (Vis i))) (bi z) (bi mo) f_level f_indexed f_parts f_highs f_tokens f_conditionLength f_conditionNames f_depth f_found f_testAt f_count f_different f_cheapest (nI d) f_starts (nI L) f_empty f_written (nI tg) si a_state a_old a_kept a_leaving a_coming a_ofType a_withLabels a_kind a_types a_direction a_low a_high a_variable a_labels a_token a_condition a_truth a_number a_variableOf a_atPart a_trail a_here a_bound a_named a_used a_weight a_left a_ends a_seen a_sum a_some a_letter a_follow a_firstOf a_lastOf a_nullable a_spelled (upd vis i (nI (Vis i ||| bb_nd (Nx i) (Vis i)))) (upd fr i (nI (bb_nd (Nx i) (Vis i)))) (upd nx i 0) := by
            intro z hz
            have mo' : (mo || z) = true ↔ ∃ m, m < i + 1 ∧ bb_nd (Nx m) (Vis m) ≠ 0 := by
              rw [Bool.or_eq_true, v6, hz]
              constructor
              · rintro (⟨m, y1, y2⟩ | y)
                · exact ⟨m, by omega, y2⟩
                · exact ⟨i, by omega, y⟩
              · rintro ⟨m, y1, y2⟩
                by_cases w : m = i
                · subst w; exact Or.inr y2
                · exact Or.inl ⟨m, by omega, y2⟩
            have ba : bb_nd (Nx i) (Vis i) &&& L < 2 ^ 10 := Nat.lt_of_le_of_lt Nat.and_le_right hL
            refine nm_r (e' := bi (mo || z)) (by cases mo <;> cases z <;> rfl) ?_
            rw [nx_and]
            by_cases c : bb_nd (Nx i) (Vis i) &&& L = 0
            · refine br_t (congrArg nI c) (nm_r (nI_1 i) (ihk (i + 1) MTi (mo || z) si _ _ _ i1 k1 n1 n2 n3 v4 (fun m => ?_) mo' (fun y => v7 (tle y)) (fun y => ?_)))
              · rw [v5]
                constructor
                · rintro (w | ⟨w1, w2⟩)
                  · exact Or.inl w
                  · exact Or.inr ⟨by omega, w2⟩
                · rintro (w | ⟨w1, w2⟩)
                  · exact Or.inl w
                  · by_cases q : m = i
                    · subst q; exact absurd c w2
                    · exact Or.inr ⟨by omega, w2⟩
              · by_cases q : tg = i
                · subst q
                  have := v7 (Nat.le_refl _)
                  subst this
                  exact up.2 (fun w => w c)
                · exact v8 (tlt y q)
            · have met : ∀ m, (MTi ||| 2 ^ i).testBit m = true ↔ MT.testBit m = true ∨ (m < i + 1 ∧ bb_nd (Nx m) (Vis m) &&& L ≠ 0) := by
                intro m
                rw [bb_or2, Bool.or_eq_true, decide_eq_true_eq, v5]
                constructor
                · rintro ((w | ⟨w1, w2⟩) | rfl)
                  · exact Or.inl w
                  · exact Or.inr ⟨by omega, w2⟩
                  · exact Or.inr ⟨by omega, c⟩
                · rintro (w | ⟨w1, w2⟩)
                  · exact Or.inl (Or.inl w)
                  · by_cases q : m = i
                    · exact Or.inr q.symm
                    · exact Or.inl (Or.inr ⟨by omega, w2⟩)
              have mt8 := bb_or2_lt v4 hi
              refine br_f (nI_ne0 (by omega) (by omega)) (nm_r (e' := nI (MTi ||| 2 ^ i)) (by rw [bb_1shl (by omega), bb_or]) ?_)
              by_cases q : i = tg
              · subst q
                have := v7 (Nat.le_refl _)
                subst this
                refine br_t rfl (br_c (fun w => nm_r (nI_1 i) (ihk (i + 1) _ (mo || z) _ _ _ _ i1 k1 n1 n2 n3 mt8 met mo' (fun y => absurd y (tno rfl)) (fun _ => (up.1 c).1 w))) (fun w => nm_r (nI_1 i) (ihk (i + 1) _ (mo || z) _ _ _ _ i1 k1 n1 n2 n3 mt8 met mo' (fun y => absurd y (tno rfl)) (fun _ => (up.1 c).2 w))))
              · exact br_f (fun w => q ((nI_eq (by omega) (by omega)).mp w)) (nm_r (nI_1 i) (ihk (i + 1) _ (mo || z) si _ _ _ i1 k1 n1 n2 n3 mt8 met mo' (fun y => v7 (tle y)) (fun y => v8 (tlt y (fun w => q w.symm)))))
          refine br_f (nI_ge (b := 8) hi (by omega)) ⟨vi, vi, nm_r (e' := nI (bb_nd (Nx i) (Vis i))) (by rw [ci, a1.1, a2.1, bb_andn]) ⟨vi, vi, nm_r (e' := upd vis i (nI (Vis i ||| bb_nd (Nx i) (Vis i)))) (by rw [ci, a1.1, bb_or, bb_sh (by omega)]) ⟨vi, nm_r (e' := upd fr i (nI (bb_nd (Nx i) (Vis i)))) (by rw [ci, bb_sh (by omega)]) ⟨vi, nm_r (e' := upd nx i 0) (by rw [ci, bb_s0]) ?_⟩⟩⟩⟩
          by_cases c : bb_nd (Nx i) (Vis i) = 0
          · exact br_t (congrArg nI c) (s175 false ⟨fun y => absurd y (by decide), fun y => absurd c y⟩)
          · exact br_f (nI_ne0 (by omega) (by omega)) (s175 true ⟨fun _ => c, fun _ => rfl⟩)
    refine ⟨9, round 9 0 MT false s _ _ _ (by omega) (by omega) ?_ (fun m hm => absurd hm (Nat.not_lt_zero m)) ?_ hM (fun m => ⟨Or.inl, fun y => y.elim id (fun y => absurd y.1 (Nat.not_lt_zero m))⟩) ⟨fun y => absurd y (by decide), fun ⟨m, y, _⟩ => absurd y (Nat.not_lt_zero m)⟩ (fun _ => rfl) (fun y => absurd y (Nat.not_lt_zero tg))⟩
    · intro m hm
      simp only [if_neg (Nat.not_lt_zero m)]
      exact hV m hm
    · intro m hm
      simp only [if_neg (Nat.not_lt_zero m)]
      exact hN m hm
end
end
section
/-! the reference's tables -/
def yt_T (far : Nat → Int32) (a : Nat) (D : Nat → Nat) : Prop := ∀ x, x < 64 → far (a + x) = nI (D x) ∧ D x ≤ 1000000
/-- all but a table is the same -/
def yt_o (far far' : Nat → Int32) (a : Nat) : Prop := ∀ j, (j < a ∨ a + 64 ≤ j) → far' j = far j
theorem yt_T_o {far far' : Nat → Int32} {a b : Nat} {D : Nat → Nat} (h : yt_o far far' b) (hd : a + 64 ≤ b ∨ b + 64 ≤ a) (T : yt_T far a D) : yt_T far' a D := by
  intro x hx
  rw [h (a + x) (by omega)]
  exact T x hx
theorem yt_up {far far' : Nat → Int32} {a x v : Nat} (hx : x < 64) (h : yt_o far far' a) : yt_o far (upd far' (a + x) (nI v)) a := by
  intro j hj
  rw [pk_un (show j ≠ a + x by omega)]
  exact h j hj
theorem yt_upT {far : Nat → Int32} {a x v : Nat} {D : Nat → Nat} (hv : v ≤ 1000000) (T : yt_T far a D) : yt_T (upd far (a + x) (nI v)) a (fun y => if y = x then v else D y) := by
  intro y hy
  by_cases e : y = x
  · subst e; rw [pk_us]; simp only [if_true]; exact ⟨by trivial, hv⟩
  · rw [pk_un (show a + y ≠ a + x by omega)]; simp only [if_neg e]; exact T y hy
section
variable {yf_level yf_parts yf_pending yf_conditions yf_spelled yf_depth yf_used yf_weight yf_found yf_lightest yf_some : Int32} {yf_sum : Int64} {ya_labels : Nat → Int32} {ya_properties : Nat → Int64} {ya_from ya_to ya_types ya_weights ya_variable ya_wanted ya_among ya_direction ya_low ya_high ya_tokens ya_condition ya_expression ya_stack ya_part ya_steps ya_place ya_choice ya_bound ya_took ya_nodeOf ya_chosen ya_far : Nat → Int32} {post : SY → Prop} {g : Nat → Int64}
theorem y_edgeTable {a t : Nat} (V : VG g) (E : YE g 0 ya_from ya_to ya_types ya_weights) (ha : a + 64 ≤ 704) (ht : t < 6) (h : ∀ far D, yt_o ya_far far a → yt_T far a D → (∀ i j, i < 8 → j < 8 → (gsu g 12 t i j ∧ D (8 * i + j) = 1) ∨ (¬ gsu g 12 t i j ∧ D (8 * i + j) = 1000000)) → post (yf_level, yf_parts, yf_pending, yf_conditions, yf_spelled, yf_depth, yf_used, yf_weight, yf_found, yf_lightest, yf_some, yf_sum, ya_labels, ya_properties, ya_from, ya_to, ya_types, ya_weights, ya_variable, ya_wanted, ya_among, ya_direction, ya_low, ya_high, ya_tokens, ya_condition, ya_expression, ya_stack, ya_part, ya_steps, ya_place, ya_choice, ya_bound, ya_took, ya_nodeOf, ya_chosen, far)) : wpY_edgeTable post (yf_level, yf_parts, yf_pending, yf_conditions, yf_spelled, yf_depth, yf_used, yf_weight, yf_found, yf_lightest, yf_some, yf_sum, ya_labels, ya_properties, ya_from, ya_to, ya_types, ya_weights, ya_variable, ya_wanted, ya_among, ya_direction, ya_low, ya_high, ya_tokens, ya_condition, ya_expression, ya_stack, ya_part, ya_steps, ya_place, ya_choice, ya_bound, ya_took, ya_nodeOf, ya_chosen, ya_far) (nI a) (nI t) := by
  have tm : nI t - nI t / 3 * 3 = nI (t % 3) := pk_rem (a := t) (d := 3) (by omega) (by omega) (by omega)
  have k26 : ∀ n e far D, e ≤ 12 → 12 - e < n → yt_o ya_far far a → yt_T far a D → (∀ i j, i < 8 → j < 8 → (gsu g e t i j ∧ D (8 * i + j) = 1) ∨ (¬ gsu g e t i j ∧ D (8 * i + j) = 1000000)) → wY_edgeTable_26 post (nI a) (nI t) yf_level yf_parts yf_pending yf_conditions yf_spelled yf_depth yf_used yf_weight yf_found yf_lightest yf_some yf_sum n (nI e) ya_labels ya_properties ya_from ya_to ya_types ya_weights ya_variable ya_wanted ya_among ya_direction ya_low ya_high ya_tokens ya_condition ya_expression ya_stack ya_part ya_steps ya_place ya_choice ya_bound ya_took ya_nodeOf ya_chosen far := by
    intro n
    induction n with
    | zero => intro e far D _ hn; omega
    | succ n ih =>
      intro e far D he hn O T J
      by_cases e12 : e = 12
      · subst e12
        exact br_t (nI_le (b := 12) (Nat.le_refl _) (by omega)) (h far D O T J)
      · have he : e < 12 := by omega
        have ce : (nI e).toNatClampNeg = e := nI_clamp (by omega)
        have ve : vp_in (nI e) 60 := vp_in_nI (by omega) (by omega)
        have skip : (∀ i j, gsu g (e + 1) t i j ↔ gsu g e t i j) → ∀ x, x = nI e + 1 → wY_edgeTable_26 post (nI a) (nI t) yf_level yf_parts yf_pending yf_conditions yf_spelled yf_depth yf_used yf_weight yf_found yf_lightest yf_some yf_sum n x ya_labels ya_properties ya_from ya_to ya_types ya_weights ya_variable ya_wanted ya_among ya_direction ya_low ya_high ya_tokens ya_condition ya_expression ya_stack ya_part ya_steps ya_place ya_choice ya_bound ya_took ya_nodeOf ya_chosen far := fun q => nm_r (nI_1 e) (ih (e + 1) far D (by omega) (by omega) O T fun i j hi hj => by rw [q]; exact J i j hi hj)
        refine br_f (nI_ge (b := 12) he (by omega)) (y_isEdge E (fun z => br_f (by decide) ⟨ve, by decide, ?_⟩) (fun z => br_t rfl (skip fun i j => ?_)))
        · obtain ⟨e', e1, e2, hz⟩ := z
          have : e = e' := (nI_eq (by omega) (by omega)).mp e2
          subst this
          obtain ⟨y1, y2, y3, y4⟩ := y_edge_at E he hz
          have y8 := (V.2 e he hz).2.1
          have f8 := (eF_e g e).2
          have t8 := (eT_e g e).2
          rw [ce, y1, y2, y3, tm]
          have store : ∀ i0 j0, i0 < 8 → j0 < 8 → (∀ i j, gsu g (e + 1) t i j ↔ gsu g e t i j ∨ (i = i0 ∧ j = j0)) → wY_edgeTable_26 post (nI a) (nI t) yf_level yf_parts yf_pending yf_conditions yf_spelled yf_depth yf_used yf_weight yf_found yf_lightest yf_some yf_sum n (nI (e + 1)) ya_labels ya_properties ya_from ya_to ya_types ya_weights ya_variable ya_wanted ya_among ya_direction ya_low ya_high ya_tokens ya_condition ya_expression ya_stack ya_part ya_steps ya_place ya_choice ya_bound ya_took ya_nodeOf ya_chosen (upd far (a + (8 * i0 + j0)) (nI 1)) := by
            intro i0 j0 hi0 hj0 q
            refine ih (e + 1) _ _ (by omega) (by omega) (yt_up (by omega) O) (yt_upT (by decide) T) fun i j hi hj => ?_
            by_cases w : 8 * i + j = 8 * i0 + j0
            · have w1 : i = i0 := by omega
              have w2 : j = j0 := by omega
              rw [if_pos w]
              exact Or.inl ⟨(q i j).mpr (Or.inr ⟨w1, w2⟩), rfl⟩
            · rw [if_neg w]
              have nw : ¬ (i = i0 ∧ j = j0) := fun y => w (by rw [y.1, y.2])
              rcases J i j hi hj with ⟨x1, x2⟩ | ⟨x1, x2⟩
              · exact Or.inl ⟨(q i j).mpr (Or.inl x1), x2⟩
              · exact Or.inr ⟨fun y => ((q i j).mp y).elim x1 nw, x2⟩
          by_cases w : eY g e = t % 3
          · refine br_t (congrArg nI w) ?_
            by_cases t3 : 3 ≤ t
            · have ix : nI a + ((8 * nI (eT g e)) + nI (eF g e)) = nI (a + (8 * eT g e + eF g e)) := by
                have : (8 : Int32) * nI (eT g e) = nI (8 * eT g e) := pk_mul 8 _
                rw [this, nI_add, nI_add]
              refine br_t (nI_le (a := 3) t3 (by omega)) ⟨ve, ve, by rw [ix]; exact vp_in_nI (by omega) (by omega), nm_r (e' := upd far (a + (8 * eT g e + eF g e)) (nI 1)) (by rw [ix, nI_clamp (by omega)]; rfl) (nm_r (nI_1 e) (store _ _ t8 f8 fun i j => ?_))⟩
              rw [gsu_s]
              constructor
              · rintro (x | ⟨_, ⟨x, _⟩ | ⟨_, x1, x2⟩⟩)
                · exact Or.inl x
                · omega
                · exact Or.inr ⟨x1.symm, x2.symm⟩
              · rintro (x | ⟨x1, x2⟩)
                · exact Or.inl x
                · exact Or.inr ⟨hz, Or.inr ⟨by omega, x1.symm, x2.symm⟩⟩
            · have ix : nI a + ((8 * nI (eF g e)) + nI (eT g e)) = nI (a + (8 * eF g e + eT g e)) := by
                have : (8 : Int32) * nI (eF g e) = nI (8 * eF g e) := pk_mul 8 _
                rw [this, nI_add, nI_add]
              refine br_f (nI_ge (b := 3) (by omega) (by omega)) ⟨ve, ve, by rw [ix]; exact vp_in_nI (by omega) (by omega), nm_r (e' := upd far (a + (8 * eF g e + eT g e)) (nI 1)) (by rw [ix, nI_clamp (by omega)]; rfl) (nm_r (nI_1 e) (store _ _ f8 t8 fun i j => ?_))⟩
              rw [gsu_s]
              constructor
              · rintro (x | ⟨_, ⟨_, x1, x2⟩ | ⟨x, _⟩⟩)
                · exact Or.inl x
                · exact Or.inr ⟨x1.symm, x2.symm⟩
                · omega
              · rintro (x | ⟨x1, x2⟩)
                · exact Or.inl x
                · exact Or.inr ⟨hz, Or.inl ⟨by omega, x1.symm, x2.symm⟩⟩
          · refine br_f (fun y => w ((nI_eq (by omega) (by omega)).mp y)) (skip fun i j => ?_)
            rw [gsu_s]
            constructor
            · rintro (x | ⟨_, ⟨x, _⟩ | ⟨x, _⟩⟩)
              · exact x
              · omega
              · omega
            · exact Or.inl
        · rw [gsu_s]
          exact ⟨fun x => x.elim id (fun x => absurd ⟨e, he, rfl, x.1⟩ z), Or.inl⟩
  have k2 : ∀ n i far, i ≤ 64 → 64 - i < n → yt_o ya_far far a → (∀ x, x < i → far (a + x) = nI 1000000) → wY_edgeTable_2 post (nI a) (nI t) yf_level yf_parts yf_pending yf_conditions yf_spelled yf_depth yf_used yf_weight yf_found yf_lightest yf_some yf_sum n (nI i) ya_labels ya_properties ya_from ya_to ya_types ya_weights ya_variable ya_wanted ya_among ya_direction ya_low ya_high ya_tokens ya_condition ya_expression ya_stack ya_part ya_steps ya_place ya_choice ya_bound ya_took ya_nodeOf ya_chosen far := by
    intro n
    induction n with
    | zero => intro i far _ hn; omega
    | succ n ih =>
      intro i far hi hn O J
      by_cases e : i = 64
      · subst e
        refine br_t (nI_le (b := 64) (Nat.le_refl _) (by omega)) ⟨13, k26 13 0 far (fun _ => 1000000) (by omega) (by omega) O (fun x hx => ⟨J x hx, Nat.le_refl _⟩) fun i j _ _ => Or.inr ⟨?_, rfl⟩⟩
        rintro ⟨e, he, _⟩
        exact absurd he (Nat.not_lt_zero e)
      · refine br_f (nI_ge (b := 64) (by omega) (by omega)) ?_
        rw [nI_add]
        refine ⟨vp_in_nI (by omega) (by omega), nm_r (e' := upd far (a + i) (nI 1000000)) (by rw [nI_clamp (by omega)]; rfl) (nm_r (nI_1 i) (ih (i + 1) _ (by omega) (by omega) (yt_up (by omega) O) fun x hx => ?_))⟩
        by_cases y : x = i
        · subst y; exact pk_us
        · rw [pk_un (by omega)]; exact J x (by omega)
  unfold wpY_edgeTable
  exact ⟨65, k2 65 0 _ (by omega) (by omega) (fun _ _ => rfl) (fun x hx => absurd hx (Nat.not_lt_zero x))⟩
theorem y_compose {a b c : Nat} {Da Db : Nat → Nat} (ha : a + 64 ≤ c) (hb : b + 64 ≤ c) (hc : c + 64 ≤ 704) (Ta : yt_T ya_far a Da) (Tb : yt_T ya_far b Db) (h : ∀ far D, yt_o ya_far far c → yt_T far c D → (∀ i j, i < 8 → j < 8 → D (8 * i + j) ≤ 1000000 ∧ (∀ m, m < 8 → D (8 * i + j) ≤ Da (8 * i + m) + Db (8 * m + j)) ∧ (D (8 * i + j) = 1000000 ∨ ∃ m, m < 8 ∧ D (8 * i + j) = Da (8 * i + m) + Db (8 * m + j))) → post (yf_level, yf_parts, yf_pending, yf_conditions, yf_spelled, yf_depth, yf_used, yf_weight, yf_found, yf_lightest, yf_some, yf_sum, ya_labels, ya_properties, ya_from, ya_to, ya_types, ya_weights, ya_variable, ya_wanted, ya_among, ya_direction, ya_low, ya_high, ya_tokens, ya_condition, ya_expression, ya_stack, ya_part, ya_steps, ya_place, ya_choice, ya_bound, ya_took, ya_nodeOf, ya_chosen, far)) : wpY_compose post (yf_level, yf_parts, yf_pending, yf_conditions, yf_spelled, yf_depth, yf_used, yf_weight, yf_found, yf_lightest, yf_some, yf_sum, ya_labels, ya_properties, ya_from, ya_to, ya_types, ya_weights, ya_variable, ya_wanted, ya_among, ya_direction, ya_low, ya_high, ya_tokens, ya_condition, ya_expression, ya_stack, ya_part, ya_steps, ya_place, ya_choice, ya_bound, ya_took, ya_nodeOf, ya_chosen, ya_far) (nI a) (nI b) (nI c) := by
  have key : ∀ (n x : Nat) (far : Nat → Int32) (D : Nat → Nat), x ≤ 64 → 64 - x < n → yt_o ya_far far c → (∀ y, y < x → far (c + y) = nI (D y) ∧ D y ≤ 1000000 ∧ (∀ m, m < 8 → D y ≤ Da (8 * (y / 8) + m) + Db (8 * m + y % 8)) ∧ (D y = 1000000 ∨ ∃ m, m < 8 ∧ D y = Da (8 * (y / 8) + m) + Db (8 * m + y % 8))) → wY_compose_3 post (nI a) (nI b) (nI c) yf_level yf_parts yf_pending yf_conditions yf_spelled yf_depth yf_used yf_weight yf_found yf_lightest yf_some yf_sum n (nI x) ya_labels ya_properties ya_from ya_to ya_types ya_weights ya_variable ya_wanted ya_among ya_direction ya_low ya_high ya_tokens ya_condition ya_expression ya_stack ya_part ya_steps ya_place ya_choice ya_bound ya_took ya_nodeOf ya_chosen far := by
    intro n
    induction n with
    | zero => intro x far D _ hn; omega
    | succ n ih =>
      intro x far D hx hn O J
      by_cases e : x = 64
      · subst e
        refine br_t (nI_le (b := 64) (Nat.le_refl _) (by omega)) (h far D O (fun y hy => ⟨(J y hy).1, (J y hy).2.1⟩) fun i j hi hj => ?_)
        have := (J (8 * i + j) (by omega)).2
        rw [show (8 * i + j) / 8 = i by omega, show (8 * i + j) % 8 = j by omega] at this
        exact this
      · have hx : x < 64 := by omega
        have d8 : nI x / 8 = nI (x / 8) := pk_div (a := x) (d := 8) (by omega) (by omega) (by omega)
        have m8 : nI x - nI x / 8 * 8 = nI (x % 8) := pk_rem (a := x) (d := 8) (by omega) (by omega) (by omega)
        have inner : ∀ k m best, m ≤ 8 → 8 - m < k → best ≤ 1000000 → (∀ m', m' < m → best ≤ Da (8 * (x / 8) + m') + Db (8 * m' + x % 8)) → (best = 1000000 ∨ ∃ m', m' < 8 ∧ best = Da (8 * (x / 8) + m') + Db (8 * m' + x % 8)) → wY_compose_17 post (wY_compose_3 post (nI a) (nI b) (nI c) yf_level yf_parts yf_pending yf_conditions yf_spelled yf_depth yf_used yf_weight yf_found yf_lightest yf_some yf_sum n) (nI a) (nI b) (nI c) (nI x) yf_level yf_parts yf_pending yf_conditions yf_spelled yf_depth yf_used yf_weight yf_found yf_lightest yf_some yf_sum ya_labels ya_properties ya_from ya_to ya_types ya_weights ya_variable ya_wanted ya_among ya_direction ya_low ya_high ya_tokens ya_condition ya_expression ya_stack ya_part ya_steps ya_place ya_choice ya_bound ya_took ya_nodeOf ya_chosen far k (nI best) (nI m) := by
          intro k
          induction k with
          | zero => intro m best _ hk; omega
          | succ k ihk =>
            intro m best hm hk b1 b2 b3
            by_cases e8 : m = 8
            · subst e8
              refine br_t (nI_le (b := 8) (Nat.le_refl _) (by omega)) ?_
              rw [nI_add]
              refine ⟨vp_in_nI (by omega) (by omega), nm_r (e' := upd far (c + x) (nI best)) (by rw [nI_clamp (by omega)]) (nm_r (nI_1 x) (ih (x + 1) _ (fun y => if y = x then best else D y) (by omega) (by omega) (yt_up (by omega) O) fun y hy => ?_))⟩
              by_cases w : y = x
              · subst w
                simp only [if_true]
                exact ⟨pk_us, b1, b2, b3⟩
              · simp only [if_neg w]
                rw [pk_un (show c + y ≠ c + x by omega)]
                exact J y (by omega)
            · have hm : m < 8 := by omega
              have i1 : (nI a + (nI x / 8) * 8) + nI m = nI (a + (8 * (x / 8) + m)) := by
                have : nI (x / 8) * 8 = nI (x / 8 * 8) := pk_mul _ 8
                rw [d8, this, nI_add, nI_add]
                exact congrArg nI (by omega)
              have i2 : (nI b + 8 * nI m) + (nI x - nI x / 8 * 8) = nI (b + (8 * m + x % 8)) := by
                have : (8 : Int32) * nI m = nI (8 * m) := pk_mul 8 m
                rw [m8, this, nI_add, nI_add]
                exact congrArg nI (by omega)
              have x8 : x / 8 < 8 := by omega
              have m88 : x % 8 < 8 := by omega
              have t1 := Ta (8 * (x / 8) + m) (by omega)
              have t2 := Tb (8 * m + x % 8) (by omega)
              have f1 : far (a + (8 * (x / 8) + m)) = nI (Da (8 * (x / 8) + m)) := by rw [O _ (by omega)]; exact t1.1
              have f2 : far (b + (8 * m + x % 8)) = nI (Db (8 * m + x % 8)) := by rw [O _ (by omega)]; exact t2.1
              refine br_f (nI_ge (b := 8) hm (by omega)) ⟨by decide, by rw [i1]; exact vp_in_nI (by omega) (by omega), by decide, by rw [i2]; exact vp_in_nI (by omega) (by omega), nm_r (e' := nI (Da (8 * (x / 8) + m) + Db (8 * m + x % 8))) (by rw [i1, i2, nI_clamp (by omega), nI_clamp (by omega), f1, f2, nI_add]) ?_⟩
              have s1 := t1.2
              have s2 := t2.2
              by_cases w : best ≤ Da (8 * (x / 8) + m) + Db (8 * m + x % 8)
              · refine br_t (nI_le w (by omega)) (nm_r (nI_1 m) (ihk (m + 1) best (by omega) (by omega) b1 (fun m' hm' => ?_) b3))
                by_cases y : m' = m
                · subst y; exact w
                · exact b2 m' (by omega)
              · refine br_f (nI_ge (by omega) (by omega)) (nm_r (nI_1 m) (ihk (m + 1) _ (by omega) (by omega) (by omega) (fun m' hm' => ?_) (Or.inr ⟨m, hm, rfl⟩)))
                by_cases y : m' = m
                · subst y; exact Nat.le_refl _
                · have := b2 m' (by omega)
                  omega
        exact br_f (nI_ge (b := 64) hx (by omega)) ⟨9, inner 9 0 1000000 (by omega) (by omega) (Nat.le_refl _) (fun m' hm' => absurd hm' (Nat.not_lt_zero m')) (Or.inl rfl)⟩
  unfold wpY_compose
  exact ⟨65, key 65 0 _ (fun _ => 0) (by omega) (by omega) (fun _ _ => rfl) (fun y hy => absurd hy (Nat.not_lt_zero y))⟩
theorem y_repeat {a : Nat} {Da : Nat → Nat} {A : WW} (ha : a + 64 ≤ 704) (Ta : yt_T ya_far a Da) (M : fw_M A (fun i j => Da (8 * i + j))) (h : ∀ far D D0, yt_o ya_far far a → yt_T far a D → (∀ i j, i < 8 → j < 8 → D0 i j = if i = j then 0 else Da (8 * i + j)) → fw_I D0 A 8 0 (fun i j => D (8 * i + j)) → post (yf_level, yf_parts, yf_pending, yf_conditions, yf_spelled, yf_depth, yf_used, yf_weight, yf_found, yf_lightest, yf_some, yf_sum, ya_labels, ya_properties, ya_from, ya_to, ya_types, ya_weights, ya_variable, ya_wanted, ya_among, ya_direction, ya_low, ya_high, ya_tokens, ya_condition, ya_expression, ya_stack, ya_part, ya_steps, ya_place, ya_choice, ya_bound, ya_took, ya_nodeOf, ya_chosen, far)) : wpY_repeat post (yf_level, yf_parts, yf_pending, yf_conditions, yf_spelled, yf_depth, yf_used, yf_weight, yf_found, yf_lightest, yf_some, yf_sum, ya_labels, ya_properties, ya_from, ya_to, ya_types, ya_weights, ya_variable, ya_wanted, ya_among, ya_direction, ya_low, ya_high, ya_tokens, ya_condition, ya_expression, ya_stack, ya_part, ya_steps, ya_place, ya_choice, ya_bound, ya_took, ya_nodeOf, ya_chosen, ya_far) (nI a) := by
  have k28 : ∀ D0 : Nat → Nat → Nat, (∀ i j, i < 8 → j < 8 → D0 i j = if i = j then 0 else Da (8 * i + j)) → ∀ n k far D, k ≤ 512 → 512 - k < n → yt_o ya_far far a → yt_T far a D → fw_I D0 A (k / 64) (k % 64) (fun i j => D (8 * i + j)) → wY_repeat_28 post (nI a) yf_level yf_parts yf_pending yf_conditions yf_spelled yf_depth yf_used yf_weight yf_found yf_lightest yf_some yf_sum n (nI k) ya_labels ya_properties ya_from ya_to ya_types ya_weights ya_variable ya_wanted ya_among ya_direction ya_low ya_high ya_tokens ya_condition ya_expression ya_stack ya_part ya_steps ya_place ya_choice ya_bound ya_took ya_nodeOf ya_chosen far := by
    intro D0 hD0 n
    induction n with
    | zero => intro k far D _ hn; omega
    | succ n ih =>
      intro k far D hk hn O T J
      by_cases e : k = 512
      · subst e
        exact br_t (nI_le (b := 512) (Nat.le_refl _) (by omega)) (h far D D0 O T hD0 J)
      · have hk : k < 512 := by omega
        have d8 : nI k / 8 = nI (k / 8) := pk_div (a := k) (d := 8) (by omega) (by omega) (by omega)
        have m8 : nI k - nI k / 8 * 8 = nI (k % 8) := pk_rem (a := k) (d := 8) (by omega) (by omega) (by omega)
        have d64 : nI k / 64 = nI (k / 64) := pk_div (a := k) (d := 64) (by omega) (by omega) (by omega)
        have m88 : nI (k / 8) - nI (k / 8) / 8 * 8 = nI (k / 8 % 8) := pk_rem (a := k / 8) (d := 8) (by omega) (by omega) (by omega)
        obtain ⟨m, i, j, hm, hi, hj, ek⟩ : ∃ m i j, m < 8 ∧ i < 8 ∧ j < 8 ∧ k = 64 * m + (8 * i + j) := ⟨k / 64, k / 8 % 8, k % 8, by omega, by omega, by omega, by omega⟩
        have e1 : k / 64 = m := by omega
        have e2 : k / 8 % 8 = i := by omega
        have e3 : k % 8 = j := by omega
        have e4 : k % 64 = 8 * i + j := by omega
        rw [e1, e4] at J
        have x3 : nI a + ((nI k / 8 - nI k / 8 / 8 * 8) * 8) = nI (a + 8 * i) := by
          have : nI (k / 8 % 8) * 8 = nI (k / 8 % 8 * 8) := pk_mul _ 8
          rw [d8, m88, this, nI_add, e2]
          exact congrArg nI (by omega)
        have t1 := T (8 * i + m) (by omega)
        have t2 := T (8 * m + j) (by omega)
        have t3 := T (8 * i + j) (by omega)
        have s1 := t1.2
        have s2 := t2.2
        have s3 := t3.2
        have p1 : nI (a + 8 * i) + nI m = nI (a + (8 * i + m)) := by rw [nI_add]; exact congrArg nI (by omega)
        have p2 : (nI a + 8 * nI m) + (nI k - nI k / 8 * 8) = nI (a + (8 * m + j)) := by
          have : (8 : Int32) * nI m = nI (8 * m) := pk_mul 8 m
          rw [m8, this, nI_add, nI_add, e3]
          exact congrArg nI (by omega)
        have p3 : nI (a + 8 * i) + (nI k - nI k / 8 * 8) = nI (a + (8 * i + j)) := by
          rw [m8, nI_add, e3]
          exact congrArg nI (by omega)
        have next : ∀ far' D', yt_o ya_far far' a → yt_T far' a D' → fw_I D0 A m (8 * i + j + 1) (fun i j => D' (8 * i + j)) → wY_repeat_28 post (nI a) yf_level yf_parts yf_pending yf_conditions yf_spelled yf_depth yf_used yf_weight yf_found yf_lightest yf_some yf_sum n (nI (k + 1)) ya_labels ya_properties ya_from ya_to ya_types ya_weights ya_variable ya_wanted ya_among ya_direction ya_low ya_high ya_tokens ya_condition ya_expression ya_stack ya_part ya_steps ya_place ya_choice ya_bound ya_took ya_nodeOf ya_chosen far' := by
          intro far' D' O' T' J'
          refine ih (k + 1) far' D' (by omega) (by omega) O' T' ?_
          by_cases w : 8 * i + j + 1 = 64
          · rw [w] at J'
            have := fw_next J'
            rw [show (k + 1) / 64 = m + 1 by omega, show (k + 1) % 64 = 0 by omega]
            exact this
          · rw [show (k + 1) / 64 = m by omega, show (k + 1) % 64 = 8 * i + j + 1 by omega]
            exact J'
        refine br_f (nI_ge (b := 512) hk (by omega)) ⟨by decide, by decide, nm_r (e' := nI (a + 8 * i)) x3 ⟨by decide, nm_r (e' := nI m) (by rw [d64, e1]) ?_⟩⟩
        rw [p1, p2, p3, nI_clamp (n := a + (8 * i + m)) (by omega), nI_clamp (n := a + (8 * m + j)) (by omega), nI_clamp (n := a + (8 * i + j)) (by omega), t1.1, t2.1, t3.1, nI_add]
        refine ⟨vp_in_nI (by omega) (by omega), by decide, vp_in_nI (by omega) (by omega), nm_e ⟨by decide, vp_in_nI (by omega) (by omega), ?_⟩⟩
        by_cases w : D (8 * i + j) ≤ D (8 * i + m) + D (8 * m + j)
        · refine br_t (nI_le w (by omega)) (nm_r (nI_1 k) (next far D O T (fw_step hm hi hj J ⟨Nat.le_refl _, w, Or.inl rfl⟩ (fun _ _ _ _ _ => rfl))))
        · refine br_f (nI_ge (by omega) (by omega)) ⟨by decide, vp_in_nI (by omega) (by omega), nm_e (nm_r (nI_1 k) (next _ _ (yt_up (by omega) O) (yt_upT (v := D (8 * i + m) + D (8 * m + j)) (by omega) T) (fw_step hm hi hj J ?_ (fun i' j' hi' hj' no => ?_))))⟩
          · simp only [if_true]
            exact ⟨by omega, Nat.le_refl _, Or.inr (by trivial)⟩
          · have : 8 * i' + j' ≠ 8 * i + j := fun y => no ⟨by omega, by omega⟩
            simp only [if_neg this]
  have k2 : ∀ n i far D, i ≤ 8 → 8 - i < n → yt_o ya_far far a → yt_T far a D → (∀ x, x < 64 → D x = if x / 8 = x % 8 ∧ x / 8 < i then 0 else Da x) → wY_repeat_2 post (nI a) yf_level yf_parts yf_pending yf_conditions yf_spelled yf_depth yf_used yf_weight yf_found yf_lightest yf_some yf_sum n (nI i) ya_labels ya_properties ya_from ya_to ya_types ya_weights ya_variable ya_wanted ya_among ya_direction ya_low ya_high ya_tokens ya_condition ya_expression ya_stack ya_part ya_steps ya_place ya_choice ya_bound ya_took ya_nodeOf ya_chosen far := by
    intro n
    induction n with
    | zero => intro i far D _ hn; omega
    | succ n ih =>
      intro i far D hi hn O T J
      by_cases e : i = 8
      · subst e
        have hD0 : ∀ i j, i < 8 → j < 8 → (fun i j => D (8 * i + j)) i j = if i = j then 0 else Da (8 * i + j) := by
          intro i j hi hj
          dsimp only
          rw [J _ (by omega), show (8 * i + j) / 8 = i by omega, show (8 * i + j) % 8 = j by omega]
          exact se_if ⟨fun y => y.1, fun y => ⟨y, hi⟩⟩ _ _
        exact br_t (nI_le (b := 8) (Nat.le_refl _) (by omega)) ⟨513, k28 _ hD0 513 0 far D (by omega) (by omega) O T (fw_init M hD0)⟩
      · have hi : i < 8 := by omega
        have ix : nI a + 9 * nI i = nI (a + 9 * i) := by
          have : (9 : Int32) * nI i = nI (9 * i) := pk_mul 9 i
          rw [this, nI_add]
        refine br_f (nI_ge (b := 8) hi (by omega)) ?_
        rw [ix, nI_clamp (by omega)]
        refine ⟨vp_in_nI (by omega) (by omega), nm_r (e' := upd far (a + 9 * i) (nI 0)) (by rfl) (nm_r (nI_1 i) (ih (i + 1) _ _ (by omega) (by omega) (yt_up (by omega) O) (yt_upT (by omega) T) fun x hx => ?_))⟩
        by_cases y : x = 9 * i
        · simp only [if_pos y]
          rw [if_pos ⟨by omega, by omega⟩]
        · simp only [if_neg y]
          rw [J x hx]
          exact se_if ⟨fun w => ⟨w.1, by omega⟩, fun w => ⟨w.1, by omega⟩⟩ _ _
  unfold wpY_repeat
  refine ⟨9, k2 9 0 _ Da (by omega) (by omega) (fun _ _ => rfl) Ta fun x hx => ?_⟩
  rw [if_neg (fun y => absurd y.2 (Nat.not_lt_zero _))]
end
end
section
/-! the reference spells an expression out -/
def yt_B (far : Nat → Int32) (st : WW) : List (WW → WW) → Prop
  | [] => True
  | A :: r => (∃ D, yt_T far (64 * r.length) D ∧ fw_M (A st) (fun i j => D (8 * i + j)) ∧ fw_8 (A st)) ∧ yt_B far st r
theorem yt_B_c {far far' : Nat → Int32} {st : WW} : ∀ {l : List (WW → WW)}, (∀ j, j < 64 * l.length → far' j = far j) → yt_B far st l → yt_B far' st l
  | [], _, _ => True.intro
  | A :: r, h, q => by
    obtain ⟨⟨D, T, M⟩, q⟩ := q
    rw [List.length_cons] at h
    exact ⟨⟨D, fun x hx => by rw [h _ (by omega)]; exact T x hx, M⟩, yt_B_c (fun j hj => h j (by omega)) q⟩
section
variable {yf_level yf_parts yf_pending yf_conditions yf_spelled yf_depth yf_used yf_weight yf_found yf_lightest yf_some : Int32} {yf_sum : Int64} {ya_labels : Nat → Int32} {ya_properties : Nat → Int64} {ya_from ya_to ya_types ya_weights ya_variable ya_wanted ya_among ya_direction ya_low ya_high ya_tokens ya_condition ya_expression ya_stack ya_part ya_steps ya_place ya_choice ya_bound ya_took ya_nodeOf ya_chosen ya_far : Nat → Int32} {post : SY → Prop} {g : Nat → Int64}
/-- a table copied from b to a: the printed copies are alike; the loop as a term over its own predicate -/
theorem y_sp70 {n a r : Nat} {top : Int32} {D : Nat → Nat} (ha : a + 64 ≤ 640) (T : yt_T ya_far 640 D) (h : ∀ far, yt_o ya_far far a → yt_T far a D → wY_spellOut_9 post n top (dn r) yf_level yf_parts yf_pending yf_conditions yf_spelled yf_depth yf_used yf_weight yf_found yf_lightest yf_some yf_sum ya_labels ya_properties ya_from ya_to ya_types ya_weights ya_variable ya_wanted ya_among ya_direction ya_low ya_high ya_tokens ya_condition ya_expression ya_stack ya_part ya_steps ya_place ya_choice ya_bound ya_took ya_nodeOf ya_chosen far) : ∃ k, wY_spellOut_70 post (wY_spellOut_9 post n) top (nI r) (nI (a + 64)) yf_level yf_parts yf_pending yf_conditions yf_spelled yf_depth yf_used yf_weight yf_found yf_lightest yf_some yf_sum k 0 ya_labels ya_properties ya_from ya_to ya_types ya_weights ya_variable ya_wanted ya_among ya_direction ya_low ya_high ya_tokens ya_condition ya_expression ya_stack ya_part ya_steps ya_place ya_choice ya_bound ya_took ya_nodeOf ya_chosen ya_far := by
  have b : nI (a + 64) - 64 = nI a := by
    have := pk_sub (a := a + 64) (b := 64) (by omega)
    rw [Nat.add_sub_cancel] at this
    exact this
  have key : ∀ k i far, i ≤ 64 → 64 - i < k → yt_o ya_far far a → (∀ x, x < i → far (a + x) = nI (D x)) → wY_spellOut_70 post (wY_spellOut_9 post n) top (nI r) (nI (a + 64)) yf_level yf_parts yf_pending yf_conditions yf_spelled yf_depth yf_used yf_weight yf_found yf_lightest yf_some yf_sum k (nI i) ya_labels ya_properties ya_from ya_to ya_types ya_weights ya_variable ya_wanted ya_among ya_direction ya_low ya_high ya_tokens ya_condition ya_expression ya_stack ya_part ya_steps ya_place ya_choice ya_bound ya_took ya_nodeOf ya_chosen far := by
    intro k
    induction k with
    | zero => intro i far _ hk; omega
    | succ k ih =>
      intro i far hi hk O J
      by_cases e : i = 64
      · subst e
        exact br_t (nI_le (b := 64) (Nat.le_refl _) (by omega)) (nm_r (dn_m r) (h far O fun x hx => ⟨J x hx, (T x hx).2⟩))
      · have hi : i < 64 := by omega
        have e1 : (640 : Int32) + nI i = nI (640 + i) := nI_add 640 i
        have e2 : (nI (a + 64) - 64) + nI i = nI (a + i) := by rw [b, nI_add]
        refine br_f (nI_ge (b := 64) hi (by omega)) ⟨by rw [e1]; exact vp_in_nI (by omega) (by omega), by rw [e2]; exact vp_in_nI (by omega) (by omega), nm_r (e' := upd far (a + i) (nI (D i))) ?_ (nm_r (nI_1 i) (ih (i + 1) _ (by omega) (by omega) (yt_up hi O) fun x hx => ?_))⟩
        · rw [e1, e2, nI_clamp (by omega), nI_clamp (by omega), O _ (by omega), (T i hi).1]
        · by_cases y : x = i
          · subst y; exact pk_us
          · rw [pk_un (by omega)]; exact J x (by omega)
  exact ⟨65, key 65 0 _ (by omega) (by omega) (fun _ _ => rfl) (fun x hx => absurd hx (Nat.not_lt_zero x))⟩
theorem y_sp294 {n a r : Nat} {top : Int32} {D : Nat → Nat} (ha : a + 64 ≤ 640) (T : yt_T ya_far 640 D) (h : ∀ far, yt_o ya_far far a → yt_T far a D → wY_spellOut_9 post n top (dn r) yf_level yf_parts yf_pending yf_conditions yf_spelled yf_depth yf_used yf_weight yf_found yf_lightest yf_some yf_sum ya_labels ya_properties ya_from ya_to ya_types ya_weights ya_variable ya_wanted ya_among ya_direction ya_low ya_high ya_tokens ya_condition ya_expression ya_stack ya_part ya_steps ya_place ya_choice ya_bound ya_took ya_nodeOf ya_chosen far) : ∃ k, wY_spellOut_294 post (wY_spellOut_9 post n) top (nI r) (nI a) yf_level yf_parts yf_pending yf_conditions yf_spelled yf_depth yf_used yf_weight yf_found yf_lightest yf_some yf_sum k 0 ya_labels ya_properties ya_from ya_to ya_types ya_weights ya_variable ya_wanted ya_among ya_direction ya_low ya_high ya_tokens ya_condition ya_expression ya_stack ya_part ya_steps ya_place ya_choice ya_bound ya_took ya_nodeOf ya_chosen ya_far := by
  have key : ∀ k i far, i ≤ 64 → 64 - i < k → yt_o ya_far far a → (∀ x, x < i → far (a + x) = nI (D x)) → wY_spellOut_294 post (wY_spellOut_9 post n) top (nI r) (nI a) yf_level yf_parts yf_pending yf_conditions yf_spelled yf_depth yf_used yf_weight yf_found yf_lightest yf_some yf_sum k (nI i) ya_labels ya_properties ya_from ya_to ya_types ya_weights ya_variable ya_wanted ya_among ya_direction ya_low ya_high ya_tokens ya_condition ya_expression ya_stack ya_part ya_steps ya_place ya_choice ya_bound ya_took ya_nodeOf ya_chosen far := by
    intro k
    induction k with
    | zero => intro i far _ hk; omega
    | succ k ih =>
      intro i far hi hk O J
      by_cases e : i = 64
      · subst e
        exact br_t (nI_le (b := 64) (Nat.le_refl _) (by omega)) (nm_r (dn_m r) (h far O fun x hx => ⟨J x hx, (T x hx).2⟩))
      · have hi : i < 64 := by omega
        have e1 : (640 : Int32) + nI i = nI (640 + i) := nI_add 640 i
        have e2 : nI a + nI i = nI (a + i) := nI_add a i
        refine br_f (nI_ge (b := 64) hi (by omega)) ⟨by rw [e1]; exact vp_in_nI (by omega) (by omega), by rw [e2]; exact vp_in_nI (by omega) (by omega), nm_r (e' := upd far (a + i) (nI (D i))) ?_ (nm_r (nI_1 i) (ih (i + 1) _ (by omega) (by omega) (yt_up hi O) fun x hx => ?_))⟩
        · rw [e1, e2, nI_clamp (by omega), nI_clamp (by omega), O _ (by omega), (T i hi).1]
        · by_cases y : x = i
          · subst y; exact pk_us
          · rw [pk_un (by omega)]; exact J x (by omega)
  exact ⟨65, key 65 0 _ (by omega) (by omega) (fun _ _ => rfl) (fun x hx => absurd hx (Nat.not_lt_zero x))⟩
theorem y_sp122 {n a r : Nat} {top : Int32} {Da Db : Nat → Nat} (ha : a + 128 ≤ 704) (Ta : yt_T ya_far (a + 64) Da) (Tb : yt_T ya_far a Db) (h : ∀ far D, yt_o ya_far far a → yt_T far a D → (∀ x, x < 64 → D x ≤ Da x ∧ D x ≤ Db x ∧ (D x = Da x ∨ D x = Db x)) → wY_spellOut_9 post n top (dn r) yf_level yf_parts yf_pending yf_conditions yf_spelled yf_depth yf_used yf_weight yf_found yf_lightest yf_some yf_sum ya_labels ya_properties ya_from ya_to ya_types ya_weights ya_variable ya_wanted ya_among ya_direction ya_low ya_high ya_tokens ya_condition ya_expression ya_stack ya_part ya_steps ya_place ya_choice ya_bound ya_took ya_nodeOf ya_chosen far) : ∃ k, wY_spellOut_122 post (wY_spellOut_9 post n) top (nI r) (nI (a + 64)) yf_level yf_parts yf_pending yf_conditions yf_spelled yf_depth yf_used yf_weight yf_found yf_lightest yf_some yf_sum k 0 ya_labels ya_properties ya_from ya_to ya_types ya_weights ya_variable ya_wanted ya_among ya_direction ya_low ya_high ya_tokens ya_condition ya_expression ya_stack ya_part ya_steps ya_place ya_choice ya_bound ya_took ya_nodeOf ya_chosen ya_far := by
  have b : nI (a + 64) - 64 = nI a := by
    have := pk_sub (a := a + 64) (b := 64) (by omega)
    rw [Nat.add_sub_cancel] at this
    exact this
  have key : ∀ k i far D, i ≤ 64 → 64 - i < k → yt_o ya_far far a → yt_T far a D → (∀ x, x < i → D x ≤ Da x ∧ D x ≤ Db x ∧ (D x = Da x ∨ D x = Db x)) → (∀ x, i ≤ x → x < 64 → D x = Db x) → wY_spellOut_122 post (wY_spellOut_9 post n) top (nI r) (nI (a + 64)) yf_level yf_parts yf_pending yf_conditions yf_spelled yf_depth yf_used yf_weight yf_found yf_lightest yf_some yf_sum k (nI i) ya_labels ya_properties ya_from ya_to ya_types ya_weights ya_variable ya_wanted ya_among ya_direction ya_low ya_high ya_tokens ya_condition ya_expression ya_stack ya_part ya_steps ya_place ya_choice ya_bound ya_took ya_nodeOf ya_chosen far := by
    intro k
    induction k with
    | zero => intro i far D _ hk; omega
    | succ k ih =>
      intro i far D hi hk O T J1 J2
      by_cases e : i = 64
      · subst e
        exact br_t (nI_le (b := 64) (Nat.le_refl _) (by omega)) (nm_r (dn_m r) (h far D O T J1))
      · have hi : i < 64 := by omega
        have e1 : nI (a + 64) + nI i = nI (a + 64 + i) := nI_add _ i
        have e2 : (nI (a + 64) - 64) + nI i = nI (a + i) := by rw [b, nI_add]
        have f1 : far (a + 64 + i) = nI (Da i) := by rw [O _ (by omega)]; exact (Ta i hi).1
        have s1 := (Ta i hi).2
        have s2 := (T i hi).2
        have f2 := (T i hi).1
        have dd := J2 i (Nat.le_refl _) hi
        have v1 : vp_in (nI (a + 64) + nI i) 704 := by rw [e1]; exact vp_in_nI (by omega) (by omega)
        have v2 : vp_in ((nI (a + 64) - 64) + nI i) 704 := by rw [e2]; exact vp_in_nI (by omega) (by omega)
        refine br_f (nI_ge (b := 64) hi (by omega)) ⟨v1, v2, ?_⟩
        by_cases w : D i ≤ Da i
        · refine br_t (by rw [e1, e2, nI_clamp (by omega), nI_clamp (by omega), f1, f2]; exact nI_le w (by omega)) (nm_r (nI_1 i) (ih (i + 1) far D (by omega) (by omega) O T (fun x hx => ?_) (fun x h1 h2 => J2 x (by omega) h2)))
          by_cases y : x = i
          · subst y; exact ⟨w, by omega, Or.inr dd⟩
          · exact J1 x (by omega)
        · refine br_f (by rw [e1, e2, nI_clamp (by omega), nI_clamp (by omega), f1, f2]; exact nI_ge (by omega) (by omega)) ⟨v1, v2, nm_r (e' := upd far (a + i) (nI (Da i))) (by rw [e1, e2, nI_clamp (by omega), nI_clamp (by omega), f1]) (nm_r (nI_1 i) (ih (i + 1) _ _ (by omega) (by omega) (yt_up hi O) (yt_upT s1 T) (fun x hx => ?_) (fun x h1 h2 => ?_)))⟩
          · by_cases y : x = i
            · subst y
              simp only [if_true]
              exact ⟨Nat.le_refl _, by omega, Or.inl (by trivial)⟩
            · simp only [if_neg y]
              exact J1 x (by omega)
          · simp only [if_neg (show ¬ x = i by omega)]
            exact J2 x (by omega) h2
  exact ⟨65, key 65 0 _ Db (by omega) (by omega) (fun _ _ => rfl) Tb (fun x hx => absurd hx (Nat.not_lt_zero x)) (fun x _ _ => rfl)⟩
theorem y_sp211 {n a r : Nat} {top : Int32} {Da : Nat → Nat} (ha : a + 64 ≤ 704) (Ta : yt_T ya_far a Da) (h : ∀ far D, yt_o ya_far far a → yt_T far a D → (∀ i j, i < 8 → j < 8 → D (8 * i + j) = if i = j then 0 else Da (8 * i + j)) → wY_spellOut_9 post n top (dn r) yf_level yf_parts yf_pending yf_conditions yf_spelled yf_depth yf_used yf_weight yf_found yf_lightest yf_some yf_sum ya_labels ya_properties ya_from ya_to ya_types ya_weights ya_variable ya_wanted ya_among ya_direction ya_low ya_high ya_tokens ya_condition ya_expression ya_stack ya_part ya_steps ya_place ya_choice ya_bound ya_took ya_nodeOf ya_chosen far) : ∃ k, wY_spellOut_211 post (wY_spellOut_9 post n) top (nI r) (nI a) yf_level yf_parts yf_pending yf_conditions yf_spelled yf_depth yf_used yf_weight yf_found yf_lightest yf_some yf_sum k 0 ya_labels ya_properties ya_from ya_to ya_types ya_weights ya_variable ya_wanted ya_among ya_direction ya_low ya_high ya_tokens ya_condition ya_expression ya_stack ya_part ya_steps ya_place ya_choice ya_bound ya_took ya_nodeOf ya_chosen ya_far := by
  have key : ∀ k i far D, i ≤ 8 → 8 - i < k → yt_o ya_far far a → yt_T far a D → (∀ x, x < 64 → D x = if x / 8 = x % 8 ∧ x / 8 < i then 0 else Da x) → wY_spellOut_211 post (wY_spellOut_9 post n) top (nI r) (nI a) yf_level yf_parts yf_pending yf_conditions yf_spelled yf_depth yf_used yf_weight yf_found yf_lightest yf_some yf_sum k (nI i) ya_labels ya_properties ya_from ya_to ya_types ya_weights ya_variable ya_wanted ya_among ya_direction ya_low ya_high ya_tokens ya_condition ya_expression ya_stack ya_part ya_steps ya_place ya_choice ya_bound ya_took ya_nodeOf ya_chosen far := by
    intro k
    induction k with
    | zero => intro i far D _ hn; omega
    | succ k ih =>
      intro i far D hi hn O T J
      by_cases e : i = 8
      · subst e
        refine br_t (nI_le (b := 8) (Nat.le_refl _) (by omega)) (nm_r (dn_m r) (h far D O T fun i j hi hj => ?_))
        rw [J _ (by omega), show (8 * i + j) / 8 = i by omega, show (8 * i + j) % 8 = j by omega]
        exact se_if ⟨fun y => y.1, fun y => ⟨y, hi⟩⟩ _ _
      · have hi : i < 8 := by omega
        have ix : nI a + 9 * nI i = nI (a + 9 * i) := by
          have : (9 : Int32) * nI i = nI (9 * i) := pk_mul 9 i
          rw [this, nI_add]
        refine br_f (nI_ge (b := 8) hi (by omega)) ?_
        rw [ix, nI_clamp (by omega)]
        refine ⟨vp_in_nI (by omega) (by omega), nm_r (e' := upd far (a + 9 * i) (nI 0)) (by rfl) (nm_r (nI_1 i) (ih (i + 1) _ _ (by omega) (by omega) (yt_up (by omega) O) (yt_upT (by omega) T) fun x hx => ?_))⟩
        by_cases y : x = 9 * i
        · simp only [if_pos y]
          rw [if_pos ⟨by omega, by omega⟩]
        · simp only [if_neg y]
          rw [J x hx]
          exact se_if ⟨fun w => ⟨w.1, by omega⟩, fun w => ⟨w.1, by omega⟩⟩ _ _
  refine ⟨9, key 9 0 _ Da (by omega) (by omega) (fun _ _ => rfl) Ta fun x hx => ?_⟩
  rw [if_neg (fun y => absurd y.2 (Nat.not_lt_zero _))]
theorem y_sp244 {n a r : Nat} {A : WW → WW} {st : WW} {Da : Nat → Nat} (ha : a + 128 ≤ 640) (Ta : yt_T ya_far a Da) (M : fw_M (A st) (fun i j => Da (8 * i + j))) (c : fw_8 (A st)) (h : ∀ far D, (∀ j, j < a → far j = ya_far j) → yt_T far a D → fw_M (wk_C A (wk_S A) st) (fun i j => D (8 * i + j)) → wY_spellOut_9 post n (nI (a + 64)) (dn r) yf_level yf_parts yf_pending yf_conditions yf_spelled yf_depth yf_used yf_weight yf_found yf_lightest yf_some yf_sum ya_labels ya_properties ya_from ya_to ya_types ya_weights ya_variable ya_wanted ya_among ya_direction ya_low ya_high ya_tokens ya_condition ya_expression ya_stack ya_part ya_steps ya_place ya_choice ya_bound ya_took ya_nodeOf ya_chosen far) : ∃ k, wY_spellOut_244 post (wY_spellOut_9 post n) (nI (a + 64)) (nI r) (nI a) yf_level yf_parts yf_pending yf_conditions yf_spelled yf_depth yf_used yf_weight yf_found yf_lightest yf_some yf_sum k 0 ya_labels ya_properties ya_from ya_to ya_types ya_weights ya_variable ya_wanted ya_among ya_direction ya_low ya_high ya_tokens ya_condition ya_expression ya_stack ya_part ya_steps ya_place ya_choice ya_bound ya_took ya_nodeOf ya_chosen ya_far := by
  have key : ∀ k i far, i ≤ 64 → 64 - i < k → yt_o ya_far far (a + 64) → (∀ x, x < i → far (a + 64 + x) = nI (Da x)) → wY_spellOut_244 post (wY_spellOut_9 post n) (nI (a + 64)) (nI r) (nI a) yf_level yf_parts yf_pending yf_conditions yf_spelled yf_depth yf_used yf_weight yf_found yf_lightest yf_some yf_sum k (nI i) ya_labels ya_properties ya_from ya_to ya_types ya_weights ya_variable ya_wanted ya_among ya_direction ya_low ya_high ya_tokens ya_condition ya_expression ya_stack ya_part ya_steps ya_place ya_choice ya_bound ya_took ya_nodeOf ya_chosen far := by
    intro k
    induction k with
    | zero => intro i far _ hk; omega
    | succ k ih =>
      intro i far hi hk O J
      by_cases e : i = 64
      · subst e
        have T1 : yt_T far (a + 64) Da := fun x hx => ⟨J x hx, (Ta x hx).2⟩
        have T0 : yt_T far a Da := yt_T_o O (Or.inl (Nat.le_refl _)) Ta
        refine br_t (nI_le (b := 64) (Nat.le_refl _) (by omega)) (y_repeat (by omega) T1 M fun far2 D2 D0 O2 T2 hD0 I2 => ?_)
        have M2 := fw_fin c M hD0 I2
        have T3 : yt_T far2 a Da := yt_T_o O2 (Or.inl (Nat.le_refl _)) T0
        refine y_compose (a := a) (b := a + 64) (c := 640) (by omega) (by omega) (by omega) T3 T2 fun far3 D3 O3 T4 hD3 => ?_
        refine y_sp294 (by omega) T4 fun far4 O4 T5 => h far4 D3 (fun j hj => ?_) T5 (fw_comp c M M2 hD3)
        rw [O4 j (by omega), O3 j (by omega), O2 j (by omega), O j (by omega)]
      · have hi : i < 64 := by omega
        have e1 : nI a + nI i = nI (a + i) := nI_add a i
        have e2 : nI (a + 64) + nI i = nI (a + 64 + i) := nI_add _ i
        refine br_f (nI_ge (b := 64) hi (by omega)) ⟨by rw [e1]; exact vp_in_nI (by omega) (by omega), by rw [e2]; exact vp_in_nI (by omega) (by omega), nm_r (e' := upd far (a + 64 + i) (nI (Da i))) ?_ (nm_r (nI_1 i) (ih (i + 1) _ (by omega) (by omega) (yt_up hi O) fun x hx => ?_))⟩
        · rw [e1, e2, nI_clamp (by omega), nI_clamp (by omega), O _ (by omega), (Ta i hi).1]
        · by_cases y : x = i
          · subst y; exact pk_us
          · rw [pk_un (by omega)]; exact J x (by omega)
  exact ⟨65, key 65 0 _ (by omega) (by omega) (fun _ _ => rfl) (fun x hx => absurd hx (Nat.not_lt_zero x))⟩
theorem y_spellOut_9 {nt : Nat} {c op : Nat → Nat} (V : VG g) (E : YE g 0 ya_from ya_to ya_types ya_weights) (EP : wk_op c nt op) (hn : nt ≤ 10) (tk : ∀ k, k < nt → ya_expression k = nI (c k)) (h : ∀ far, yt_B far (gsu g 12) (wk_st c nt nt) → post (yf_level, yf_parts, yf_pending, yf_conditions, yf_spelled, yf_depth, yf_used, yf_weight, yf_found, yf_lightest, yf_some, yf_sum, ya_labels, ya_properties, ya_from, ya_to, ya_types, ya_weights, ya_variable, ya_wanted, ya_among, ya_direction, ya_low, ya_high, ya_tokens, ya_condition, ya_expression, ya_stack, ya_part, ya_steps, ya_place, ya_choice, ya_bound, ya_took, ya_nodeOf, ya_chosen, far)) : ∀ r n j, j + r = nt → r < n → ∀ far, yt_B far (gsu g 12) (wk_st c nt j) → wY_spellOut_9 post n (nI (64 * (wk_st c nt j).length)) (dn r) yf_level yf_parts yf_pending yf_conditions yf_spelled yf_depth yf_used yf_weight yf_found yf_lightest yf_some yf_sum ya_labels ya_properties ya_from ya_to ya_types ya_weights ya_variable ya_wanted ya_among ya_direction ya_low ya_high ya_tokens ya_condition ya_expression ya_stack ya_part ya_steps ya_place ya_choice ya_bound ya_took ya_nodeOf ya_chosen far := by
  intro r
  induction r with
  | zero =>
    intro n j hj hn' far B
    obtain ⟨n, rfl⟩ : ∃ k, n = k + 1 := ⟨n - 1, by omega⟩
    have hj : j = nt := hj
    subst hj
    exact br_t (by decide) (h far B)
  | succ r ih =>
    intro n j hj hn' far B
    obtain ⟨n, rfl⟩ : ∃ k, n = k + 1 := ⟨n - 1, by omega⟩
    have e : nt - 1 - j = r := by omega
    obtain ⟨_, len, sh⟩ := wk_len EP j (by omega)
    have sh := sh (by omega)
    rw [e] at sh
    have Est : wk_st c nt (j + 1) = wk_s (c r) (wk_st c nt j) := by
      show wk_s (c (nt - 1 - j)) _ = _
      rw [e]
    have ih2 := ih n (j + 1) (by omega) (by omega)
    rw [Est] at ih2
    have tkr : ya_expression (nI r).toNatClampNeg = nI (c r) := by rw [nI_clamp (by omega)]; exact tk r (by omega)
    clear Est
    generalize wk_st c nt j = l at B len sh ih2 ⊢
    rw [dn_s]
    refine br_f (nI_pos (by omega)) ⟨vp_in_nI (by omega) (by omega), nm_r (e' := nI (c r)) tkr (nm_e ?_)⟩
    generalize c r = t at *
    have K : ∀ (C : List (WW → WW)), wk_s t l = C → ∀ far, yt_B far (gsu g 12) C → wY_spellOut_9 post n (nI (64 * C.length)) (dn r) yf_level yf_parts yf_pending yf_conditions yf_spelled yf_depth yf_used yf_weight yf_found yf_lightest yf_some yf_sum ya_labels ya_properties ya_from ya_to ya_types ya_weights ya_variable ya_wanted ya_among ya_direction ya_low ya_high ya_tokens ya_condition ya_expression ya_stack ya_part ya_steps ya_place ya_choice ya_bound ya_took ya_nodeOf ya_chosen far := by
      intro C eC far B
      subst eC
      exact ih2 far B
    rcases sh with a | ⟨a, A, B', l', rfl⟩ | ⟨a, A, l', rfl⟩
    · refine br_f (nI_ge (b := 6) a (by omega)) (y_edgeTable V E (by omega) a fun far2 D O T hD => ?_)
      have e64 : nI (64 * l.length) + 64 = nI (64 * (l.length + 1)) := nI_add (64 * l.length) 64
      refine nm_r e64 (nm_r (dn_m r) (K _ (wk_s_l a) far2 ⟨⟨D, T, fw_let (D := fun i j => D (8 * i + j)) hD, fw_8L (fun i j z => gsu_8 z)⟩, yt_B_c (fun j hj => O j (by omega)) B⟩))
    · rw [List.length_cons, List.length_cons] at len ⊢
      obtain ⟨⟨Da, Ta, Ma, ca⟩, ⟨Db, Tb, Mb, cb⟩, B⟩ := B
      rw [List.length_cons] at Ta
      have Ta' : yt_T far (64 * l'.length + 64) Da := by
        have : 64 * (l'.length + 1) = 64 * l'.length + 64 := by omega
        rw [this] at Ta
        exact Ta
      have e1 : nI (64 * (l'.length + 1 + 1)) - 64 = nI (64 * l'.length + 64) := by
        have := pk_sub (a := 64 * (l'.length + 1 + 1)) (b := 64) (by omega)
        rw [show 64 * (l'.length + 1 + 1) - 64 = 64 * l'.length + 64 by omega] at this
        exact this
      have e2 : nI (64 * l'.length + 64) - 64 = nI (64 * l'.length) := by
        have := pk_sub (a := 64 * l'.length + 64) (b := 64) (by omega)
        rw [Nat.add_sub_cancel] at this
        exact this
      rw [e1]
      refine br_t (nI_le (a := 6) (by omega) (by omega)) ?_
      rcases a with a | a
      · subst a
        refine br_t rfl ?_
        rw [e2]
        refine y_compose (a := 64 * l'.length + 64) (b := 64 * l'.length) (c := 640) (by omega) (by omega) (by omega) Ta' Tb fun far2 D O T hD => y_sp70 (by omega) T fun far3 O3 T3 => ?_
        have := K _ wk_s_10 far3 ⟨⟨D, T3, fw_comp ca Ma Mb hD, fw_8C ca cb⟩, yt_B_c (fun j hj => by rw [O3 j (by omega), O j (by omega)]) B⟩
        exact this
      · subst a
        refine br_f (by decide) (br_t rfl (y_sp122 (by omega) Ta' Tb fun far2 D O T hD => ?_))
        exact K _ wk_s_11 far2 ⟨⟨D, T, fw_min Ma Mb (fun i j hi hj => hD (8 * i + j) (by omega)), fw_8U ca cb⟩, yt_B_c (fun j hj => O j (by omega)) B⟩
    · rw [List.length_cons] at len ⊢
      obtain ⟨⟨Da, Ta, Ma, ca⟩, B⟩ := B
      have e0 : 64 * (l'.length + 1) = 64 * l'.length + 64 := by omega
      have e1 : nI (64 * (l'.length + 1)) - 64 = nI (64 * l'.length) := by
        have := pk_sub (a := 64 * (l'.length + 1)) (b := 64) (by omega)
        rw [show 64 * (l'.length + 1) - 64 = 64 * l'.length by omega] at this
        exact this
      rw [e1]
      refine br_t (nI_le (a := 6) (by omega) (by omega)) ?_
      rcases a with a | a | a
      · subst a
        refine br_f (by decide) (br_f (by decide) (br_t rfl (y_repeat (by omega) Ta Ma fun far2 D D0 O T hD0 I2 => nm_r (dn_m r) ?_)))
        exact K _ wk_s_12 far2 ⟨⟨D, T, fw_fin ca Ma hD0 I2, fw_8S ca⟩, yt_B_c (fun j hj => O j (by omega)) B⟩
      · subst a
        rw [e0]
        refine br_f (by decide) (br_f (by decide) (br_f (by decide) (br_f (by decide) (y_sp244 (by omega) Ta Ma ca fun far2 D O T M2 => ?_))))
        have := K _ wk_s_13 far2 ⟨⟨D, T, M2, fw_8C ca (fw_8S ca)⟩, yt_B_c (fun j hj => O j (by omega)) B⟩
        rw [List.length_cons, e0] at this
        exact this
      · subst a
        refine br_f (by decide) (br_f (by decide) (br_f (by decide) (br_t rfl (y_sp211 (by omega) Ta fun far2 D O T hD => ?_))))
        exact K _ wk_s_14 far2 ⟨⟨D, T, fw_opt Ma hD, fw_8O ca⟩, yt_B_c (fun j hj => O j (by omega)) B⟩
theorem y_spellOut {nt : Nat} {c op : Nat → Nat} (V : VG g) (E : YE g 0 ya_from ya_to ya_types ya_weights) (EP : wk_op c nt op) (hn : nt ≤ 10) (h0 : 0 < nt) (tk : ∀ k, k < nt → ya_expression k = nI (c k)) (h : ∀ far D, yt_T far 0 D → fw_M (wk_h (wk_st c nt nt) (gsu g 12)) (fun i j => D (8 * i + j)) → fw_8 (wk_h (wk_st c nt nt) (gsu g 12)) → post (yf_level, yf_parts, yf_pending, yf_conditions, nI nt, yf_depth, yf_used, yf_weight, yf_found, yf_lightest, yf_some, yf_sum, ya_labels, ya_properties, ya_from, ya_to, ya_types, ya_weights, ya_variable, ya_wanted, ya_among, ya_direction, ya_low, ya_high, ya_tokens, ya_condition, ya_expression, ya_stack, ya_part, ya_steps, ya_place, ya_choice, ya_bound, ya_took, ya_nodeOf, ya_chosen, far)) : wpY_spellOut post (yf_level, yf_parts, yf_pending, yf_conditions, nI nt, yf_depth, yf_used, yf_weight, yf_found, yf_lightest, yf_some, yf_sum, ya_labels, ya_properties, ya_from, ya_to, ya_types, ya_weights, ya_variable, ya_wanted, ya_among, ya_direction, ya_low, ya_high, ya_tokens, ya_condition, ya_expression, ya_stack, ya_part, ya_steps, ya_place, ya_choice, ya_bound, ya_took, ya_nodeOf, ya_chosen, ya_far) := by
  unfold wpY_spellOut
  obtain ⟨k, rfl⟩ : ∃ k, nt = k + 1 := ⟨nt - 1, by omega⟩
  refine nm_r (e' := dn (k + 1)) (nI_pred k) ⟨k + 2, y_spellOut_9 V E EP hn tk (fun far B => ?_) (k + 1) (k + 2) 0 (by omega) (by omega) _ True.intro⟩
  have len := (wk_len EP (k + 1) (Nat.le_refl _)).1
  rw [Nat.sub_self, EP.1] at len
  have H := h
  revert B len H
  generalize wk_st c (k + 1) (k + 1) = l
  intro B len H
  cases l with
  | nil => exact absurd len (by decide)
  | cons A l =>
    cases l with
    | cons B' l => rw [List.length_cons, List.length_cons] at len; omega
    | nil =>
      obtain ⟨⟨D, T, M, c8⟩, _⟩ := B
      exact H far D T M c8
end
end
section
/-! the component's go, whole -/
section
variable {f_level f_indexed f_parts f_highs f_tokens f_conditionLength f_conditionNames f_depth f_found f_testAt f_count f_different f_cheapest f_positions f_starts f_accepts f_empty f_written f_target f_steps : Int32} {a_state a_old : Nat → Int64} {a_kept a_leaving a_coming a_ofType a_withLabels a_kind a_types a_direction a_low a_high a_variable a_labels a_token a_condition a_truth a_number a_variableOf a_atPart a_trail a_here a_bound a_named a_used a_weight a_left a_ends : Nat → Int32} {a_seen a_sum : Nat → Int64} {a_some a_letter a_follow a_firstOf a_lastOf a_nullable a_spelled a_visited a_front a_next : Nat → Int32} {post : Int32 → SX → Prop} {d F L src tg : Nat} {nul : Bool} {le : Nat → Nat} {A : WW → WW}
theorem x_go (V : VG a_state) (RI' : RI f_indexed a_state a_leaving a_coming a_ofType a_withLabels) (hd : d ≤ 10) (ok : gl_ok a_follow d) (E : gl_E a_follow le 0 d F L nul A) (SP : gl_S a_spelled le d) (hF : F < 2 ^ 10) (hL : L < 2 ^ 10) (hs : src < 8) (ht : tg < 8) (h : ∀ MT s (a_leaving' a_coming' a_ofType' a_withLabels' : Nat → Int32) (a_visited' a_front' a_next' : Nat → Int32), IX a_state a_leaving' a_coming' a_ofType' a_withLabels' → MT < 2 ^ 8 → (∀ m, MT.testBit m = true ↔ m < 8 ∧ ∃ n, A (gsu a_state 12) src m n) → (∃ l, l < 10000 ∧ go_S (fun n => A (gsu a_state 12) src tg n) l s ∧ ∀ m n, A (gsu a_state 12) src m n → ∃ n', n' ≤ l ∧ A (gsu a_state 12) src m n') → post (nI MT) (f_level, 1, f_parts, f_highs, f_tokens, f_conditionLength, f_conditionNames, f_depth, f_found, f_testAt, f_count, f_different, f_cheapest, nI d, nI F, nI L, bi nul, f_written, nI tg, s, a_state, a_old, a_kept, a_leaving', a_coming', a_ofType', a_withLabels', a_kind, a_types, a_direction, a_low, a_high, a_variable, a_labels, a_token, a_condition, a_truth, a_number, a_variableOf, a_atPart, a_trail, a_here, a_bound, a_named, a_used, a_weight, a_left, a_ends, a_seen, a_sum, a_some, a_letter, a_follow, a_firstOf, a_lastOf, a_nullable, a_spelled, a_visited', a_front', a_next')) : wpX_go post (f_level, f_indexed, f_parts, f_highs, f_tokens, f_conditionLength, f_conditionNames, f_depth, f_found, f_testAt, f_count, f_different, f_cheapest, nI d, nI F, nI L, bi nul, f_written, nI tg, f_steps, a_state, a_old, a_kept, a_leaving, a_coming, a_ofType, a_withLabels, a_kind, a_types, a_direction, a_low, a_high, a_variable, a_labels, a_token, a_condition, a_truth, a_number, a_variableOf, a_atPart, a_trail, a_here, a_bound, a_named, a_used, a_weight, a_left, a_ends, a_seen, a_sum, a_some, a_letter, a_follow, a_firstOf, a_lastOf, a_nullable, a_spelled, a_visited, a_front, a_next) (nI src) := by
  unfold wpX_go
  refine x_index V RI' fun lv cm ot wl I => ?_
  have eA : ∀ m n, A (gsu a_state 12) src m n ↔ wk_G (gsu a_state 12) le (gl_t F) (gl_t L) (nul = true) (gl_f a_follow) src m n := fun m n => E.2 _ _ _ _
  have A0 : ∀ m, A (gsu a_state 12) src m 0 ↔ nul = true ∧ src = m := by
    intro m
    rw [eA]
    constructor
    · rintro (⟨a, b, _⟩ | ⟨k, _, z, _⟩)
      · exact ⟨a, b⟩
      · omega
    · rintro ⟨a, b⟩
      exact Or.inl ⟨a, b, rfl⟩
  have Fd : ∀ p, F.testBit p = true → p < d := fun p z => (E.1.1 p z).2
  have k45 : ∀ MT s, MT < 2 ^ 8 → (∀ m, MT.testBit m = true ↔ nul = true ∧ src = m) → go_S (fun n => A (gsu a_state 12) src tg n) 0 s → ∀ n i vis fr nx, i ≤ 8 → 8 - i < n → (∀ x, x < i → vis x = 0 ∧ fr x = 0 ∧ nx x = 0) → wX_go_45 post (nI src) (nI MT) f_level 1 f_parts f_highs f_tokens f_conditionLength f_conditionNames f_depth f_found f_testAt f_count f_different f_cheapest (nI d) (nI F) (nI L) (bi nul) f_written (nI tg) s n (nI i) a_state a_old a_kept lv cm ot wl a_kind a_types a_direction a_low a_high a_variable a_labels a_token a_condition a_truth a_number a_variableOf a_atPart a_trail a_here a_bound a_named a_used a_weight a_left a_ends a_seen a_sum a_some a_letter a_follow a_firstOf a_lastOf a_nullable a_spelled vis fr nx := by
    intro MT s hM hb S n
    induction n with
    | zero => intro i vis fr nx _ hn; omega
    | succ n ih =>
      intro i vis fr nx hi hn J
      by_cases e : i = 8
      · subst e
        have N0 : gl_N nx (fun _ => 0) := fun m hm => ⟨by rw [nI_0]; exact (J m hm).2.2, show 0 < 2 ^ 10 by decide⟩
        have V0 : gl_N vis (fun _ => 0) := fun m hm => ⟨by rw [nI_0]; exact (J m hm).1, show 0 < 2 ^ 10 by decide⟩
        refine br_t (nI_le (b := 8) (Nat.le_refl _) (by omega)) (x_spread V I hs hF Fd SP N0 fun nx' N' hN' J' => ⟨8200, ?_⟩)
        have mu := bf_mu0 8
        have J2 : ∀ m, m < 8 → ∀ p, (N' m).testBit p = true ↔ (F.testBit p = true ∧ gsu a_state 12 (le p) src m) := by
          intro m hm p
          rw [J' m hm p, Nat.zero_testBit]
          exact ⟨fun y => y.elim (fun y => absurd y (by decide)) id, Or.inr⟩
        refine x_go_92 V I hd ok E SP hL ht (fun MT' s' a_visited' a_front' a_next' q1 q2 q3 => h MT' s' lv cm ot wl a_visited' a_front' a_next' I q1 q2 q3) 8200 0 MT s (fun _ => 0) N' _ _ _ (by omega) (by omega) V0 hN' (fun m hm p z => Fd p ((J2 m hm p).mp z).1) (fun m hm p => ⟨⟨fun z => by rw [Nat.zero_testBit] at z; exact absurd z (by decide), fun ⟨k, z, _⟩ => absurd z (Nat.not_lt_zero k)⟩, fun z => (J2 m hm p).mp z, fun z => Or.inl ((J2 m hm p).mpr z)⟩) hM (fun m => ?_) S
        rw [hb]
        constructor
        · rintro ⟨a, b⟩
          exact ⟨by omega, 0, Nat.le_refl _, (A0 m).mpr ⟨a, b⟩⟩
        · rintro ⟨_, n, z, y⟩
          have : n = 0 := by omega
          subst this
          exact (A0 m).mp y
      · have hi : i < 8 := by omega
        have ci : (nI i).toNatClampNeg = i := nI_clamp (by omega)
        have vi : vp_in (nI i) 8 := vp_in_nI hi (by omega)
        refine br_f (nI_ge (b := 8) hi (by omega)) ⟨vi, nm_r (e' := upd vis i 0) (by rw [ci, bb_s0]) ⟨vi, nm_r (e' := upd fr i 0) (by rw [ci, bb_s0]) ⟨vi, nm_r (e' := upd nx i 0) (by rw [ci, bb_s0]) (nm_r (nI_1 i) (ih (i + 1) _ _ _ (by omega) (by omega) fun x hx => ?_))⟩⟩⟩
        by_cases y : x = i
        · subst y; rw [pk_us, pk_us, pk_us]; exact ⟨rfl, rfl, rfl⟩
        · rw [pk_un y, pk_un y, pk_un y]; exact J x (by omega)
  have s0 : ∀ b : Nat, (∀ m, b.testBit m = true ↔ nul = true ∧ src = m) → b < 2 ^ 8 → wX_go_18 post (nI src) (nI b) f_level 1 f_parts f_highs f_tokens f_conditionLength f_conditionNames f_depth f_found f_testAt f_count f_different f_cheapest (nI d) (nI F) (nI L) (bi nul) f_written (nI tg) f_steps a_state a_old a_kept lv cm ot wl a_kind a_types a_direction a_low a_high a_variable a_labels a_token a_condition a_truth a_number a_variableOf a_atPart a_trail a_here a_bound a_named a_used a_weight a_left a_ends a_seen a_sum a_some a_letter a_follow a_firstOf a_lastOf a_nullable a_spelled a_visited a_front a_next := by
    intro b hb b8
    have no : ¬ (nul = true ∧ src = tg) → go_S (fun n => A (gsu a_state 12) src tg n) 0 (-1) := by
      intro z
      refine Or.inl ⟨rfl, fun n hn y => ?_⟩
      have : n = 0 := by omega
      subst this
      exact z ((A0 tg).mp y)
    have start : ∀ s : Int32, go_S (fun n => A (gsu a_state 12) src tg n) 0 s → ∃ n, wX_go_45 post (nI src) (nI b) f_level 1 f_parts f_highs f_tokens f_conditionLength f_conditionNames f_depth f_found f_testAt f_count f_different f_cheapest (nI d) (nI F) (nI L) (bi nul) f_written (nI tg) s n 0 a_state a_old a_kept lv cm ot wl a_kind a_types a_direction a_low a_high a_variable a_labels a_token a_condition a_truth a_number a_variableOf a_atPart a_trail a_here a_bound a_named a_used a_weight a_left a_ends a_seen a_sum a_some a_letter a_follow a_firstOf a_lastOf a_nullable a_spelled a_visited a_front a_next := fun s S => ⟨9, k45 b s b8 hb S 9 0 _ _ _ (by omega) (by omega) (fun x hx => absurd hx (Nat.not_lt_zero x))⟩
    cases hn : nul with
    | false =>
      rw [hn] at start no
      exact br_t rfl (start _ (no fun y => absurd y.1 (by decide)))
    | true =>
      rw [hn] at start no
      refine br_f (by decide) ?_
      by_cases e : src = tg
      · refine br_t (congrArg nI e) (start 0 (Or.inr ⟨0, Nat.le_refl _, rfl, (A0 tg).mpr ⟨hn, e⟩, fun n' z => absurd z (Nat.not_lt_zero n')⟩))
      · exact br_f (fun y => e ((nI_eq (by omega) (by omega)).mp y)) (start _ (no fun y => e y.2))
  cases hn : nul with
  | false =>
    rw [hn] at s0
    exact br_t rfl (s0 0 (fun m => ⟨fun z => by rw [Nat.zero_testBit] at z; exact absurd z (by decide), fun z => absurd z.1 (by decide)⟩) (by decide))
  | true =>
    rw [hn] at s0
    refine br_f (by decide) ?_
    rw [bb_1shl (by omega)]
    refine s0 (2 ^ src) (fun m => ?_) (Nat.pow_lt_pow_right (by decide) hs)
    rw [Nat.testBit_two_pow, decide_eq_true_eq]
    exact ⟨fun z => ⟨rfl, z⟩, fun z => z.2⟩
end
end
section
/-! the relation of the two states -/
def RQ (P : Nat) (q : Nat → Nat → Nat) (px hx : Int32) (kd ty di lo hi va la : Nat → Int32) (py : Int32) (yva ywn yam ydi ylo yhi : Nat → Int32) : Prop := (px = nI P ∧ py = nI P ∧ hx = nI (qH q P)) ∧ (yva = va ∧ ywn = la ∧ ydi = di ∧ ylo = lo ∧ yhi = hi) ∧ XQ P q kd ty di lo hi va la ∧ YQ P q va la yam di lo hi
def tkv (t : Nat) : Prop := t < 6 ∨ (10 ≤ t ∧ t ≤ 16) ∨ (1000 ≤ t ∧ t < 11000)
def RT (nx : Int32) (tx : Nat → Int32) (ny : Int32) (ty : Nat → Int32) : Prop := ty = tx ∧ ∃ (n : Nat) (tk : Nat → Nat), n ≤ 12 ∧ nx = nI n ∧ ny = nI n ∧ ∀ k, k < n → tx k = nI (tk k) ∧ tkv (tk k)
def RCd (P : Nat) (q : Nat → Nat → Nat) (c : Nat → Nat) (m CN : Nat) (lx nx : Int32) (cx : Nat → Int32) (ly : Int32) (cy : Nat → Int32) : Prop := (lx = nI m ∧ ly = nI m ∧ cy = cx ∧ nx = nI CN) ∧ CO cx c m ∧ CN < 16 ∧ (∀ k, k < m → c k < 4 → CN.testBit (c k) = true) ∧ (∀ v, CN.testBit v = true → ∃ p, p < P ∧ q 5 p = v)
def RSp (wr po sa ac em : Int32) (fo sp : Nat → Int32) (ny : Int32) (ex : Nat → Int32) : Prop := (wr = 0 ∧ ny = 0) ∨ (wr = 1 ∧ ∃ (nt : Nat) (c op : Nat → Nat) (d F L : Nat) (le : Nat → Nat) (nul : Bool), wk_op c nt op ∧ (0 < nt ∧ nt ≤ 10) ∧ (ny = nI nt ∧ ∀ k, k < nt → ex k = nI (c k)) ∧ (d ≤ 10 ∧ F < 2 ^ 10 ∧ L < 2 ^ 10) ∧ (po = nI d ∧ sa = nI F ∧ ac = nI L ∧ em = bi nul) ∧ gl_ok fo d ∧ gl_E fo le 0 d F L nul (wk_h (wk_st c nt nt)) ∧ gl_S sp le d)
def RX (P : Nat) (q : Nat → Nat → Nat) (c : Nat → Nat) (m CN : Nat) (px hx lx nx fx : Int32) (co di2 ch : Int32) (st : Nat → Int64) (kd ty di lo hi va la cx : Nat → Int32) (se sm : Nat → Int64) (so : Nat → Int32) (py ly : Int32) (yva ywn yam ydi ylo yhi cy : Nat → Int32) : Prop := RQ P q px hx kd ty di lo hi va la py yva ywn yam ydi ylo yhi ∧ RCd P q c m CN lx nx cx ly cy ∧ RFc fx st q P c m co di2 ch se sm so
def i_Rel (_ : Nat) (u : SX) (v : SY) : Prop := match u with
  | (f_level, f_indexed, f_parts, f_highs, f_tokens, f_conditionLength, f_conditionNames, f_depth, f_found, f_testAt, f_count, f_different, f_cheapest, f_positions, f_starts, f_accepts, f_empty, f_written, f_target, f_steps, a_state, a_old, a_kept, a_leaving, a_coming, a_ofType, a_withLabels, a_kind, a_types, a_direction, a_low, a_high, a_variable, a_labels, a_token, a_condition, a_truth, a_number, a_variableOf, a_atPart, a_trail, a_here, a_bound, a_named, a_used, a_weight, a_left, a_ends, a_seen, a_sum, a_some, a_letter, a_follow, a_firstOf, a_lastOf, a_nullable, a_spelled, a_visited, a_front, a_next) => match v with
    | (yf_level, yf_parts, yf_pending, yf_conditions, yf_spelled, yf_depth, yf_used, yf_weight, yf_found, yf_lightest, yf_some, yf_sum, ya_labels, ya_properties, ya_from, ya_to, ya_types, ya_weights, ya_variable, ya_wanted, ya_among, ya_direction, ya_low, ya_high, ya_tokens, ya_condition, ya_expression, ya_stack, ya_part, ya_steps, ya_place, ya_choice, ya_bound, ya_took, ya_nodeOf, ya_chosen, ya_far) => RG f_level yf_level a_state a_old a_kept ya_labels ya_properties ya_from ya_to ya_types ya_weights ∧ RI f_indexed a_state a_leaving a_coming a_ofType a_withLabels ∧ RT f_tokens a_token yf_pending ya_tokens ∧ RSp f_written f_positions f_starts f_accepts f_empty a_follow a_spelled yf_spelled ya_expression ∧ ∃ P q c m CN, RX P q c m CN f_parts f_highs f_conditionLength f_conditionNames f_found f_count f_different f_cheapest a_state a_kind a_types a_direction a_low a_high a_variable a_labels a_condition a_seen a_sum a_some yf_parts yf_conditions ya_variable ya_wanted ya_among ya_direction ya_low ya_high ya_condition
theorem mk_R {k : Nat} {f_level f_indexed f_parts f_highs f_tokens f_conditionLength f_conditionNames f_depth f_found f_testAt f_count f_different f_cheapest f_positions f_starts f_accepts f_empty f_written f_target f_steps : Int32} {a_state a_old : Nat → Int64} {a_kept a_leaving a_coming a_ofType a_withLabels a_kind a_types a_direction a_low a_high a_variable a_labels a_token a_condition a_truth a_number a_variableOf a_atPart a_trail a_here a_bound a_named a_used a_weight a_left a_ends : Nat → Int32} {a_seen a_sum : Nat → Int64} {a_some a_letter a_follow a_firstOf a_lastOf a_nullable a_spelled a_visited a_front a_next : Nat → Int32} {yf_level yf_parts yf_pending yf_conditions yf_spelled yf_depth yf_used yf_weight yf_found yf_lightest yf_some : Int32} {yf_sum : Int64} {ya_labels : Nat → Int32} {ya_properties : Nat → Int64} {ya_from ya_to ya_types ya_weights ya_variable ya_wanted ya_among ya_direction ya_low ya_high ya_tokens ya_condition ya_expression ya_stack ya_part ya_steps ya_place ya_choice ya_bound ya_took ya_nodeOf ya_chosen ya_far : Nat → Int32} {P : Nat} {q : Nat → Nat → Nat} {c : Nat → Nat} {m CN : Nat} (h1 : RG f_level yf_level a_state a_old a_kept ya_labels ya_properties ya_from ya_to ya_types ya_weights) (h2 : RI f_indexed a_state a_leaving a_coming a_ofType a_withLabels) (h3 : RT f_tokens a_token yf_pending ya_tokens) (h4 : RSp f_written f_positions f_starts f_accepts f_empty a_follow a_spelled yf_spelled ya_expression) (h5 : RQ P q f_parts f_highs a_kind a_types a_direction a_low a_high a_variable a_labels yf_parts ya_variable ya_wanted ya_among ya_direction ya_low ya_high) (h6 : RCd P q c m CN f_conditionLength f_conditionNames a_condition yf_conditions ya_condition) (h7 : RFc f_found a_state q P c m f_count f_different f_cheapest a_seen a_sum a_some) : i_Rel k (f_level, f_indexed, f_parts, f_highs, f_tokens, f_conditionLength, f_conditionNames, f_depth, f_found, f_testAt, f_count, f_different, f_cheapest, f_positions, f_starts, f_accepts, f_empty, f_written, f_target, f_steps, a_state, a_old, a_kept, a_leaving, a_coming, a_ofType, a_withLabels, a_kind, a_types, a_direction, a_low, a_high, a_variable, a_labels, a_token, a_condition, a_truth, a_number, a_variableOf, a_atPart, a_trail, a_here, a_bound, a_named, a_used, a_weight, a_left, a_ends, a_seen, a_sum, a_some, a_letter, a_follow, a_firstOf, a_lastOf, a_nullable, a_spelled, a_visited, a_front, a_next) (yf_level, yf_parts, yf_pending, yf_conditions, yf_spelled, yf_depth, yf_used, yf_weight, yf_found, yf_lightest, yf_some, yf_sum, ya_labels, ya_properties, ya_from, ya_to, ya_types, ya_weights, ya_variable, ya_wanted, ya_among, ya_direction, ya_low, ya_high, ya_tokens, ya_condition, ya_expression, ya_stack, ya_part, ya_steps, ya_place, ya_choice, ya_bound, ya_took, ya_nodeOf, ya_chosen, ya_far) := ⟨h1, h2, h3, h4, P, q, c, m, CN, h5, h6, h7⟩
theorem el_R {k : Nat} {R : SX → SY → Prop} (h : ∀ (f_level f_indexed f_parts f_highs f_tokens f_conditionLength f_conditionNames f_depth f_found f_testAt f_count f_different f_cheapest f_positions f_starts f_accepts f_empty f_written f_target f_steps : Int32) (a_state a_old : Nat → Int64) (a_kept a_leaving a_coming a_ofType a_withLabels a_kind a_types a_direction a_low a_high a_variable a_labels a_token a_condition a_truth a_number a_variableOf a_atPart a_trail a_here a_bound a_named a_used a_weight a_left a_ends : Nat → Int32) (a_seen a_sum : Nat → Int64) (a_some a_letter a_follow a_firstOf a_lastOf a_nullable a_spelled a_visited a_front a_next : Nat → Int32) (yf_level yf_parts yf_pending yf_conditions yf_spelled yf_depth yf_used yf_weight yf_found yf_lightest yf_some : Int32) (yf_sum : Int64) (ya_labels : Nat → Int32) (ya_properties : Nat → Int64) (ya_from ya_to ya_types ya_weights ya_variable ya_wanted ya_among ya_direction ya_low ya_high ya_tokens ya_condition ya_expression ya_stack ya_part ya_steps ya_place ya_choice ya_bound ya_took ya_nodeOf ya_chosen ya_far : Nat → Int32) P q c m CN, RG f_level yf_level a_state a_old a_kept ya_labels ya_properties ya_from ya_to ya_types ya_weights → RI f_indexed a_state a_leaving a_coming a_ofType a_withLabels → RT f_tokens a_token yf_pending ya_tokens → RSp f_written f_positions f_starts f_accepts f_empty a_follow a_spelled yf_spelled ya_expression → RQ P q f_parts f_highs a_kind a_types a_direction a_low a_high a_variable a_labels yf_parts ya_variable ya_wanted ya_among ya_direction ya_low ya_high → RCd P q c m CN f_conditionLength f_conditionNames a_condition yf_conditions ya_condition → RFc f_found a_state q P c m f_count f_different f_cheapest a_seen a_sum a_some → R (f_level, f_indexed, f_parts, f_highs, f_tokens, f_conditionLength, f_conditionNames, f_depth, f_found, f_testAt, f_count, f_different, f_cheapest, f_positions, f_starts, f_accepts, f_empty, f_written, f_target, f_steps, a_state, a_old, a_kept, a_leaving, a_coming, a_ofType, a_withLabels, a_kind, a_types, a_direction, a_low, a_high, a_variable, a_labels, a_token, a_condition, a_truth, a_number, a_variableOf, a_atPart, a_trail, a_here, a_bound, a_named, a_used, a_weight, a_left, a_ends, a_seen, a_sum, a_some, a_letter, a_follow, a_firstOf, a_lastOf, a_nullable, a_spelled, a_visited, a_front, a_next) (yf_level, yf_parts, yf_pending, yf_conditions, yf_spelled, yf_depth, yf_used, yf_weight, yf_found, yf_lightest, yf_some, yf_sum, ya_labels, ya_properties, ya_from, ya_to, ya_types, ya_weights, ya_variable, ya_wanted, ya_among, ya_direction, ya_low, ya_high, ya_tokens, ya_condition, ya_expression, ya_stack, ya_part, ya_steps, ya_place, ya_choice, ya_bound, ya_took, ya_nodeOf, ya_chosen, ya_far)) {u : SX} {v : SY} (I : i_Rel k u v) : R u v := by
  revert I
  refine el_X (P := fun u => i_Rel k u v → R u v) ?_ u
  intro f_level f_indexed f_parts f_highs f_tokens f_conditionLength f_conditionNames f_depth f_found f_testAt f_count f_different f_cheapest f_positions f_starts f_accepts f_empty f_written f_target f_steps a_state a_old a_kept a_leaving a_coming a_ofType a_withLabels a_kind a_types a_direction a_low a_high a_variable a_labels a_token a_condition a_truth a_number a_variableOf a_atPart a_trail a_here a_bound a_named a_used a_weight a_left a_ends a_seen a_sum a_some a_letter a_follow a_firstOf a_lastOf a_nullable a_spelled a_visited a_front a_next
  refine el_Y (P := fun v => i_Rel k (f_level, f_indexed, f_parts, f_highs, f_tokens, f_conditionLength, f_conditionNames, f_depth, f_found, f_testAt, f_count, f_different, f_cheapest, f_positions, f_starts, f_accepts, f_empty, f_written, f_target, f_steps, a_state, a_old, a_kept, a_leaving, a_coming, a_ofType, a_withLabels, a_kind, a_types, a_direction, a_low, a_high, a_variable, a_labels, a_token, a_condition, a_truth, a_number, a_variableOf, a_atPart, a_trail, a_here, a_bound, a_named, a_used, a_weight, a_left, a_ends, a_seen, a_sum, a_some, a_letter, a_follow, a_firstOf, a_lastOf, a_nullable, a_spelled, a_visited, a_front, a_next) v → R (f_level, f_indexed, f_parts, f_highs, f_tokens, f_conditionLength, f_conditionNames, f_depth, f_found, f_testAt, f_count, f_different, f_cheapest, f_positions, f_starts, f_accepts, f_empty, f_written, f_target, f_steps, a_state, a_old, a_kept, a_leaving, a_coming, a_ofType, a_withLabels, a_kind, a_types, a_direction, a_low, a_high, a_variable, a_labels, a_token, a_condition, a_truth, a_number, a_variableOf, a_atPart, a_trail, a_here, a_bound, a_named, a_used, a_weight, a_left, a_ends, a_seen, a_sum, a_some, a_letter, a_follow, a_firstOf, a_lastOf, a_nullable, a_spelled, a_visited, a_front, a_next) v) ?_ v
  intro yf_level yf_parts yf_pending yf_conditions yf_spelled yf_depth yf_used yf_weight yf_found yf_lightest yf_some yf_sum ya_labels ya_properties ya_from ya_to ya_types ya_weights ya_variable ya_wanted ya_among ya_direction ya_low ya_high ya_tokens ya_condition ya_expression ya_stack ya_part ya_steps ya_place ya_choice ya_bound ya_took ya_nodeOf ya_chosen ya_far I
  obtain ⟨h1, h2, h3, h4, P, q, c, m, CN, h5, h6, h7⟩ := I
  exact h f_level f_indexed f_parts f_highs f_tokens f_conditionLength f_conditionNames f_depth f_found f_testAt f_count f_different f_cheapest f_positions f_starts f_accepts f_empty f_written f_target f_steps a_state a_old a_kept a_leaving a_coming a_ofType a_withLabels a_kind a_types a_direction a_low a_high a_variable a_labels a_token a_condition a_truth a_number a_variableOf a_atPart a_trail a_here a_bound a_named a_used a_weight a_left a_ends a_seen a_sum a_some a_letter a_follow a_firstOf a_lastOf a_nullable a_spelled a_visited a_front a_next yf_level yf_parts yf_pending yf_conditions yf_spelled yf_depth yf_used yf_weight yf_found yf_lightest yf_some yf_sum ya_labels ya_properties ya_from ya_to ya_types ya_weights ya_variable ya_wanted ya_among ya_direction ya_low ya_high ya_tokens ya_condition ya_expression ya_stack ya_part ya_steps ya_place ya_choice ya_bound ya_took ya_nodeOf ya_chosen ya_far P q c m CN h1 h2 h3 h4 h5 h6 h7
theorem i_up {k : Nat} {u : SX} {v : SY} (h : i_Rel k u v) : i_Rel (k + 7) u v := h
end
section
/-! the graph's methods -/
theorem i_vc_set {k : Nat} {u : SX} {v : SY} (I : i_Rel k u v) (hk : k + 7 ≤ 3584) (v1 : Int32) (v2 : Int32) : wpX_set (fun r u' => wpY_set (fun r' v' => r' = r ∧ i_Rel (k + 7) u' v') v v1 v2) u v1 v2 := by
  refine el_R (R := fun u v => wpX_set (fun r u' => wpY_set (fun r' v' => r' = r ∧ i_Rel (k + 7) u' v') v v1 v2) u v1 v2) ?_ I
  intro f_level f_indexed f_parts f_highs f_tokens f_conditionLength f_conditionNames f_depth f_found f_testAt f_count f_different f_cheapest f_positions f_starts f_accepts f_empty f_written f_target f_steps a_state a_old a_kept a_leaving a_coming a_ofType a_withLabels a_kind a_types a_direction a_low a_high a_variable a_labels a_token a_condition a_truth a_number a_variableOf a_atPart a_trail a_here a_bound a_named a_used a_weight a_left a_ends a_seen a_sum a_some a_letter a_follow a_firstOf a_lastOf a_nullable a_spelled a_visited a_front a_next yf_level yf_parts yf_pending yf_conditions yf_spelled yf_depth yf_used yf_weight yf_found yf_lightest yf_some yf_sum ya_labels ya_properties ya_from ya_to ya_types ya_weights ya_variable ya_wanted ya_among ya_direction ya_low ya_high ya_tokens ya_condition ya_expression ya_stack ya_part ya_steps ya_place ya_choice ya_bound ya_took ya_nodeOf ya_chosen ya_far P q c m CN hG hI hT hS hQ hC hF
  have GG := hG
  obtain ⟨L, T, hL, rfl, rfl, SS, G, H⟩ := GG
  unfold wpX_set
  refine x_isNode (fun z => br_f (by decide) ?_) (fun z => br_t rfl ?_)
  · have Z := z
    obtain ⟨n, hn, rfl, g0⟩ := z
    have cn : (nI n).toNatClampNeg = n := nI_clamp (by omega)
    refine ⟨vp_in_nI (by omega) (by omega), ?_⟩
    rw [cn]
    refine x_write (by omega) hL SS fun o k' S' => ?_
    show wpY_set _ (nI L, yf_parts, yf_pending, yf_conditions, yf_spelled, yf_depth, yf_used, yf_weight, yf_found, yf_lightest, yf_some, yf_sum, ya_labels, ya_properties, ya_from, ya_to, ya_types, ya_weights, ya_variable, ya_wanted, ya_among, ya_direction, ya_low, ya_high, ya_tokens, ya_condition, ya_expression, ya_stack, ya_part, ya_steps, ya_place, ya_choice, ya_bound, ya_took, ya_nodeOf, ya_chosen, ya_far) (nI n) v2
    unfold wpY_set wpY_assign
    refine y_isNode G.2.1 (fun _ => br_f (by decide) ⟨vp_in_nI (by omega) (by omega), nm_r (e' := vp_updL ya_properties n v2.toInt64) (by rw [cn]) ?_⟩) (fun y => absurd Z y)
    have b0 := G.1.1 n hn g0
    have bz : bl (gr_set (a_state n) v2) 0 = true := by rw [gr_set0]; exact b0
    have Y1 : YN (vp_updL a_state n (gr_set (a_state n) v2)) 0 ya_labels (vp_updL ya_properties n v2.toInt64) := by
      refine YN_up (lb' := ya_labels) (fun j _ => rfl) (fun j hj => pk_uLn hj) G.2.1 (Or.inr ⟨by rw [pk_uLs]; exact bl_ne0 bz, ?_, ?_⟩)
      · rcases G.2.1 n hn with ⟨y, _⟩ | ⟨_, y, _⟩
        · exact absurd y g0
        · rw [y]
          unfold nL
          rw [pk_uLs, gr_setL]
      · rw [Nat.mul_zero, Nat.zero_add, pk_uLs]
        unfold nH
        rw [pk_uLs, gr_set5, if_pos rfl, gr_setP]
    have Z' : isN (vp_updL a_state n (gr_set (a_state n) v2)) (nI n) := ⟨n, hn, rfl, by rw [pk_uLs]; exact bl_ne0 bz⟩
    refine y_isNode Y1 (fun _ => ⟨rfl, rfl, rfl, ?_⟩) (fun y => absurd Z' y)
    exact mk_R (RG_node (o := a_old) (k := a_kept) hL hn G H S' (VG_node G.1 hn bz) (fun j _ => rfl) (fun j hj => pk_uLn hj) (Y1 n hn)) (Or.inl rfl) hT hS hQ hC (Or.inl rfl)
  · show wpY_set _ (nI L, yf_parts, yf_pending, yf_conditions, yf_spelled, yf_depth, yf_used, yf_weight, yf_found, yf_lightest, yf_some, yf_sum, ya_labels, ya_properties, ya_from, ya_to, ya_types, ya_weights, ya_variable, ya_wanted, ya_among, ya_direction, ya_low, ya_high, ya_tokens, ya_condition, ya_expression, ya_stack, ya_part, ya_steps, ya_place, ya_choice, ya_bound, ya_took, ya_nodeOf, ya_chosen, ya_far) v1 v2
    unfold wpY_set wpY_assign
    exact y_isNode G.2.1 (fun y => absurd y z) (fun _ => br_t rfl (y_isNode G.2.1 (fun y => absurd y z) (fun _ => ⟨rfl, rfl, rfl, mk_R hG hI hT hS hQ hC hF⟩)))
theorem i_vc_clear {k : Nat} {u : SX} {v : SY} (I : i_Rel k u v) (hk : k + 7 ≤ 3584) (v1 : Int32) : wpX_clear (fun r u' => wpY_clear (fun r' v' => r' = r ∧ i_Rel (k + 7) u' v') v v1) u v1 := by
  refine el_R (R := fun u v => wpX_clear (fun r u' => wpY_clear (fun r' v' => r' = r ∧ i_Rel (k + 7) u' v') v v1) u v1) ?_ I
  intro f_level f_indexed f_parts f_highs f_tokens f_conditionLength f_conditionNames f_depth f_found f_testAt f_count f_different f_cheapest f_positions f_starts f_accepts f_empty f_written f_target f_steps a_state a_old a_kept a_leaving a_coming a_ofType a_withLabels a_kind a_types a_direction a_low a_high a_variable a_labels a_token a_condition a_truth a_number a_variableOf a_atPart a_trail a_here a_bound a_named a_used a_weight a_left a_ends a_seen a_sum a_some a_letter a_follow a_firstOf a_lastOf a_nullable a_spelled a_visited a_front a_next yf_level yf_parts yf_pending yf_conditions yf_spelled yf_depth yf_used yf_weight yf_found yf_lightest yf_some yf_sum ya_labels ya_properties ya_from ya_to ya_types ya_weights ya_variable ya_wanted ya_among ya_direction ya_low ya_high ya_tokens ya_condition ya_expression ya_stack ya_part ya_steps ya_place ya_choice ya_bound ya_took ya_nodeOf ya_chosen ya_far P q c m CN hG hI hT hS hQ hC hF
  have GG := hG
  obtain ⟨L, T, hL, rfl, rfl, SS, G, H⟩ := GG
  unfold wpX_clear
  refine x_isNode (fun z => br_f (by decide) ?_) (fun z => br_t rfl ?_)
  · have Z := z
    obtain ⟨n, hn, rfl, g0⟩ := z
    have cn : (nI n).toNatClampNeg = n := nI_clamp (by omega)
    refine ⟨vp_in_nI (by omega) (by omega), ?_⟩
    rw [cn]
    refine x_write (by omega) hL SS fun o k' S' => ?_
    show wpY_clear _ (nI L, yf_parts, yf_pending, yf_conditions, yf_spelled, yf_depth, yf_used, yf_weight, yf_found, yf_lightest, yf_some, yf_sum, ya_labels, ya_properties, ya_from, ya_to, ya_types, ya_weights, ya_variable, ya_wanted, ya_among, ya_direction, ya_low, ya_high, ya_tokens, ya_condition, ya_expression, ya_stack, ya_part, ya_steps, ya_place, ya_choice, ya_bound, ya_took, ya_nodeOf, ya_chosen, ya_far) (nI n)
    unfold wpY_clear wpY_assign
    refine y_isNode G.2.1 (fun _ => br_f (by decide) ⟨vp_in_nI (by omega) (by omega), nm_r (e' := vp_updL ya_properties n 9000000000000000000) (by rw [cn]) ?_⟩) (fun y => absurd Z y)
    have b0 := G.1.1 n hn g0
    have bz : bl (a_state n &&& 31) 0 = true := by rw [gr_clr0]; exact b0
    have Y1 : YN (vp_updL a_state n (a_state n &&& 31)) 0 ya_labels (vp_updL ya_properties n 9000000000000000000) := by
      refine YN_up (lb' := ya_labels) (fun j _ => rfl) (fun j hj => pk_uLn hj) G.2.1 (Or.inr ⟨by rw [pk_uLs]; exact bl_ne0 bz, ?_, ?_⟩)
      · rcases G.2.1 n hn with ⟨y, _⟩ | ⟨_, y, _⟩
        · exact absurd y g0
        · rw [y]
          unfold nL
          rw [pk_uLs, gr_clrL]
      · rw [Nat.mul_zero, Nat.zero_add, pk_uLs]
        unfold nH
        rw [pk_uLs, gr_clr5]
        rfl
    have Z' : isN (vp_updL a_state n (a_state n &&& 31)) (nI n) := ⟨n, hn, rfl, by rw [pk_uLs]; exact bl_ne0 bz⟩
    refine y_isNode Y1 (fun _ => ⟨rfl, rfl, rfl, ?_⟩) (fun y => absurd Z' y)
    exact mk_R (RG_node (o := a_old) (k := a_kept) hL hn G H S' (VG_node G.1 hn bz) (fun j _ => rfl) (fun j hj => pk_uLn hj) (Y1 n hn)) (Or.inl rfl) hT hS hQ hC (Or.inl rfl)
  · show wpY_clear _ (nI L, yf_parts, yf_pending, yf_conditions, yf_spelled, yf_depth, yf_used, yf_weight, yf_found, yf_lightest, yf_some, yf_sum, ya_labels, ya_properties, ya_from, ya_to, ya_types, ya_weights, ya_variable, ya_wanted, ya_among, ya_direction, ya_low, ya_high, ya_tokens, ya_condition, ya_expression, ya_stack, ya_part, ya_steps, ya_place, ya_choice, ya_bound, ya_took, ya_nodeOf, ya_chosen, ya_far) v1
    unfold wpY_clear wpY_assign
    exact y_isNode G.2.1 (fun y => absurd y z) (fun _ => br_t rfl (y_isNode G.2.1 (fun y => absurd y z) (fun _ => ⟨rfl, rfl, rfl, mk_R hG hI hT hS hQ hC hF⟩)))
theorem i_vc_label {k : Nat} {u : SX} {v : SY} (I : i_Rel k u v) (hk : k + 7 ≤ 3584) (v1 : Int32) (v2 : Int32) : wpX_label (fun r u' => wpY_label (fun r' v' => r' = r ∧ i_Rel (k + 7) u' v') v v1 v2) u v1 v2 := by
  refine el_R (R := fun u v => wpX_label (fun r u' => wpY_label (fun r' v' => r' = r ∧ i_Rel (k + 7) u' v') v v1 v2) u v1 v2) ?_ I
  intro f_level f_indexed f_parts f_highs f_tokens f_conditionLength f_conditionNames f_depth f_found f_testAt f_count f_different f_cheapest f_positions f_starts f_accepts f_empty f_written f_target f_steps a_state a_old a_kept a_leaving a_coming a_ofType a_withLabels a_kind a_types a_direction a_low a_high a_variable a_labels a_token a_condition a_truth a_number a_variableOf a_atPart a_trail a_here a_bound a_named a_used a_weight a_left a_ends a_seen a_sum a_some a_letter a_follow a_firstOf a_lastOf a_nullable a_spelled a_visited a_front a_next yf_level yf_parts yf_pending yf_conditions yf_spelled yf_depth yf_used yf_weight yf_found yf_lightest yf_some yf_sum ya_labels ya_properties ya_from ya_to ya_types ya_weights ya_variable ya_wanted ya_among ya_direction ya_low ya_high ya_tokens ya_condition ya_expression ya_stack ya_part ya_steps ya_place ya_choice ya_bound ya_took ya_nodeOf ya_chosen ya_far P q c m CN hG hI hT hS hQ hC hF
  have GG := hG
  obtain ⟨L, T, hL, rfl, rfl, SS, G, H⟩ := GG
  have R0 : i_Rel (k + 7) (nI L, f_indexed, f_parts, f_highs, f_tokens, f_conditionLength, f_conditionNames, f_depth, f_found, f_testAt, f_count, f_different, f_cheapest, f_positions, f_starts, f_accepts, f_empty, f_written, f_target, f_steps, a_state, a_old, a_kept, a_leaving, a_coming, a_ofType, a_withLabels, a_kind, a_types, a_direction, a_low, a_high, a_variable, a_labels, a_token, a_condition, a_truth, a_number, a_variableOf, a_atPart, a_trail, a_here, a_bound, a_named, a_used, a_weight, a_left, a_ends, a_seen, a_sum, a_some, a_letter, a_follow, a_firstOf, a_lastOf, a_nullable, a_spelled, a_visited, a_front, a_next) (nI L, yf_parts, yf_pending, yf_conditions, yf_spelled, yf_depth, yf_used, yf_weight, yf_found, yf_lightest, yf_some, yf_sum, ya_labels, ya_properties, ya_from, ya_to, ya_types, ya_weights, ya_variable, ya_wanted, ya_among, ya_direction, ya_low, ya_high, ya_tokens, ya_condition, ya_expression, ya_stack, ya_part, ya_steps, ya_place, ya_choice, ya_bound, ya_took, ya_nodeOf, ya_chosen, ya_far) := mk_R hG hI hT hS hQ hC hF
  have noY : ∀ r : Int32, r = -1 → (¬ isN a_state v1 ∨ ¬ ((0 : Int32) ≤ v2 ∧ v2 ≤ 15)) → wpY_label (fun r' v' => r' = r ∧ i_Rel (k + 7) (nI L, f_indexed, f_parts, f_highs, f_tokens, f_conditionLength, f_conditionNames, f_depth, f_found, f_testAt, f_count, f_different, f_cheapest, f_positions, f_starts, f_accepts, f_empty, f_written, f_target, f_steps, a_state, a_old, a_kept, a_leaving, a_coming, a_ofType, a_withLabels, a_kind, a_types, a_direction, a_low, a_high, a_variable, a_labels, a_token, a_condition, a_truth, a_number, a_variableOf, a_atPart, a_trail, a_here, a_bound, a_named, a_used, a_weight, a_left, a_ends, a_seen, a_sum, a_some, a_letter, a_follow, a_firstOf, a_lastOf, a_nullable, a_spelled, a_visited, a_front, a_next) v') (nI L, yf_parts, yf_pending, yf_conditions, yf_spelled, yf_depth, yf_used, yf_weight, yf_found, yf_lightest, yf_some, yf_sum, ya_labels, ya_properties, ya_from, ya_to, ya_types, ya_weights, ya_variable, ya_wanted, ya_among, ya_direction, ya_low, ya_high, ya_tokens, ya_condition, ya_expression, ya_stack, ya_part, ya_steps, ya_place, ya_choice, ya_bound, ya_took, ya_nodeOf, ya_chosen, ya_far) v1 v2 := by
    intro r hr z
    unfold wpY_label
    refine y_isNode G.2.1 (fun y => br_f (by decide) (yw (fun a b => br_f (by decide) ?_) (fun a => br_t rfl ⟨hr.symm, R0⟩))) (fun y => br_t rfl ⟨hr.symm, R0⟩)
    rcases z with z | z
    · exact absurd y z
    · exact absurd ⟨a, b⟩ z
  unfold wpX_label
  refine x_isNode (fun z => br_f (by decide) (xo (fun a b => br_t rfl ?_) (fun a => br_f (by decide) (noY _ rfl (Or.inr a))))) (fun z => br_t rfl (noY _ rfl (Or.inl z)))
  have Z := z
  obtain ⟨n, hn, rfl, g0⟩ := z
  obtain ⟨l, hl, rfl⟩ := rg_of (b := 15) (by omega) a b
  have cn : (nI n).toNatClampNeg = n := nI_clamp (by omega)
  have l16 : l < 16 := by omega
  refine x_labelsOf hn ⟨vp_in_nI (by omega) (by omega), ?_⟩
  rw [cn]
  refine x_write (by omega) hL SS fun o k' S' => ?_
  show wpY_label _ (nI L, yf_parts, yf_pending, yf_conditions, yf_spelled, yf_depth, yf_used, yf_weight, yf_found, yf_lightest, yf_some, yf_sum, ya_labels, ya_properties, ya_from, ya_to, ya_types, ya_weights, ya_variable, ya_wanted, ya_among, ya_direction, ya_low, ya_high, ya_tokens, ya_condition, ya_expression, ya_stack, ya_part, ya_steps, ya_place, ya_choice, ya_bound, ya_took, ya_nodeOf, ya_chosen, ya_far) (nI n) (nI l)
  have lb : ya_labels n = nI (nL a_state n) := by
    rcases G.2.1 n hn with ⟨y, _⟩ | ⟨_, y, _⟩
    · exact absurd y g0
    · rw [Nat.mul_zero, Nat.zero_add] at y; exact y
  have pr : ya_properties n = if nH a_state n = true then gr_pr (a_state n) else 9000000000000000000 := by
    rcases G.2.1 n hn with ⟨y, _⟩ | ⟨_, _, y⟩
    · exact absurd y g0
    · rw [Nat.mul_zero, Nat.zero_add] at y; exact y
  unfold wpY_label
  refine y_isNode G.2.1 (fun _ => br_f (by decide) (yw (fun _ _ => br_f (by decide) ⟨vp_in_nI (by omega) (by omega), nm_r (e' := nI (nL a_state n)) (by rw [cn]; exact lb) ⟨vp_in_nI (by omega) (by omega), nm_r (e' := upd ya_labels n (nI l)) (by rw [cn]) ⟨rfl, ?_⟩⟩⟩) (fun y => absurd (rg_iff (b := 15) (by omega) (by omega)) y))) (fun y => absurd Z y)
  have b0 := G.1.1 n hn g0
  have bz : bl (gr_rel (a_state n) (nI l)) 0 = true := by rw [gr_rel_f _ l16 (by omega) (Or.inl rfl)]; exact b0
  refine mk_R (RG_node (o := a_old) (k := a_kept) hL hn G H S' (VG_node G.1 hn bz) (fun j hj => pk_un hj) (fun j _ => rfl) (Or.inr ⟨by rw [pk_uLs]; exact bl_ne0 bz, ?_, ?_⟩)) (Or.inl rfl) hT hS hQ hC (Or.inl rfl)
  · rw [Nat.mul_zero, Nat.zero_add, pk_us]
    unfold nL
    rw [pk_uLs]
    have := gr_relL (a_state n) l16
    unfold gr_rel at this
    rw [this, nI_clamp (by omega)]
  · rw [Nat.mul_zero, Nat.zero_add, pr]
    unfold nH
    rw [pk_uLs]
    have e1 := gr_rel_f (a_state n) l16 (i := 5) (by omega) (Or.inr (by omega))
    have e2 := gr_relP (a_state n) l16
    unfold gr_rel at e1 e2
    rw [e1, e2]
theorem i_vc_node {k : Nat} {u : SX} {v : SY} (I : i_Rel k u v) (hk : k + 7 ≤ 3584) (v1 : Int32) : wpX_node (fun r u' => wpY_node (fun r' v' => r' = r ∧ i_Rel (k + 7) u' v') v v1) u v1 := by
  refine el_R (R := fun u v => wpX_node (fun r u' => wpY_node (fun r' v' => r' = r ∧ i_Rel (k + 7) u' v') v v1) u v1) ?_ I
  intro f_level f_indexed f_parts f_highs f_tokens f_conditionLength f_conditionNames f_depth f_found f_testAt f_count f_different f_cheapest f_positions f_starts f_accepts f_empty f_written f_target f_steps a_state a_old a_kept a_leaving a_coming a_ofType a_withLabels a_kind a_types a_direction a_low a_high a_variable a_labels a_token a_condition a_truth a_number a_variableOf a_atPart a_trail a_here a_bound a_named a_used a_weight a_left a_ends a_seen a_sum a_some a_letter a_follow a_firstOf a_lastOf a_nullable a_spelled a_visited a_front a_next yf_level yf_parts yf_pending yf_conditions yf_spelled yf_depth yf_used yf_weight yf_found yf_lightest yf_some yf_sum ya_labels ya_properties ya_from ya_to ya_types ya_weights ya_variable ya_wanted ya_among ya_direction ya_low ya_high ya_tokens ya_condition ya_expression ya_stack ya_part ya_steps ya_place ya_choice ya_bound ya_took ya_nodeOf ya_chosen ya_far P q c m CN hG hI hT hS hQ hC hF
  have GG := hG
  obtain ⟨L, T, hL, rfl, rfl, SS, G, H⟩ := GG
  have R0 : i_Rel (k + 7) (nI L, f_indexed, f_parts, f_highs, f_tokens, f_conditionLength, f_conditionNames, f_depth, f_found, f_testAt, f_count, f_different, f_cheapest, f_positions, f_starts, f_accepts, f_empty, f_written, f_target, f_steps, a_state, a_old, a_kept, a_leaving, a_coming, a_ofType, a_withLabels, a_kind, a_types, a_direction, a_low, a_high, a_variable, a_labels, a_token, a_condition, a_truth, a_number, a_variableOf, a_atPart, a_trail, a_here, a_bound, a_named, a_used, a_weight, a_left, a_ends, a_seen, a_sum, a_some, a_letter, a_follow, a_firstOf, a_lastOf, a_nullable, a_spelled, a_visited, a_front, a_next) (nI L, yf_parts, yf_pending, yf_conditions, yf_spelled, yf_depth, yf_used, yf_weight, yf_found, yf_lightest, yf_some, yf_sum, ya_labels, ya_properties, ya_from, ya_to, ya_types, ya_weights, ya_variable, ya_wanted, ya_among, ya_direction, ya_low, ya_high, ya_tokens, ya_condition, ya_expression, ya_stack, ya_part, ya_steps, ya_place, ya_choice, ya_bound, ya_took, ya_nodeOf, ya_chosen, ya_far) := mk_R hG hI hT hS hQ hC hF
  unfold wpX_node
  refine xo (fun a b => br_t rfl ?_) (fun a => br_f (by decide) ?_)
  · obtain ⟨l, hl, rfl⟩ := rg_of (b := 15) (by omega) a b
    obtain ⟨j, F⟩ := gr_ff_ex a_state 8
    have j8 := F.1
    have inR := rg_iff (n := l) (b := 15) (by omega) (by omega)
    refine ⟨j + 1, x_node_14 F ?_ (j + 1) 0 (by omega) (by omega)⟩
    unfold wX_node_37
    by_cases e : j = 8
    · refine br_t (congrArg nI e) ?_
      show wpY_node _ (nI L, yf_parts, yf_pending, yf_conditions, yf_spelled, yf_depth, yf_used, yf_weight, yf_found, yf_lightest, yf_some, yf_sum, ya_labels, ya_properties, ya_from, ya_to, ya_types, ya_weights, ya_variable, ya_wanted, ya_among, ya_direction, ya_low, ya_high, ya_tokens, ya_condition, ya_expression, ya_stack, ya_part, ya_steps, ya_place, ya_choice, ya_bound, ya_took, ya_nodeOf, ya_chosen, ya_far) (nI l)
      unfold wpY_node
      exact yw (fun _ _ => br_f (by decide) ⟨j + 1, y_node_14 G.2.1 F (fun _ => ⟨rfl, R0⟩) (fun y => by omega) (j + 1) 0 (by omega) (by omega)⟩) (fun y => absurd inR y)
    · refine br_f (fun y => e ((nI_eq (b := 8) (by omega) (by omega)).mp y)) ?_
      have jz : a_state j = 0 := F.2.2.resolve_left e
      refine x_write (by omega) hL SS fun o k' S' => ?_
      show wpY_node _ (nI L, yf_parts, yf_pending, yf_conditions, yf_spelled, yf_depth, yf_used, yf_weight, yf_found, yf_lightest, yf_some, yf_sum, ya_labels, ya_properties, ya_from, ya_to, ya_types, ya_weights, ya_variable, ya_wanted, ya_among, ya_direction, ya_low, ya_high, ya_tokens, ya_condition, ya_expression, ya_stack, ya_part, ya_steps, ya_place, ya_choice, ya_bound, ya_took, ya_nodeOf, ya_chosen, ya_far) (nI l)
      unfold wpY_node
      obtain ⟨m1, m2, m3⟩ := gr_mk l (by omega)
      refine yw (fun _ _ => br_f (by decide) ⟨j + 1, y_node_14 G.2.1 F (fun y => absurd y e) (fun y => ⟨rfl, ?_⟩) (j + 1) 0 (by omega) (by omega)⟩) (fun y => absurd inR y)
      refine mk_R (RG_node (o := a_old) (k := a_kept) hL (by omega) G H S' (VG_node G.1 (by omega) m1) (fun x hx => pk_un hx) (fun x hx => pk_uLn hx) (Or.inr ⟨by rw [pk_uLs]; exact bl_ne0 m1, ?_, ?_⟩)) (Or.inl rfl) hT hS hQ hC (Or.inl rfl)
      · rw [Nat.mul_zero, Nat.zero_add, pk_us]
        unfold nL
        rw [pk_uLs, m2, nI_clamp (by omega)]
      · rw [Nat.mul_zero, Nat.zero_add, pk_uLs]
        unfold nH
        rw [pk_uLs, m3]
        rfl
  · show wpY_node _ (nI L, yf_parts, yf_pending, yf_conditions, yf_spelled, yf_depth, yf_used, yf_weight, yf_found, yf_lightest, yf_some, yf_sum, ya_labels, ya_properties, ya_from, ya_to, ya_types, ya_weights, ya_variable, ya_wanted, ya_among, ya_direction, ya_low, ya_high, ya_tokens, ya_condition, ya_expression, ya_stack, ya_part, ya_steps, ya_place, ya_choice, ya_bound, ya_took, ya_nodeOf, ya_chosen, ya_far) v1
    unfold wpY_node
    exact yw (fun x y => absurd ⟨x, y⟩ a) (fun _ => br_t rfl ⟨rfl, R0⟩)
theorem i_vc_edge {k : Nat} {u : SX} {v : SY} (I : i_Rel k u v) (hk : k + 7 ≤ 3584) (v1 : Int32) (v2 : Int32) (v3 : Int32) (v4 : Int32) : wpX_edge (fun r u' => wpY_edge (fun r' v' => r' = r ∧ i_Rel (k + 7) u' v') v v1 v2 v3 v4) u v1 v2 v3 v4 := by
  refine el_R (R := fun u v => wpX_edge (fun r u' => wpY_edge (fun r' v' => r' = r ∧ i_Rel (k + 7) u' v') v v1 v2 v3 v4) u v1 v2 v3 v4) ?_ I
  intro f_level f_indexed f_parts f_highs f_tokens f_conditionLength f_conditionNames f_depth f_found f_testAt f_count f_different f_cheapest f_positions f_starts f_accepts f_empty f_written f_target f_steps a_state a_old a_kept a_leaving a_coming a_ofType a_withLabels a_kind a_types a_direction a_low a_high a_variable a_labels a_token a_condition a_truth a_number a_variableOf a_atPart a_trail a_here a_bound a_named a_used a_weight a_left a_ends a_seen a_sum a_some a_letter a_follow a_firstOf a_lastOf a_nullable a_spelled a_visited a_front a_next yf_level yf_parts yf_pending yf_conditions yf_spelled yf_depth yf_used yf_weight yf_found yf_lightest yf_some yf_sum ya_labels ya_properties ya_from ya_to ya_types ya_weights ya_variable ya_wanted ya_among ya_direction ya_low ya_high ya_tokens ya_condition ya_expression ya_stack ya_part ya_steps ya_place ya_choice ya_bound ya_took ya_nodeOf ya_chosen ya_far P q c m CN hG hI hT hS hQ hC hF
  have GG := hG
  obtain ⟨L, T, hL, rfl, rfl, SS, G, H⟩ := GG
  have R0 : i_Rel (k + 7) (nI L, f_indexed, f_parts, f_highs, f_tokens, f_conditionLength, f_conditionNames, f_depth, f_found, f_testAt, f_count, f_different, f_cheapest, f_positions, f_starts, f_accepts, f_empty, f_written, f_target, f_steps, a_state, a_old, a_kept, a_leaving, a_coming, a_ofType, a_withLabels, a_kind, a_types, a_direction, a_low, a_high, a_variable, a_labels, a_token, a_condition, a_truth, a_number, a_variableOf, a_atPart, a_trail, a_here, a_bound, a_named, a_used, a_weight, a_left, a_ends, a_seen, a_sum, a_some, a_letter, a_follow, a_firstOf, a_lastOf, a_nullable, a_spelled, a_visited, a_front, a_next) (nI L, yf_parts, yf_pending, yf_conditions, yf_spelled, yf_depth, yf_used, yf_weight, yf_found, yf_lightest, yf_some, yf_sum, ya_labels, ya_properties, ya_from, ya_to, ya_types, ya_weights, ya_variable, ya_wanted, ya_among, ya_direction, ya_low, ya_high, ya_tokens, ya_condition, ya_expression, ya_stack, ya_part, ya_steps, ya_place, ya_choice, ya_bound, ya_took, ya_nodeOf, ya_chosen, ya_far) := mk_R hG hI hT hS hQ hC hF
  have noY : ∀ r : Int32, r = -1 → (¬ isN a_state v1 ∨ ¬ isN a_state v2 ∨ ¬ ((0 : Int32) ≤ v3 ∧ v3 ≤ 2) ∨ ¬ ((0 : Int32) ≤ v4 ∧ v4 ≤ 100)) → wpY_edge (fun r' v' => r' = r ∧ i_Rel (k + 7) (nI L, f_indexed, f_parts, f_highs, f_tokens, f_conditionLength, f_conditionNames, f_depth, f_found, f_testAt, f_count, f_different, f_cheapest, f_positions, f_starts, f_accepts, f_empty, f_written, f_target, f_steps, a_state, a_old, a_kept, a_leaving, a_coming, a_ofType, a_withLabels, a_kind, a_types, a_direction, a_low, a_high, a_variable, a_labels, a_token, a_condition, a_truth, a_number, a_variableOf, a_atPart, a_trail, a_here, a_bound, a_named, a_used, a_weight, a_left, a_ends, a_seen, a_sum, a_some, a_letter, a_follow, a_firstOf, a_lastOf, a_nullable, a_spelled, a_visited, a_front, a_next) v') (nI L, yf_parts, yf_pending, yf_conditions, yf_spelled, yf_depth, yf_used, yf_weight, yf_found, yf_lightest, yf_some, yf_sum, ya_labels, ya_properties, ya_from, ya_to, ya_types, ya_weights, ya_variable, ya_wanted, ya_among, ya_direction, ya_low, ya_high, ya_tokens, ya_condition, ya_expression, ya_stack, ya_part, ya_steps, ya_place, ya_choice, ya_bound, ya_took, ya_nodeOf, ya_chosen, ya_far) v1 v2 v3 v4 := by
    intro r hr z
    have no : r = -1 ∧ i_Rel (k + 7) (nI L, f_indexed, f_parts, f_highs, f_tokens, f_conditionLength, f_conditionNames, f_depth, f_found, f_testAt, f_count, f_different, f_cheapest, f_positions, f_starts, f_accepts, f_empty, f_written, f_target, f_steps, a_state, a_old, a_kept, a_leaving, a_coming, a_ofType, a_withLabels, a_kind, a_types, a_direction, a_low, a_high, a_variable, a_labels, a_token, a_condition, a_truth, a_number, a_variableOf, a_atPart, a_trail, a_here, a_bound, a_named, a_used, a_weight, a_left, a_ends, a_seen, a_sum, a_some, a_letter, a_follow, a_firstOf, a_lastOf, a_nullable, a_spelled, a_visited, a_front, a_next) (nI L, yf_parts, yf_pending, yf_conditions, yf_spelled, yf_depth, yf_used, yf_weight, yf_found, yf_lightest, yf_some, yf_sum, ya_labels, ya_properties, ya_from, ya_to, ya_types, ya_weights, ya_variable, ya_wanted, ya_among, ya_direction, ya_low, ya_high, ya_tokens, ya_condition, ya_expression, ya_stack, ya_part, ya_steps, ya_place, ya_choice, ya_bound, ya_took, ya_nodeOf, ya_chosen, ya_far) := ⟨hr, R0⟩
    unfold wpY_edge
    refine y_isNode G.2.1 (fun y1 => br_f (by decide) (y_isNode G.2.1 (fun y2 => br_f (by decide) (yw (fun a b => br_f (by decide) (yw (fun c d => ?_) (fun _ => br_t rfl ⟨hr.symm, R0⟩))) (fun _ => br_t rfl ⟨hr.symm, R0⟩))) (fun _ => br_t rfl ⟨hr.symm, R0⟩))) (fun _ => br_t rfl ⟨hr.symm, R0⟩)
    rcases z with z | z | z | z
    · exact absurd y1 z
    · exact absurd y2 z
    · exact absurd ⟨a, b⟩ z
    · exact absurd ⟨c, d⟩ z
  unfold wpX_edge
  refine x_isNode (fun z1 => br_f (by decide) (x_isNode (fun z2 => br_f (by decide) (xo (fun a3 b3 => br_t rfl (xo (fun a4 b4 => br_t rfl ?_) (fun a => br_f (by decide) (noY _ rfl (Or.inr (Or.inr (Or.inr a))))))) (fun a => br_f (by decide) (noY _ rfl (Or.inr (Or.inr (Or.inl a))))))) (fun z => br_t rfl (noY _ rfl (Or.inr (Or.inl z)))))) (fun z => br_t rfl (noY _ rfl (Or.inl z)))
  have Z1 := z1
  have Z2 := z2
  obtain ⟨f, hf, rfl, gf⟩ := z1
  obtain ⟨t, ht, rfl, gt⟩ := z2
  obtain ⟨y, hy, rfl⟩ := rg_of (b := 2) (by omega) a3 b3
  obtain ⟨w, hw, rfl⟩ := rg_of (b := 100) (by omega) a4 b4
  have in3 := rg_iff (n := y) (b := 2) (by omega) (by omega)
  have in4 := rg_iff (n := w) (b := 100) (by omega) (by omega)
  obtain ⟨j, F⟩ := gr_ff_ex (fun e => a_state (8 + e)) 12
  have j12 := F.1
  have Yw : ∀ (K : Int32 → SY → Prop), (j = 12 → K (-2) (nI L, yf_parts, yf_pending, yf_conditions, yf_spelled, yf_depth, yf_used, yf_weight, yf_found, yf_lightest, yf_some, yf_sum, ya_labels, ya_properties, ya_from, ya_to, ya_types, ya_weights, ya_variable, ya_wanted, ya_among, ya_direction, ya_low, ya_high, ya_tokens, ya_condition, ya_expression, ya_stack, ya_part, ya_steps, ya_place, ya_choice, ya_bound, ya_took, ya_nodeOf, ya_chosen, ya_far)) → (j < 12 → K (nI j) (nI L, yf_parts, yf_pending, yf_conditions, yf_spelled, yf_depth, yf_used, yf_weight, yf_found, yf_lightest, yf_some, yf_sum, ya_labels, ya_properties, upd ya_from j (nI f), upd ya_to j (nI t), upd ya_types j (nI y), upd ya_weights j (nI w), ya_variable, ya_wanted, ya_among, ya_direction, ya_low, ya_high, ya_tokens, ya_condition, ya_expression, ya_stack, ya_part, ya_steps, ya_place, ya_choice, ya_bound, ya_took, ya_nodeOf, ya_chosen, ya_far)) → wpY_edge K (nI L, yf_parts, yf_pending, yf_conditions, yf_spelled, yf_depth, yf_used, yf_weight, yf_found, yf_lightest, yf_some, yf_sum, ya_labels, ya_properties, ya_from, ya_to, ya_types, ya_weights, ya_variable, ya_wanted, ya_among, ya_direction, ya_low, ya_high, ya_tokens, ya_condition, ya_expression, ya_stack, ya_part, ya_steps, ya_place, ya_choice, ya_bound, ya_took, ya_nodeOf, ya_chosen, ya_far) (nI f) (nI t) (nI y) (nI w) := by
    intro K k1 k2
    unfold wpY_edge
    exact y_isNode G.2.1 (fun _ => br_f (by decide) (y_isNode G.2.1 (fun _ => br_f (by decide) (yw (fun _ _ => br_f (by decide) (yw (fun _ _ => br_f (by decide) ⟨j + 1, y_edge_41 G.2.2 F k1 k2 (j + 1) 0 (by omega) (by omega)⟩) (fun z => absurd in4 z))) (fun z => absurd in3 z))) (fun z => absurd Z2 z))) (fun z => absurd Z1 z)
  refine ⟨j + 1, x_edge_41 F ?_ (j + 1) 0 (by omega) (by omega)⟩
  unfold wX_edge_69
  by_cases e : j = 12
  · exact br_t (congrArg nI e) (Yw _ (fun _ => ⟨rfl, R0⟩) (fun z => by omega))
  · refine br_f (fun z => e ((nI_eq (b := 12) (by omega) (by omega)).mp z)) ?_
    have e8 : (8 : Int32) + nI j = nI (8 + j) := nI_add 8 j
    rw [e8, gr_ce hf ht (by omega) (by omega)]
    refine x_write (by omega) hL SS fun o k' S' => Yw _ (fun z => absurd z e) (fun z => ⟨rfl, ?_⟩)
    obtain ⟨V', q1, q2, q3, q4⟩ := VG_edge G.1 (e := j) z hf ht (show y < 3 by omega) (show w < 101 by omega) gf gt
    refine mk_R (RG_edge (o := a_old) (k := a_kept) hL z G H S' V' (fun x hx => pk_un hx) (fun x hx => pk_un hx) (fun x hx => pk_un hx) (fun x hx => pk_un hx) (Or.inr ⟨?_, ?_, ?_, ?_, ?_⟩)) (Or.inl rfl) hT hS hQ hC (Or.inl rfl)
    · rw [pk_uLs]; exact gr_we0 hf ht (by omega) (by omega)
    · rw [Nat.mul_zero, Nat.zero_add, pk_us, q2]
    · rw [Nat.mul_zero, Nat.zero_add, pk_us, q1]
    · rw [Nat.mul_zero, Nat.zero_add, pk_us, q3]
    · rw [Nat.mul_zero, Nat.zero_add, pk_us, q4]
theorem i_vc_cut {k : Nat} {u : SX} {v : SY} (I : i_Rel k u v) (hk : k + 7 ≤ 3584) (v1 : Int32) : wpX_cut (fun r u' => wpY_cut (fun r' v' => r' = r ∧ i_Rel (k + 7) u' v') v v1) u v1 := by
  refine el_R (R := fun u v => wpX_cut (fun r u' => wpY_cut (fun r' v' => r' = r ∧ i_Rel (k + 7) u' v') v v1) u v1) ?_ I
  intro f_level f_indexed f_parts f_highs f_tokens f_conditionLength f_conditionNames f_depth f_found f_testAt f_count f_different f_cheapest f_positions f_starts f_accepts f_empty f_written f_target f_steps a_state a_old a_kept a_leaving a_coming a_ofType a_withLabels a_kind a_types a_direction a_low a_high a_variable a_labels a_token a_condition a_truth a_number a_variableOf a_atPart a_trail a_here a_bound a_named a_used a_weight a_left a_ends a_seen a_sum a_some a_letter a_follow a_firstOf a_lastOf a_nullable a_spelled a_visited a_front a_next yf_level yf_parts yf_pending yf_conditions yf_spelled yf_depth yf_used yf_weight yf_found yf_lightest yf_some yf_sum ya_labels ya_properties ya_from ya_to ya_types ya_weights ya_variable ya_wanted ya_among ya_direction ya_low ya_high ya_tokens ya_condition ya_expression ya_stack ya_part ya_steps ya_place ya_choice ya_bound ya_took ya_nodeOf ya_chosen ya_far P q c m CN hG hI hT hS hQ hC hF
  have GG := hG
  obtain ⟨L, T, hL, rfl, rfl, SS, G, H⟩ := GG
  unfold wpX_cut
  refine x_isEdge (fun z => br_f (by decide) ?_) (fun z => br_t rfl ?_)
  · have Z := z
    obtain ⟨n, hn, rfl, g0⟩ := z
    have cn : (nI n).toNatClampNeg = n := nI_clamp (by omega)
    have e8 : (8 : Int32) + nI n = nI (8 + n) := nI_add 8 n
    rw [e8]
    refine x_write (by omega) hL SS fun o k' S' => ?_
    show wpY_cut _ (nI L, yf_parts, yf_pending, yf_conditions, yf_spelled, yf_depth, yf_used, yf_weight, yf_found, yf_lightest, yf_some, yf_sum, ya_labels, ya_properties, ya_from, ya_to, ya_types, ya_weights, ya_variable, ya_wanted, ya_among, ya_direction, ya_low, ya_high, ya_tokens, ya_condition, ya_expression, ya_stack, ya_part, ya_steps, ya_place, ya_choice, ya_bound, ya_took, ya_nodeOf, ya_chosen, ya_far) (nI n)
    unfold wpY_cut
    refine y_isEdge G.2.2 (fun _ => br_f (by decide) ⟨vp_in_nI (by omega) (by omega), nm_r (e' := upd ya_to n (-1)) (by rw [cn]) ⟨rfl, rfl, ?_⟩⟩) (fun y => absurd Z y)
    exact mk_R (RG_edge (o := a_old) (k := a_kept) hL hn G H S' (VG_cut G.1 hn) (fun x hx => rfl) (fun x hx => pk_un hx) (fun x hx => rfl) (fun x hx => rfl) (Or.inl ⟨pk_uLs, by rw [Nat.mul_zero, Nat.zero_add, pk_us]⟩)) (Or.inl rfl) hT hS hQ hC (Or.inl rfl)
  · show wpY_cut _ (nI L, yf_parts, yf_pending, yf_conditions, yf_spelled, yf_depth, yf_used, yf_weight, yf_found, yf_lightest, yf_some, yf_sum, ya_labels, ya_properties, ya_from, ya_to, ya_types, ya_weights, ya_variable, ya_wanted, ya_among, ya_direction, ya_low, ya_high, ya_tokens, ya_condition, ya_expression, ya_stack, ya_part, ya_steps, ya_place, ya_choice, ya_bound, ya_took, ya_nodeOf, ya_chosen, ya_far) v1
    unfold wpY_cut
    exact y_isEdge G.2.2 (fun y => absurd y z) (fun _ => br_t rfl ⟨rfl, rfl, mk_R hG hI hT hS hQ hC hF⟩)
end
section
/-! transactions and answers -/
theorem VG_c {g g' : Nat → Int64} (h : ∀ s, s < 20 → g' s = g s) (V : VG g) : VG g' := by
  refine ⟨fun n hn z => ?_, fun e he z => ?_⟩
  · rw [h n (by omega)] at z ⊢; exact V.1 n hn z
  · have q := h (8 + e) (by omega)
    rw [q] at z
    obtain ⟨⟨a, b⟩, c⟩ := V.2 e he z
    have f8 := (eF_e g e).2
    have t8 := (eT_e g e).2
    rw [eF_c q, eT_c q, eY_c q, eW_c q, q, h _ (by omega), h _ (by omega)]
    exact ⟨⟨a, b⟩, c⟩
theorem YN_c {g g' : Nat → Int64} {l l' : Nat} {lb lb' : Nat → Int32} {pr pr' : Nat → Int64} (h : ∀ s, s < 20 → g' s = g s) (h1 : ∀ n, n < 8 → lb' (8 * l' + n) = lb (8 * l + n) ∧ pr' (8 * l' + n) = pr (8 * l + n)) (Y : YN g l lb pr) : YN g' l' lb' pr' := by
  intro n hn
  have q := h n (by omega)
  have w := Y n hn
  rw [q, (h1 n hn).1, (h1 n hn).2, nL_c q, nH_c q]
  exact w
theorem YE_c {g g' : Nat → Int64} {l l' : Nat} {fr to ty wt fr' to' ty' wt' : Nat → Int32} (h : ∀ s, s < 20 → g' s = g s) (h1 : ∀ n, n < 12 → fr' (12 * l' + n) = fr (12 * l + n) ∧ to' (12 * l' + n) = to (12 * l + n) ∧ ty' (12 * l' + n) = ty (12 * l + n) ∧ wt' (12 * l' + n) = wt (12 * l + n)) (Y : YE g l fr to ty wt) : YE g' l' fr' to' ty' wt' := by
  intro n hn
  have q := h (8 + n) (by omega)
  have w := Y n hn
  obtain ⟨a1, a2, a3, a4⟩ := h1 n hn
  rw [q, a1, a2, a3, a4, eF_c q, eT_c q, eY_c q, eW_c q]
  exact w
theorem i_vc_begin {k : Nat} {u : SX} {v : SY} (I : i_Rel k u v) (hk : k + 7 ≤ 3584) : wpX_begin (fun r u' => wpY_begin (fun r' v' => r' = r ∧ i_Rel (k + 7) u' v') v) u := by
  refine el_R (R := fun u v => wpX_begin (fun r u' => wpY_begin (fun r' v' => r' = r ∧ i_Rel (k + 7) u' v') v) u) ?_ I
  intro f_level f_indexed f_parts f_highs f_tokens f_conditionLength f_conditionNames f_depth f_found f_testAt f_count f_different f_cheapest f_positions f_starts f_accepts f_empty f_written f_target f_steps a_state a_old a_kept a_leaving a_coming a_ofType a_withLabels a_kind a_types a_direction a_low a_high a_variable a_labels a_token a_condition a_truth a_number a_variableOf a_atPart a_trail a_here a_bound a_named a_used a_weight a_left a_ends a_seen a_sum a_some a_letter a_follow a_firstOf a_lastOf a_nullable a_spelled a_visited a_front a_next yf_level yf_parts yf_pending yf_conditions yf_spelled yf_depth yf_used yf_weight yf_found yf_lightest yf_some yf_sum ya_labels ya_properties ya_from ya_to ya_types ya_weights ya_variable ya_wanted ya_among ya_direction ya_low ya_high ya_tokens ya_condition ya_expression ya_stack ya_part ya_steps ya_place ya_choice ya_bound ya_took ya_nodeOf ya_chosen ya_far P q c m CN hG hI hT hS hQ hC hF
  have GG := hG
  obtain ⟨L, T, hL, rfl, rfl, SS, G, H⟩ := GG
  have R0 : i_Rel (k + 7) (nI L, f_indexed, f_parts, f_highs, f_tokens, f_conditionLength, f_conditionNames, f_depth, f_found, f_testAt, f_count, f_different, f_cheapest, f_positions, f_starts, f_accepts, f_empty, f_written, f_target, f_steps, a_state, a_old, a_kept, a_leaving, a_coming, a_ofType, a_withLabels, a_kind, a_types, a_direction, a_low, a_high, a_variable, a_labels, a_token, a_condition, a_truth, a_number, a_variableOf, a_atPart, a_trail, a_here, a_bound, a_named, a_used, a_weight, a_left, a_ends, a_seen, a_sum, a_some, a_letter, a_follow, a_firstOf, a_lastOf, a_nullable, a_spelled, a_visited, a_front, a_next) (nI L, yf_parts, yf_pending, yf_conditions, yf_spelled, yf_depth, yf_used, yf_weight, yf_found, yf_lightest, yf_some, yf_sum, ya_labels, ya_properties, ya_from, ya_to, ya_types, ya_weights, ya_variable, ya_wanted, ya_among, ya_direction, ya_low, ya_high, ya_tokens, ya_condition, ya_expression, ya_stack, ya_part, ya_steps, ya_place, ya_choice, ya_bound, ya_took, ya_nodeOf, ya_chosen, ya_far) := mk_R hG hI hT hS hQ hC hF
  unfold wpX_begin
  by_cases e : L = 4
  · refine br_t (congrArg nI e) ?_
    show wpY_begin _ (nI L, yf_parts, yf_pending, yf_conditions, yf_spelled, yf_depth, yf_used, yf_weight, yf_found, yf_lightest, yf_some, yf_sum, ya_labels, ya_properties, ya_from, ya_to, ya_types, ya_weights, ya_variable, ya_wanted, ya_among, ya_direction, ya_low, ya_high, ya_tokens, ya_condition, ya_expression, ya_stack, ya_part, ya_steps, ya_place, ya_choice, ya_bound, ya_took, ya_nodeOf, ya_chosen, ya_far)
    unfold wpY_begin
    exact br_t (congrArg nI e) ⟨rfl, R0⟩
  · have ne : ¬ nI L = 4 := fun y => e ((nI_eq (b := 4) (by omega) (by omega)).mp y)
    refine br_f ne (nm_r (nI_1 L) ⟨vp_in_nI (by omega) (by omega), nm_r (e' := upd a_kept L 0) (by rw [nI_clamp (by omega)]) ?_⟩)
    show wpY_begin _ (nI L, yf_parts, yf_pending, yf_conditions, yf_spelled, yf_depth, yf_used, yf_weight, yf_found, yf_lightest, yf_some, yf_sum, ya_labels, ya_properties, ya_from, ya_to, ya_types, ya_weights, ya_variable, ya_wanted, ya_among, ya_direction, ya_low, ya_high, ya_tokens, ya_condition, ya_expression, ya_stack, ya_part, ya_steps, ya_place, ya_choice, ya_bound, ya_took, ya_nodeOf, ya_chosen, ya_far)
    unfold wpY_begin
    refine br_f ne (nm_r (nI_1 L) (y_copy (a := 0) (b := L + 1) (by omega) (by omega) (by omega) fun lb pr fr to ty wt q1 q2 q3 q4 => ⟨rfl, ?_⟩))
    refine mk_R ⟨L + 1, fun l => if l = L then a_state else T l, by omega, rfl, rfl, fun l hl => ?_, ⟨G.1, YN_c (fun _ _ => rfl) (fun n hn => q1 _ (fun x hx => by omega)) G.2.1, YE_c (fun _ _ => rfl) (fun n hn => q3 _ (fun x hx => by omega)) G.2.2⟩, fun l hl => ?_⟩ hI hT hS hQ hC hF
    · by_cases y : l = L
      · subst y
        refine ⟨0, by decide, pk_us, fun s hs => ?_⟩
        simp only [Nat.zero_testBit, Bool.false_eq_true, if_false, if_true]
      · obtain ⟨K, k1, k2, k3⟩ := SS l (by omega)
        refine ⟨K, k1, by rw [pk_un y]; exact k2, fun s hs => ?_⟩
        simp only [if_neg y, if_neg (show ¬ l + 1 = L + 1 by omega)]
        rw [k3 s hs]
        by_cases w : l + 1 = L
        · simp only [if_pos w]
        · simp only [if_neg w]
    · by_cases y : l = L
      · subst y
        simp only [if_true]
        exact ⟨G.1, YN_c (fun _ _ => rfl) (fun n hn => q2 n hn) G.2.1, YE_c (fun _ _ => rfl) (fun n hn => q4 n hn) G.2.2⟩
      · simp only [if_neg y]
        obtain ⟨a, b, c⟩ := H l (by omega)
        exact ⟨a, YN_c (fun _ _ => rfl) (fun n hn => q1 _ (fun x hx => by omega)) b, YE_c (fun _ _ => rfl) (fun n hn => q3 _ (fun x hx => by omega)) c⟩
section
variable {f_level f_indexed f_parts f_highs f_tokens f_conditionLength f_conditionNames f_depth f_found f_testAt f_count f_different f_cheapest f_positions f_starts f_accepts f_empty f_written f_target f_steps : Int32} {a_state a_old : Nat → Int64} {a_kept a_leaving a_coming a_ofType a_withLabels a_kind a_types a_direction a_low a_high a_variable a_labels a_token a_condition a_truth a_number a_variableOf a_atPart a_trail a_here a_bound a_named a_used a_weight a_left a_ends : Nat → Int32} {a_seen a_sum : Nat → Int64} {a_some a_letter a_follow a_firstOf a_lastOf a_nullable a_spelled a_visited a_front a_next : Nat → Int32}
theorem x_commit {post : Int32 → SX → Prop} {l : Nat} {T : Nat → Nat → Int64} (hl : l + 1 ≤ 4) (SS : SN (l + 1) T a_state a_old a_kept) (h : ∀ o k, SN l T a_state o k → post (nI l) (nI l, f_indexed, f_parts, f_highs, f_tokens, f_conditionLength, f_conditionNames, f_depth, f_found, f_testAt, f_count, f_different, f_cheapest, f_positions, f_starts, f_accepts, f_empty, f_written, f_target, f_steps, a_state, o, k, a_leaving, a_coming, a_ofType, a_withLabels, a_kind, a_types, a_direction, a_low, a_high, a_variable, a_labels, a_token, a_condition, a_truth, a_number, a_variableOf, a_atPart, a_trail, a_here, a_bound, a_named, a_used, a_weight, a_left, a_ends, a_seen, a_sum, a_some, a_letter, a_follow, a_firstOf, a_lastOf, a_nullable, a_spelled, a_visited, a_front, a_next)) : wpX_commit post (nI (l + 1), f_indexed, f_parts, f_highs, f_tokens, f_conditionLength, f_conditionNames, f_depth, f_found, f_testAt, f_count, f_different, f_cheapest, f_positions, f_starts, f_accepts, f_empty, f_written, f_target, f_steps, a_state, a_old, a_kept, a_leaving, a_coming, a_ofType, a_withLabels, a_kind, a_types, a_direction, a_low, a_high, a_variable, a_labels, a_token, a_condition, a_truth, a_number, a_variableOf, a_atPart, a_trail, a_here, a_bound, a_named, a_used, a_weight, a_left, a_ends, a_seen, a_sum, a_some, a_letter, a_follow, a_firstOf, a_lastOf, a_nullable, a_spelled, a_visited, a_front, a_next) := by
  unfold wpX_commit
  refine br_f (nI_ne0 (by omega) (by omega)) (nm_r (nI_pred l) ?_)
  cases l with
  | zero => exact ⟨1, br_f (by decide) (br_t (by decide) (br_t (by decide) (h _ _ (fun x hx => absurd hx (Nat.not_lt_zero x)))))⟩
  | succ l =>
    obtain ⟨K1, a1, a2, a3⟩ := SS (l + 1) (by omega)
    obtain ⟨K0, b1, b2, b3⟩ := SS l (by omega)
    have c1 : (nI (l + 1)).toNatClampNeg = l + 1 := nI_clamp (by omega)
    have c0 : (nI l).toNatClampNeg = l := nI_clamp (by omega)
    have v1 : vp_in (nI (l + 1)) 4 := vp_in_nI (by omega) (by omega)
    have v0 : vp_in (nI l) 4 := vp_in_nI (by omega) (by omega)
    have nz : ¬ nI (l + 1) ≤ 0 := nI_nle (by omega) (by omega)
    have m20 : (20 : Int32) * nI (l + 1) = nI (20 * l + 20) := pk_mul 20 (l + 1)
    have s20 : nI (20 * l + 20) - 20 = nI (20 * l) := by
      have := pk_sub (a := 20 * l + 20) (b := 20) (by omega)
      rw [Nat.add_sub_cancel] at this
      exact this
    have key : ∀ n i o, i ≤ 20 → 20 - i < n → (∀ j, (∀ s, s < 20 → j ≠ 20 * l + s) → o j = a_old j) → (∀ s, s < 20 → o (20 * l + s) = if s < i ∧ K1.testBit s = true ∧ K0.testBit s = false then a_old (20 * l + 20 + s) else a_old (20 * l + s)) → wX_commit_21 post (nI (l + 1)) f_indexed f_parts f_highs f_tokens f_conditionLength f_conditionNames f_depth f_found f_testAt f_count f_different f_cheapest f_positions f_starts f_accepts f_empty f_written f_target f_steps n (nI i) a_state o a_kept a_leaving a_coming a_ofType a_withLabels a_kind a_types a_direction a_low a_high a_variable a_labels a_token a_condition a_truth a_number a_variableOf a_atPart a_trail a_here a_bound a_named a_used a_weight a_left a_ends a_seen a_sum a_some a_letter a_follow a_firstOf a_lastOf a_nullable a_spelled a_visited a_front a_next := by
      intro n
      induction n with
      | zero => intro i o _ hn; omega
      | succ n ih =>
        intro i o hi hn J1 J2
        by_cases e : i = 20
        · subst e
          refine br_t (nI_le (b := 20) (Nat.le_refl _) (by omega)) (br_f nz ?_)
          rw [nI_pred, c0, c1, a2, b2, bb_or]
          refine ⟨v0, v1, v0, nm_e (h _ _ fun x hx => ?_)⟩
          by_cases y : x = l
          · subst y
            refine ⟨K0 ||| K1, Nat.or_lt_two_pow b1 a1, pk_us, fun s hs => ?_⟩
            rw [b3 s hs, a3 s hs, J2 s hs, Nat.testBit_or]
            have n1 : ¬ x + 1 = x + 1 + 1 := by omega
            have e1 : 20 * (x + 1) + s = 20 * x + 20 + s := by omega
            simp only [if_neg n1, if_true, e1, hs, true_and]
            cases K0.testBit s <;> cases K1.testBit s <;> simp
          · obtain ⟨K, d1, d2, d3⟩ := SS x (by omega)
            refine ⟨K, d1, by rw [pk_un y]; exact d2, fun s hs => ?_⟩
            rw [d3 s hs, J1 _ (fun s' hs' => by omega)]
            simp only [if_neg (show ¬ x + 1 = l + 1 + 1 by omega), if_neg (show ¬ x + 1 = l + 1 by omega)]
        · have hi : i < 20 := by omega
          have keep : ¬ (K1.testBit i = true ∧ K0.testBit i = false) → ∀ x, x = nI i + 1 → wX_commit_21 post (nI (l + 1)) f_indexed f_parts f_highs f_tokens f_conditionLength f_conditionNames f_depth f_found f_testAt f_count f_different f_cheapest f_positions f_starts f_accepts f_empty f_written f_target f_steps n x a_state o a_kept a_leaving a_coming a_ofType a_withLabels a_kind a_types a_direction a_low a_high a_variable a_labels a_token a_condition a_truth a_number a_variableOf a_atPart a_trail a_here a_bound a_named a_used a_weight a_left a_ends a_seen a_sum a_some a_letter a_follow a_firstOf a_lastOf a_nullable a_spelled a_visited a_front a_next := by
            intro z
            refine nm_r (nI_1 i) (ih (i + 1) o (by omega) (by omega) J1 fun s hs => ?_)
            rw [J2 s hs]
            refine se_if ⟨fun y => ⟨by omega, y.2⟩, fun y => ⟨?_, y.2⟩⟩ _ _
            by_cases w : s = i
            · subst w; exact absurd y.2 z
            · omega
          refine br_f (nI_ge (b := 20) hi (by omega)) (br_f nz ⟨v1, ?_⟩)
          rw [c1, a2]
          cases z1 : K1.testBit i with
          | false => exact br_t ((bb_bit (by omega) (by omega)).mpr z1) (br_t rfl (keep fun y => by rw [z1] at y; exact absurd y.1 (by decide)))
          | true =>
            refine br_f ((bb_bitT (by omega) (by omega)).mpr z1) ?_
            rw [nI_pred]
            refine ⟨v0, ?_⟩
            rw [c0, b2]
            cases z0 : K0.testBit i with
            | true => exact br_f ((bb_bitT (by omega) (by omega)).mpr z0) (br_t rfl (keep fun y => by rw [z0] at y; exact absurd y.2 (by decide)))
            | false =>
              have i1 : (20 * nI (l + 1)) + nI i = nI (20 * l + 20 + i) := by rw [m20, nI_add]
              have i0 : ((20 * nI (l + 1)) - 20) + nI i = nI (20 * l + i) := by rw [m20, s20, nI_add]
              have src : o (20 * l + 20 + i) = a_old (20 * l + 20 + i) := J1 _ (fun s hs => by omega)
              refine br_t ((bb_bit (by omega) (by omega)).mpr z0) (br_f (by decide) ⟨by rw [i1]; exact vp_in_nI (by omega) (by omega), by rw [i0]; exact vp_in_nI (by omega) (by omega), nm_r (e' := vp_updL o (20 * l + i) (a_old (20 * l + 20 + i))) (by rw [i0, i1, nI_clamp (by omega), nI_clamp (by omega), src]) (nm_r (nI_1 i) (ih (i + 1) _ (by omega) (by omega) (fun j hj => ?_) (fun s hs => ?_)))⟩)
              · rw [pk_uLn (hj i hi)]; exact J1 j hj
              · by_cases w : s = i
                · subst w
                  rw [pk_uLs, if_pos ⟨by omega, z1, z0⟩]
                · rw [pk_uLn (show 20 * l + s ≠ 20 * l + i by omega), J2 s hs]
                  exact se_if ⟨fun y => ⟨by omega, y.2⟩, fun y => ⟨by omega, y.2⟩⟩ _ _
    refine ⟨21, key 21 0 _ (by omega) (by omega) (fun _ _ => rfl) fun s hs => ?_⟩
    rw [if_neg (fun y => absurd y.1 (Nat.not_lt_zero s))]
theorem x_rollback {post : Int32 → SX → Prop} {l : Nat} {T : Nat → Nat → Int64} (hl : l + 1 ≤ 4) (SS : SN (l + 1) T a_state a_old a_kept) (h : ∀ st, (∀ s, s < 20 → st s = T l s) → SN l T st a_old a_kept → post (nI l) (nI l, 0, f_parts, f_highs, f_tokens, f_conditionLength, f_conditionNames, f_depth, 0, f_testAt, f_count, f_different, f_cheapest, f_positions, f_starts, f_accepts, f_empty, f_written, f_target, f_steps, st, a_old, a_kept, a_leaving, a_coming, a_ofType, a_withLabels, a_kind, a_types, a_direction, a_low, a_high, a_variable, a_labels, a_token, a_condition, a_truth, a_number, a_variableOf, a_atPart, a_trail, a_here, a_bound, a_named, a_used, a_weight, a_left, a_ends, a_seen, a_sum, a_some, a_letter, a_follow, a_firstOf, a_lastOf, a_nullable, a_spelled, a_visited, a_front, a_next)) : wpX_rollback post (nI (l + 1), f_indexed, f_parts, f_highs, f_tokens, f_conditionLength, f_conditionNames, f_depth, f_found, f_testAt, f_count, f_different, f_cheapest, f_positions, f_starts, f_accepts, f_empty, f_written, f_target, f_steps, a_state, a_old, a_kept, a_leaving, a_coming, a_ofType, a_withLabels, a_kind, a_types, a_direction, a_low, a_high, a_variable, a_labels, a_token, a_condition, a_truth, a_number, a_variableOf, a_atPart, a_trail, a_here, a_bound, a_named, a_used, a_weight, a_left, a_ends, a_seen, a_sum, a_some, a_letter, a_follow, a_firstOf, a_lastOf, a_nullable, a_spelled, a_visited, a_front, a_next) := by
  unfold wpX_rollback
  refine br_f (nI_ne0 (by omega) (by omega)) (nm_r (nI_pred l) ?_)
  obtain ⟨K, a1, a2, a3⟩ := SS l (by omega)
  have c0 : (nI l).toNatClampNeg = l := nI_clamp (by omega)
  have v0 : vp_in (nI l) 4 := vp_in_nI (by omega) (by omega)
  have m20 : (20 : Int32) * nI l = nI (20 * l) := pk_mul 20 l
  have key : ∀ n i st, i ≤ 20 → 20 - i < n → (∀ s, s < i → st s = T l s) → (∀ s, i ≤ s → st s = a_state s) → wX_rollback_21 post (nI l) f_indexed f_parts f_highs f_tokens f_conditionLength f_conditionNames f_depth f_found f_testAt f_count f_different f_cheapest f_positions f_starts f_accepts f_empty f_written f_target f_steps n (nI i) st a_old a_kept a_leaving a_coming a_ofType a_withLabels a_kind a_types a_direction a_low a_high a_variable a_labels a_token a_condition a_truth a_number a_variableOf a_atPart a_trail a_here a_bound a_named a_used a_weight a_left a_ends a_seen a_sum a_some a_letter a_follow a_firstOf a_lastOf a_nullable a_spelled a_visited a_front a_next := by
    intro n
    induction n with
    | zero => intro i st _ hn; omega
    | succ n ih =>
      intro i st hi hn J1 J2
      by_cases e : i = 20
      · subst e
        refine br_t (nI_le (b := 20) (Nat.le_refl _) (by omega)) (h st J1 fun x hx => ?_)
        obtain ⟨K', d1, d2, d3⟩ := SS x (by omega)
        refine ⟨K', d1, d2, fun s hs => ?_⟩
        rw [d3 s hs]
        simp only [if_neg (show ¬ x + 1 = l + 1 by omega)]
        by_cases w : x + 1 = l
        · simp only [w, if_true, J1 s hs]
        · simp only [if_neg w]
      · have hi : i < 20 := by omega
        have t := a3 i hi
        simp only [if_true] at t
        refine br_f (nI_ge (b := 20) hi (by omega)) ⟨v0, ?_⟩
        rw [c0, a2]
        cases z : K.testBit i with
        | false =>
          rw [z] at t
          refine br_t ((bb_bit (by omega) (by omega)).mpr z) (nm_r (nI_1 i) (ih (i + 1) st (by omega) (by omega) (fun s hs => ?_) (fun s hs => J2 s (by omega))))
          by_cases w : s = i
          · subst w; rw [J2 s (Nat.le_refl _), t]; rfl
          · exact J1 s (by omega)
        | true =>
          rw [z] at t
          have i1 : (20 * nI l) + nI i = nI (20 * l + i) := by rw [m20, nI_add]
          refine br_f ((bb_bitT (by omega) (by omega)).mpr z) ⟨by rw [i1]; exact vp_in_nI (by omega) (by omega), vp_in_nI hi (by omega), nm_r (e' := vp_updL st i (a_old (20 * l + i))) (by rw [i1, nI_clamp (by omega), nI_clamp (by omega)]) (nm_r (nI_1 i) (ih (i + 1) _ (by omega) (by omega) (fun s hs => ?_) (fun s hs => ?_)))⟩
          · by_cases w : s = i
            · subst w; rw [pk_uLs, t]; rfl
            · rw [pk_uLn w]; exact J1 s (by omega)
          · rw [pk_uLn (by omega)]; exact J2 s (by omega)
  exact ⟨21, key 21 0 _ (by omega) (by omega) (fun s hs => absurd hs (Nat.not_lt_zero s)) (fun _ _ => rfl)⟩
end
theorem i_vc_commit {k : Nat} {u : SX} {v : SY} (I : i_Rel k u v) (hk : k + 7 ≤ 3584) : wpX_commit (fun r u' => wpY_commit (fun r' v' => r' = r ∧ i_Rel (k + 7) u' v') v) u := by
  refine el_R (R := fun u v => wpX_commit (fun r u' => wpY_commit (fun r' v' => r' = r ∧ i_Rel (k + 7) u' v') v) u) ?_ I
  intro f_level f_indexed f_parts f_highs f_tokens f_conditionLength f_conditionNames f_depth f_found f_testAt f_count f_different f_cheapest f_positions f_starts f_accepts f_empty f_written f_target f_steps a_state a_old a_kept a_leaving a_coming a_ofType a_withLabels a_kind a_types a_direction a_low a_high a_variable a_labels a_token a_condition a_truth a_number a_variableOf a_atPart a_trail a_here a_bound a_named a_used a_weight a_left a_ends a_seen a_sum a_some a_letter a_follow a_firstOf a_lastOf a_nullable a_spelled a_visited a_front a_next yf_level yf_parts yf_pending yf_conditions yf_spelled yf_depth yf_used yf_weight yf_found yf_lightest yf_some yf_sum ya_labels ya_properties ya_from ya_to ya_types ya_weights ya_variable ya_wanted ya_among ya_direction ya_low ya_high ya_tokens ya_condition ya_expression ya_stack ya_part ya_steps ya_place ya_choice ya_bound ya_took ya_nodeOf ya_chosen ya_far P q c m CN hG hI hT hS hQ hC hF
  have GG := hG
  obtain ⟨L, T, hL, rfl, rfl, SS, G, H⟩ := GG
  have R0 : i_Rel (k + 7) (nI L, f_indexed, f_parts, f_highs, f_tokens, f_conditionLength, f_conditionNames, f_depth, f_found, f_testAt, f_count, f_different, f_cheapest, f_positions, f_starts, f_accepts, f_empty, f_written, f_target, f_steps, a_state, a_old, a_kept, a_leaving, a_coming, a_ofType, a_withLabels, a_kind, a_types, a_direction, a_low, a_high, a_variable, a_labels, a_token, a_condition, a_truth, a_number, a_variableOf, a_atPart, a_trail, a_here, a_bound, a_named, a_used, a_weight, a_left, a_ends, a_seen, a_sum, a_some, a_letter, a_follow, a_firstOf, a_lastOf, a_nullable, a_spelled, a_visited, a_front, a_next) (nI L, yf_parts, yf_pending, yf_conditions, yf_spelled, yf_depth, yf_used, yf_weight, yf_found, yf_lightest, yf_some, yf_sum, ya_labels, ya_properties, ya_from, ya_to, ya_types, ya_weights, ya_variable, ya_wanted, ya_among, ya_direction, ya_low, ya_high, ya_tokens, ya_condition, ya_expression, ya_stack, ya_part, ya_steps, ya_place, ya_choice, ya_bound, ya_took, ya_nodeOf, ya_chosen, ya_far) := mk_R hG hI hT hS hQ hC hF
  cases L with
  | zero =>
    unfold wpX_commit
    refine br_t rfl ?_
    show wpY_commit _ (nI 0, yf_parts, yf_pending, yf_conditions, yf_spelled, yf_depth, yf_used, yf_weight, yf_found, yf_lightest, yf_some, yf_sum, ya_labels, ya_properties, ya_from, ya_to, ya_types, ya_weights, ya_variable, ya_wanted, ya_among, ya_direction, ya_low, ya_high, ya_tokens, ya_condition, ya_expression, ya_stack, ya_part, ya_steps, ya_place, ya_choice, ya_bound, ya_took, ya_nodeOf, ya_chosen, ya_far)
    unfold wpY_commit
    exact br_t rfl ⟨rfl, R0⟩
  | succ l =>
    refine x_commit hL SS fun o k' S' => ?_
    show wpY_commit _ (nI (l + 1), yf_parts, yf_pending, yf_conditions, yf_spelled, yf_depth, yf_used, yf_weight, yf_found, yf_lightest, yf_some, yf_sum, ya_labels, ya_properties, ya_from, ya_to, ya_types, ya_weights, ya_variable, ya_wanted, ya_among, ya_direction, ya_low, ya_high, ya_tokens, ya_condition, ya_expression, ya_stack, ya_part, ya_steps, ya_place, ya_choice, ya_bound, ya_took, ya_nodeOf, ya_chosen, ya_far)
    unfold wpY_commit
    refine br_f (nI_ne0 (by omega) (by omega)) (nm_r (nI_pred l) ⟨nI_pred l, ?_⟩)
    exact mk_R ⟨l, T, by omega, rfl, rfl, S', G, fun x hx => H x (by omega)⟩ hI hT hS hQ hC hF
theorem i_vc_rollback {k : Nat} {u : SX} {v : SY} (I : i_Rel k u v) (hk : k + 7 ≤ 3584) : wpX_rollback (fun r u' => wpY_rollback (fun r' v' => r' = r ∧ i_Rel (k + 7) u' v') v) u := by
  refine el_R (R := fun u v => wpX_rollback (fun r u' => wpY_rollback (fun r' v' => r' = r ∧ i_Rel (k + 7) u' v') v) u) ?_ I
  intro f_level f_indexed f_parts f_highs f_tokens f_conditionLength f_conditionNames f_depth f_found f_testAt f_count f_different f_cheapest f_positions f_starts f_accepts f_empty f_written f_target f_steps a_state a_old a_kept a_leaving a_coming a_ofType a_withLabels a_kind a_types a_direction a_low a_high a_variable a_labels a_token a_condition a_truth a_number a_variableOf a_atPart a_trail a_here a_bound a_named a_used a_weight a_left a_ends a_seen a_sum a_some a_letter a_follow a_firstOf a_lastOf a_nullable a_spelled a_visited a_front a_next yf_level yf_parts yf_pending yf_conditions yf_spelled yf_depth yf_used yf_weight yf_found yf_lightest yf_some yf_sum ya_labels ya_properties ya_from ya_to ya_types ya_weights ya_variable ya_wanted ya_among ya_direction ya_low ya_high ya_tokens ya_condition ya_expression ya_stack ya_part ya_steps ya_place ya_choice ya_bound ya_took ya_nodeOf ya_chosen ya_far P q c m CN hG hI hT hS hQ hC hF
  have GG := hG
  obtain ⟨L, T, hL, rfl, rfl, SS, G, H⟩ := GG
  have R0 : i_Rel (k + 7) (nI L, f_indexed, f_parts, f_highs, f_tokens, f_conditionLength, f_conditionNames, f_depth, f_found, f_testAt, f_count, f_different, f_cheapest, f_positions, f_starts, f_accepts, f_empty, f_written, f_target, f_steps, a_state, a_old, a_kept, a_leaving, a_coming, a_ofType, a_withLabels, a_kind, a_types, a_direction, a_low, a_high, a_variable, a_labels, a_token, a_condition, a_truth, a_number, a_variableOf, a_atPart, a_trail, a_here, a_bound, a_named, a_used, a_weight, a_left, a_ends, a_seen, a_sum, a_some, a_letter, a_follow, a_firstOf, a_lastOf, a_nullable, a_spelled, a_visited, a_front, a_next) (nI L, yf_parts, yf_pending, yf_conditions, yf_spelled, yf_depth, yf_used, yf_weight, yf_found, yf_lightest, yf_some, yf_sum, ya_labels, ya_properties, ya_from, ya_to, ya_types, ya_weights, ya_variable, ya_wanted, ya_among, ya_direction, ya_low, ya_high, ya_tokens, ya_condition, ya_expression, ya_stack, ya_part, ya_steps, ya_place, ya_choice, ya_bound, ya_took, ya_nodeOf, ya_chosen, ya_far) := mk_R hG hI hT hS hQ hC hF
  cases L with
  | zero =>
    unfold wpX_rollback
    refine br_t rfl ?_
    show wpY_rollback _ (nI 0, yf_parts, yf_pending, yf_conditions, yf_spelled, yf_depth, yf_used, yf_weight, yf_found, yf_lightest, yf_some, yf_sum, ya_labels, ya_properties, ya_from, ya_to, ya_types, ya_weights, ya_variable, ya_wanted, ya_among, ya_direction, ya_low, ya_high, ya_tokens, ya_condition, ya_expression, ya_stack, ya_part, ya_steps, ya_place, ya_choice, ya_bound, ya_took, ya_nodeOf, ya_chosen, ya_far)
    unfold wpY_rollback
    exact br_t rfl ⟨rfl, R0⟩
  | succ l =>
    refine x_rollback hL SS fun st' e S' => ?_
    show wpY_rollback _ (nI (l + 1), yf_parts, yf_pending, yf_conditions, yf_spelled, yf_depth, yf_used, yf_weight, yf_found, yf_lightest, yf_some, yf_sum, ya_labels, ya_properties, ya_from, ya_to, ya_types, ya_weights, ya_variable, ya_wanted, ya_among, ya_direction, ya_low, ya_high, ya_tokens, ya_condition, ya_expression, ya_stack, ya_part, ya_steps, ya_place, ya_choice, ya_bound, ya_took, ya_nodeOf, ya_chosen, ya_far)
    unfold wpY_rollback
    refine br_f (nI_ne0 (by omega) (by omega)) (y_copy (a := l + 1) (b := 0) (by omega) (by omega) (by omega) fun lb pr fr to ty wt q1 q2 q3 q4 => nm_r (nI_pred l) ⟨nI_pred l, ?_⟩)
    obtain ⟨V1, Y1, E1⟩ := H l (by omega)
    refine mk_R ⟨l, T, by omega, rfl, rfl, S', ⟨VG_c e V1, YN_c e (fun n hn => q2 n hn) Y1, YE_c e (fun n hn => q4 n hn) E1⟩, fun x hx => ?_⟩ (Or.inl rfl) hT hS hQ hC (Or.inl rfl)
    obtain ⟨a, b, c⟩ := H x (by omega)
    exact ⟨a, YN_c (fun _ _ => rfl) (fun n hn => q1 _ (fun x hx => by omega)) b, YE_c (fun _ _ => rfl) (fun n hn => q3 _ (fun x hx => by omega)) c⟩
theorem i_vc_property {k : Nat} {u : SX} {v : SY} (I : i_Rel k u v) (hk : k + 7 ≤ 3584) (v1 : Int32) : wpX_property (fun r => wpY_property (fun r' => r' = r ∧ i_Rel (k + 7) u v) v v1) u v1 := by
  refine el_R (R := fun u v => wpX_property (fun r => wpY_property (fun r' => r' = r ∧ i_Rel (k + 7) u v) v v1) u v1) ?_ I
  intro f_level f_indexed f_parts f_highs f_tokens f_conditionLength f_conditionNames f_depth f_found f_testAt f_count f_different f_cheapest f_positions f_starts f_accepts f_empty f_written f_target f_steps a_state a_old a_kept a_leaving a_coming a_ofType a_withLabels a_kind a_types a_direction a_low a_high a_variable a_labels a_token a_condition a_truth a_number a_variableOf a_atPart a_trail a_here a_bound a_named a_used a_weight a_left a_ends a_seen a_sum a_some a_letter a_follow a_firstOf a_lastOf a_nullable a_spelled a_visited a_front a_next yf_level yf_parts yf_pending yf_conditions yf_spelled yf_depth yf_used yf_weight yf_found yf_lightest yf_some yf_sum ya_labels ya_properties ya_from ya_to ya_types ya_weights ya_variable ya_wanted ya_among ya_direction ya_low ya_high ya_tokens ya_condition ya_expression ya_stack ya_part ya_steps ya_place ya_choice ya_bound ya_took ya_nodeOf ya_chosen ya_far P q c m CN hG hI hT hS hQ hC hF
  have GG := hG
  obtain ⟨L, T, hL, rfl, rfl, SS, G, H⟩ := GG
  have R0 : i_Rel (k + 7) (nI L, f_indexed, f_parts, f_highs, f_tokens, f_conditionLength, f_conditionNames, f_depth, f_found, f_testAt, f_count, f_different, f_cheapest, f_positions, f_starts, f_accepts, f_empty, f_written, f_target, f_steps, a_state, a_old, a_kept, a_leaving, a_coming, a_ofType, a_withLabels, a_kind, a_types, a_direction, a_low, a_high, a_variable, a_labels, a_token, a_condition, a_truth, a_number, a_variableOf, a_atPart, a_trail, a_here, a_bound, a_named, a_used, a_weight, a_left, a_ends, a_seen, a_sum, a_some, a_letter, a_follow, a_firstOf, a_lastOf, a_nullable, a_spelled, a_visited, a_front, a_next) (nI L, yf_parts, yf_pending, yf_conditions, yf_spelled, yf_depth, yf_used, yf_weight, yf_found, yf_lightest, yf_some, yf_sum, ya_labels, ya_properties, ya_from, ya_to, ya_types, ya_weights, ya_variable, ya_wanted, ya_among, ya_direction, ya_low, ya_high, ya_tokens, ya_condition, ya_expression, ya_stack, ya_part, ya_steps, ya_place, ya_choice, ya_bound, ya_took, ya_nodeOf, ya_chosen, ya_far) := mk_R hG hI hT hS hQ hC hF
  unfold wpX_property
  refine x_isNode (fun z => br_f (by decide) ?_) (fun z => br_t rfl ?_)
  · have Z := z
    obtain ⟨n, hn, rfl, g0⟩ := z
    have cn : (nI n).toNatClampNeg = n := nI_clamp (by omega)
    have pr : ya_properties n = if nH a_state n = true then gr_pr (a_state n) else 9000000000000000000 := by
      rcases G.2.1 n hn with ⟨y, _⟩ | ⟨_, _, y⟩
      · exact absurd y g0
      · rw [Nat.mul_zero, Nat.zero_add] at y; exact y
    have fin : ∀ r : Int64, r = ya_properties n → wpY_property (fun r' => r' = r ∧ i_Rel (k + 7) (nI L, f_indexed, f_parts, f_highs, f_tokens, f_conditionLength, f_conditionNames, f_depth, f_found, f_testAt, f_count, f_different, f_cheapest, f_positions, f_starts, f_accepts, f_empty, f_written, f_target, f_steps, a_state, a_old, a_kept, a_leaving, a_coming, a_ofType, a_withLabels, a_kind, a_types, a_direction, a_low, a_high, a_variable, a_labels, a_token, a_condition, a_truth, a_number, a_variableOf, a_atPart, a_trail, a_here, a_bound, a_named, a_used, a_weight, a_left, a_ends, a_seen, a_sum, a_some, a_letter, a_follow, a_firstOf, a_lastOf, a_nullable, a_spelled, a_visited, a_front, a_next) (nI L, yf_parts, yf_pending, yf_conditions, yf_spelled, yf_depth, yf_used, yf_weight, yf_found, yf_lightest, yf_some, yf_sum, ya_labels, ya_properties, ya_from, ya_to, ya_types, ya_weights, ya_variable, ya_wanted, ya_among, ya_direction, ya_low, ya_high, ya_tokens, ya_condition, ya_expression, ya_stack, ya_part, ya_steps, ya_place, ya_choice, ya_bound, ya_took, ya_nodeOf, ya_chosen, ya_far)) (nI L, yf_parts, yf_pending, yf_conditions, yf_spelled, yf_depth, yf_used, yf_weight, yf_found, yf_lightest, yf_some, yf_sum, ya_labels, ya_properties, ya_from, ya_to, ya_types, ya_weights, ya_variable, ya_wanted, ya_among, ya_direction, ya_low, ya_high, ya_tokens, ya_condition, ya_expression, ya_stack, ya_part, ya_steps, ya_place, ya_choice, ya_bound, ya_took, ya_nodeOf, ya_chosen, ya_far) (nI n) := by
      intro r hr
      unfold wpY_property
      refine y_isNode G.2.1 (fun _ => br_f (by decide) ⟨vp_in_nI (by omega) (by omega), ?_⟩) (fun y => absurd Z y)
      rw [cn]
      exact ⟨hr.symm, R0⟩
    refine ⟨vp_in_nI (by omega) (by omega), ?_⟩
    rw [cn]
    have hb := bl_has (a_state n)
    cases y : nH a_state n with
    | false =>
      rw [y] at pr
      exact br_t (hb.mpr y) (fin _ pr.symm)
    | true =>
      rw [y] at pr
      refine br_f (fun w => ?_) ⟨vp_in_nI (by omega) (by omega), fin _ pr.symm⟩
      have := hb.mp w
      unfold nH at y
      rw [this] at y
      exact absurd y (by decide)
  · show wpY_property _ (nI L, yf_parts, yf_pending, yf_conditions, yf_spelled, yf_depth, yf_used, yf_weight, yf_found, yf_lightest, yf_some, yf_sum, ya_labels, ya_properties, ya_from, ya_to, ya_types, ya_weights, ya_variable, ya_wanted, ya_among, ya_direction, ya_low, ya_high, ya_tokens, ya_condition, ya_expression, ya_stack, ya_part, ya_steps, ya_place, ya_choice, ya_bound, ya_took, ya_nodeOf, ya_chosen, ya_far) v1
    unfold wpY_property
    exact y_isNode G.2.1 (fun y => absurd y z) (fun _ => br_t rfl ⟨rfl, R0⟩)
/-- bits set one after the other -/
def th (f : Nat → Prop) (b acc : Int32) : Nat → Int32 → Prop
  | 0 => fun x => x = acc
  | i + 1 => fun x => ∃ y, th f b acc i y ∧ ((f i ∧ x = y ||| (b <<< (nI i &&& 31))) ∨ (¬ f i ∧ x = y))
theorem th_u {f : Nat → Prop} {b acc : Int32} : ∀ {i x x'}, th f b acc i x → th f b acc i x' → x = x'
  | 0, x, x', h, h' => h.trans h'.symm
  | i + 1, x, x', h, h' => by
    obtain ⟨y, h1, h2⟩ := h
    obtain ⟨y', h1', h2'⟩ := h'
    have := th_u h1 h1'
    subst this
    rcases h2 with ⟨a, b⟩ | ⟨a, b⟩ <;> rcases h2' with ⟨a', b'⟩ | ⟨a', b'⟩
    · rw [b, b']
    · exact absurd a a'
    · exact absurd a' a
    · rw [b, b']
theorem i_vc_there {k : Nat} {u : SX} {v : SY} (I : i_Rel k u v) (hk : k + 7 ≤ 3584) : wpX_there (fun r => wpY_there (fun r' => r' = r ∧ i_Rel (k + 7) u v) v) u := by
  refine el_R (R := fun u v => wpX_there (fun r => wpY_there (fun r' => r' = r ∧ i_Rel (k + 7) u v) v) u) ?_ I
  intro f_level f_indexed f_parts f_highs f_tokens f_conditionLength f_conditionNames f_depth f_found f_testAt f_count f_different f_cheapest f_positions f_starts f_accepts f_empty f_written f_target f_steps a_state a_old a_kept a_leaving a_coming a_ofType a_withLabels a_kind a_types a_direction a_low a_high a_variable a_labels a_token a_condition a_truth a_number a_variableOf a_atPart a_trail a_here a_bound a_named a_used a_weight a_left a_ends a_seen a_sum a_some a_letter a_follow a_firstOf a_lastOf a_nullable a_spelled a_visited a_front a_next yf_level yf_parts yf_pending yf_conditions yf_spelled yf_depth yf_used yf_weight yf_found yf_lightest yf_some yf_sum ya_labels ya_properties ya_from ya_to ya_types ya_weights ya_variable ya_wanted ya_among ya_direction ya_low ya_high ya_tokens ya_condition ya_expression ya_stack ya_part ya_steps ya_place ya_choice ya_bound ya_took ya_nodeOf ya_chosen ya_far P q c m CN hG hI hT hS hQ hC hF
  have GG := hG
  obtain ⟨L, T, hL, rfl, rfl, SS, G, H⟩ := GG
  have R0 : i_Rel (k + 7) (nI L, f_indexed, f_parts, f_highs, f_tokens, f_conditionLength, f_conditionNames, f_depth, f_found, f_testAt, f_count, f_different, f_cheapest, f_positions, f_starts, f_accepts, f_empty, f_written, f_target, f_steps, a_state, a_old, a_kept, a_leaving, a_coming, a_ofType, a_withLabels, a_kind, a_types, a_direction, a_low, a_high, a_variable, a_labels, a_token, a_condition, a_truth, a_number, a_variableOf, a_atPart, a_trail, a_here, a_bound, a_named, a_used, a_weight, a_left, a_ends, a_seen, a_sum, a_some, a_letter, a_follow, a_firstOf, a_lastOf, a_nullable, a_spelled, a_visited, a_front, a_next) (nI L, yf_parts, yf_pending, yf_conditions, yf_spelled, yf_depth, yf_used, yf_weight, yf_found, yf_lightest, yf_some, yf_sum, ya_labels, ya_properties, ya_from, ya_to, ya_types, ya_weights, ya_variable, ya_wanted, ya_among, ya_direction, ya_low, ya_high, ya_tokens, ya_condition, ya_expression, ya_stack, ya_part, ya_steps, ya_place, ya_choice, ya_bound, ya_took, ya_nodeOf, ya_chosen, ya_far) := mk_R hG hI hT hS hQ hC hF
  have yl : ∀ (K : Int32 → Prop), (∀ a b, th (fun n => ¬ a_state n = 0) 1 (nI L <<< ((20 : Int32) &&& 31)) 8 a → th (fun n => ¬ a_state (8 + n) = 0) 256 a 12 b → K b) → wpY_there K (nI L, yf_parts, yf_pending, yf_conditions, yf_spelled, yf_depth, yf_used, yf_weight, yf_found, yf_lightest, yf_some, yf_sum, ya_labels, ya_properties, ya_from, ya_to, ya_types, ya_weights, ya_variable, ya_wanted, ya_among, ya_direction, ya_low, ya_high, ya_tokens, ya_condition, ya_expression, ya_stack, ya_part, ya_steps, ya_place, ya_choice, ya_bound, ya_took, ya_nodeOf, ya_chosen, ya_far) := by
    intro K hK
    have k38 : ∀ a, th (fun n => ¬ a_state n = 0) 1 (nI L <<< ((20 : Int32) &&& 31)) 8 a → ∀ n i x, i ≤ 12 → 12 - i < n → th (fun n => ¬ a_state (8 + n) = 0) 256 a i x → wY_there_38 K (nI L) yf_parts yf_pending yf_conditions yf_spelled yf_depth yf_used yf_weight yf_found yf_lightest yf_some yf_sum ya_labels ya_properties ya_from ya_to ya_types ya_weights ya_variable ya_wanted ya_among ya_direction ya_low ya_high ya_tokens ya_condition ya_expression ya_stack ya_part ya_steps ya_place ya_choice ya_bound ya_took ya_nodeOf ya_chosen ya_far n x (nI i) := by
      intro a ha n
      induction n with
      | zero => intro i x _ hn; omega
      | succ n ih =>
        intro i x hi hn J
        by_cases e : i = 12
        · subst e
          exact br_t (nI_le (b := 12) (Nat.le_refl _) (by omega)) (hK a x ha J)
        · refine br_f (nI_ge (b := 12) (by omega) (by omega)) (y_isEdge G.2.2 (fun z => br_f (by decide) (nm_e (nm_r (nI_1 i) (ih (i + 1) _ (by omega) (by omega) ⟨x, J, Or.inl ⟨?_, rfl⟩⟩)))) (fun z => br_t rfl (nm_r (nI_1 i) (ih (i + 1) _ (by omega) (by omega) ⟨x, J, Or.inr ⟨fun y => z ⟨i, by omega, rfl, y⟩, rfl⟩⟩))))
          obtain ⟨e', e1, e2, hz⟩ := z
          rw [(nI_eq (by omega) (by omega)).mp e2]
          exact hz
    have k10 : ∀ n i x, i ≤ 8 → 8 - i < n → th (fun n => ¬ a_state n = 0) 1 (nI L <<< ((20 : Int32) &&& 31)) i x → wY_there_10 K (nI L) yf_parts yf_pending yf_conditions yf_spelled yf_depth yf_used yf_weight yf_found yf_lightest yf_some yf_sum ya_labels ya_properties ya_from ya_to ya_types ya_weights ya_variable ya_wanted ya_among ya_direction ya_low ya_high ya_tokens ya_condition ya_expression ya_stack ya_part ya_steps ya_place ya_choice ya_bound ya_took ya_nodeOf ya_chosen ya_far n x (nI i) := by
      intro n
      induction n with
      | zero => intro i x _ hn; omega
      | succ n ih =>
        intro i x hi hn J
        by_cases e : i = 8
        · subst e
          exact br_t (nI_le (b := 8) (Nat.le_refl _) (by omega)) ⟨13, k38 x J 13 0 x (by omega) (by omega) rfl⟩
        · refine br_f (nI_ge (b := 8) (by omega) (by omega)) (y_isNode G.2.1 (fun z => br_f (by decide) (nm_e (nm_r (nI_1 i) (ih (i + 1) _ (by omega) (by omega) ⟨x, J, Or.inl ⟨?_, rfl⟩⟩)))) (fun z => br_t rfl (nm_r (nI_1 i) (ih (i + 1) _ (by omega) (by omega) ⟨x, J, Or.inr ⟨fun y => z ⟨i, by omega, rfl, y⟩, rfl⟩⟩))))
          obtain ⟨e', e1, e2, hz⟩ := z
          rw [(nI_eq (by omega) (by omega)).mp e2]
          exact hz
    unfold wpY_there
    exact nm_e ⟨9, k10 9 0 _ (by omega) (by omega) rfl⟩
  have xl : ∀ (K : Int32 → Prop), (∀ a b, th (fun n => ¬ a_state n = 0) 1 (nI L <<< ((20 : Int32) &&& 31)) 8 a → th (fun n => ¬ a_state (8 + n) = 0) 256 a 12 b → K b) → wpX_there K (nI L, f_indexed, f_parts, f_highs, f_tokens, f_conditionLength, f_conditionNames, f_depth, f_found, f_testAt, f_count, f_different, f_cheapest, f_positions, f_starts, f_accepts, f_empty, f_written, f_target, f_steps, a_state, a_old, a_kept, a_leaving, a_coming, a_ofType, a_withLabels, a_kind, a_types, a_direction, a_low, a_high, a_variable, a_labels, a_token, a_condition, a_truth, a_number, a_variableOf, a_atPart, a_trail, a_here, a_bound, a_named, a_used, a_weight, a_left, a_ends, a_seen, a_sum, a_some, a_letter, a_follow, a_firstOf, a_lastOf, a_nullable, a_spelled, a_visited, a_front, a_next) := by
    intro K hK
    have k38 : ∀ a, th (fun n => ¬ a_state n = 0) 1 (nI L <<< ((20 : Int32) &&& 31)) 8 a → ∀ n i x, i ≤ 12 → 12 - i < n → th (fun n => ¬ a_state (8 + n) = 0) 256 a i x → wX_there_41 K (nI L) f_indexed f_parts f_highs f_tokens f_conditionLength f_conditionNames f_depth f_found f_testAt f_count f_different f_cheapest f_positions f_starts f_accepts f_empty f_written f_target f_steps a_state a_old a_kept a_leaving a_coming a_ofType a_withLabels a_kind a_types a_direction a_low a_high a_variable a_labels a_token a_condition a_truth a_number a_variableOf a_atPart a_trail a_here a_bound a_named a_used a_weight a_left a_ends a_seen a_sum a_some a_letter a_follow a_firstOf a_lastOf a_nullable a_spelled a_visited a_front a_next n x (nI i) := by
      intro a ha n
      induction n with
      | zero => intro i x _ hn; omega
      | succ n ih =>
        intro i x hi hn J
        by_cases e : i = 12
        · subst e
          exact br_t (nI_le (b := 12) (Nat.le_refl _) (by omega)) (hK a x ha J)
        · have e8 : (8 : Int32) + nI i = nI (8 + i) := nI_add 8 i
          have c8 : ((8 : Int32) + nI i).toNatClampNeg = 8 + i := by rw [e8, nI_clamp (by omega)]
          refine br_f (nI_ge (b := 12) (by omega) (by omega)) ⟨by rw [e8]; exact vp_in_nI (by omega) (by omega), ?_⟩
          rw [c8]
          exact br_c (fun z => nm_r (nI_1 i) (ih (i + 1) _ (by omega) (by omega) ⟨x, J, Or.inr ⟨fun y => y z, rfl⟩⟩)) (fun z => nm_e (nm_r (nI_1 i) (ih (i + 1) _ (by omega) (by omega) ⟨x, J, Or.inl ⟨z, rfl⟩⟩)))
    have k10 : ∀ n i x, i ≤ 8 → 8 - i < n → th (fun n => ¬ a_state n = 0) 1 (nI L <<< ((20 : Int32) &&& 31)) i x → wX_there_10 K (nI L) f_indexed f_parts f_highs f_tokens f_conditionLength f_conditionNames f_depth f_found f_testAt f_count f_different f_cheapest f_positions f_starts f_accepts f_empty f_written f_target f_steps a_state a_old a_kept a_leaving a_coming a_ofType a_withLabels a_kind a_types a_direction a_low a_high a_variable a_labels a_token a_condition a_truth a_number a_variableOf a_atPart a_trail a_here a_bound a_named a_used a_weight a_left a_ends a_seen a_sum a_some a_letter a_follow a_firstOf a_lastOf a_nullable a_spelled a_visited a_front a_next n x (nI i) := by
      intro n
      induction n with
      | zero => intro i x _ hn; omega
      | succ n ih =>
        intro i x hi hn J
        by_cases e : i = 8
        · subst e
          exact br_t (nI_le (b := 8) (Nat.le_refl _) (by omega)) ⟨13, k38 x J 13 0 x (by omega) (by omega) rfl⟩
        · refine br_f (nI_ge (b := 8) (by omega) (by omega)) ⟨vp_in_nI (by omega) (by omega), ?_⟩
          rw [nI_clamp (by omega)]
          exact br_c (fun z => nm_r (nI_1 i) (ih (i + 1) _ (by omega) (by omega) ⟨x, J, Or.inr ⟨fun y => y z, rfl⟩⟩)) (fun z => nm_e (nm_r (nI_1 i) (ih (i + 1) _ (by omega) (by omega) ⟨x, J, Or.inl ⟨z, rfl⟩⟩)))
    unfold wpX_there
    exact nm_e ⟨9, k10 9 0 _ (by omega) (by omega) rfl⟩
  refine xl _ fun a b h1 h2 => yl _ fun a' b' h1' h2' => ⟨?_, R0⟩
  have := th_u h1 h1'
  subst this
  exact th_u h2' h2
end
section
/-! a node taken away with its edges -/
def gR (g : Nat → Int64) (f : Nat → Bool) (e : Nat) : Nat → Int64 := fun s => if 8 ≤ s ∧ s < 8 + e ∧ f (s - 8) = true then 0 else g s
def tR (to : Nat → Int32) (f : Nat → Bool) (e : Nat) : Nat → Int32 := fun s => if s < e ∧ f s = true then -1 else to s
theorem gR_t {g : Nat → Int64} {f : Nat → Bool} {e : Nat} (h : f e = true) : vp_updL (gR g f e) (8 + e) 0 = gR g f (e + 1) := by
  funext s
  by_cases z : s = 8 + e
  · subst z
    rw [pk_uLs]
    unfold gR
    rw [if_pos ⟨by omega, by omega, by rw [Nat.add_sub_cancel_left]; exact h⟩]
  · rw [pk_uLn z]
    unfold gR
    exact se_if ⟨fun y => ⟨y.1, by omega, y.2.2⟩, fun y => ⟨y.1, by omega, y.2.2⟩⟩ _ _
theorem gR_f {g : Nat → Int64} {f : Nat → Bool} {e : Nat} (h : f e = false) : gR g f (e + 1) = gR g f e := by
  funext s
  unfold gR
  refine se_if ⟨fun y => ⟨y.1, ?_, y.2.2⟩, fun y => ⟨y.1, by omega, y.2.2⟩⟩ _ _
  by_cases z : s = 8 + e
  · subst z
    rw [Nat.add_sub_cancel_left, h] at y
    exact absurd y.2.2 (by decide)
  · omega
theorem gR_0 {g : Nat → Int64} {f : Nat → Bool} : gR g f 0 = g := by
  funext s
  unfold gR
  rw [if_neg (fun y => by omega)]
theorem gR_n {g : Nat → Int64} {f : Nat → Bool} {e s : Nat} (h : s < 8) : gR g f e s = g s := by
  unfold gR
  rw [if_neg (fun y => by omega)]
theorem gR_e {g : Nat → Int64} {f : Nat → Bool} {e x : Nat} : gR g f e (8 + x) = if x < e ∧ f x = true then 0 else g (8 + x) := by
  unfold gR
  rw [Nat.add_sub_cancel_left]
  exact se_if ⟨fun y => ⟨by omega, y.2.2⟩, fun y => ⟨by omega, by omega, y.2⟩⟩ _ _
theorem tR_t {to : Nat → Int32} {f : Nat → Bool} {e : Nat} (h : f e = true) : upd (tR to f e) e (-1) = tR to f (e + 1) := by
  funext s
  by_cases z : s = e
  · subst z
    rw [pk_us]
    unfold tR
    rw [if_pos ⟨by omega, h⟩]
  · rw [pk_un z]
    unfold tR
    exact se_if ⟨fun y => ⟨by omega, y.2⟩, fun y => ⟨by omega, y.2⟩⟩ _ _
theorem tR_f {to : Nat → Int32} {f : Nat → Bool} {e : Nat} (h : f e = false) : tR to f (e + 1) = tR to f e := by
  funext s
  unfold tR
  refine se_if ⟨fun y => ⟨?_, y.2⟩, fun y => ⟨by omega, y.2⟩⟩ _ _
  by_cases z : s = e
  · subst z
    rw [h] at y
    exact absurd y.2 (by decide)
  · omega
theorem tR_0 {to : Nat → Int32} {f : Nat → Bool} : tR to f 0 = to := by
  funext s
  unfold tR
  rw [if_neg (fun y => absurd y.1 (Nat.not_lt_zero s))]
theorem VG_R {g : Nat → Int64} {f : Nat → Bool} {e : Nat} (V : VG g) : VG (gR g f e) := by
  refine ⟨fun n hn z => ?_, fun x hx z => ?_⟩
  · rw [gR_n hn] at z ⊢; exact V.1 n hn z
  · have q : gR g f e (8 + x) = g (8 + x) := by
      rw [gR_e] at z ⊢
      by_cases w : x < e ∧ f x = true
      · rw [if_pos w] at z; exact absurd rfl z
      · rw [if_neg w]
    rw [q] at z
    obtain ⟨⟨a, b⟩, c⟩ := V.2 x hx z
    have f8 := (eF_e g x).2
    have t8 := (eT_e g x).2
    rw [eF_c q, eT_c q, eY_c q, eW_c q, q, gR_n f8, gR_n t8]
    exact ⟨⟨a, b⟩, c⟩
theorem YE_R {g : Nat → Int64} {f : Nat → Bool} {e : Nat} {fr to ty wt : Nat → Int32} (Y : YE g 0 fr to ty wt) : YE (gR g f e) 0 fr (tR to f e) ty wt := by
  intro x hx
  by_cases w : x < e ∧ f x = true
  · refine Or.inl ⟨by rw [gR_e, if_pos w], ?_⟩
    rw [Nat.mul_zero, Nat.zero_add]
    unfold tR
    rw [if_pos w]
  · have q : gR g f e (8 + x) = g (8 + x) := by rw [gR_e, if_neg w]
    have q2 : tR to f e (12 * 0 + x) = to (12 * 0 + x) := by
      rw [Nat.mul_zero, Nat.zero_add]
      unfold tR
      rw [if_neg w]
    exact ye1_c q rfl q2 rfl rfl (Y x hx)
section
variable {f_level f_indexed f_parts f_highs f_tokens f_conditionLength f_conditionNames f_depth f_found f_testAt f_count f_different f_cheapest f_positions f_starts f_accepts f_empty f_written f_target f_steps : Int32} {a_state a_old : Nat → Int64} {a_kept a_leaving a_coming a_ofType a_withLabels a_kind a_types a_direction a_low a_high a_variable a_labels a_token a_condition a_truth a_number a_variableOf a_atPart a_trail a_here a_bound a_named a_used a_weight a_left a_ends : Nat → Int32} {a_seen a_sum : Nat → Int64} {a_some a_letter a_follow a_firstOf a_lastOf a_nullable a_spelled a_visited a_front a_next : Nat → Int32} {post : Int32 → SX → Prop}
theorem x_remove_44 {L n S : Nat} {T : Nat → Nat → Int64} {g : Nat → Int64} {f : Nat → Bool} (hL : L ≤ 4) (hn : n < 8) (hS : S < 2 ^ 12) (hf : ∀ e, e < 12 → S.testBit e = f e) (h : ∀ o k, SN L T (vp_updL (gR g f 12) n 0) o k → post (nI (cq f 12)) (nI L, 0, f_parts, f_highs, f_tokens, f_conditionLength, f_conditionNames, f_depth, 0, f_testAt, f_count, f_different, f_cheapest, f_positions, f_starts, f_accepts, f_empty, f_written, f_target, f_steps, vp_updL (gR g f 12) n 0, o, k, a_leaving, a_coming, a_ofType, a_withLabels, a_kind, a_types, a_direction, a_low, a_high, a_variable, a_labels, a_token, a_condition, a_truth, a_number, a_variableOf, a_atPart, a_trail, a_here, a_bound, a_named, a_used, a_weight, a_left, a_ends, a_seen, a_sum, a_some, a_letter, a_follow, a_firstOf, a_lastOf, a_nullable, a_spelled, a_visited, a_front, a_next)) : ∀ k e ix fo o kp, e ≤ 12 → 12 - e < k → SN L T (gR g f e) o kp → wX_remove_44 post (nI n) (nI S) k (nI (cq f e)) (nI e) (nI L) ix f_parts f_highs f_tokens f_conditionLength f_conditionNames f_depth fo f_testAt f_count f_different f_cheapest f_positions f_starts f_accepts f_empty f_written f_target f_steps (gR g f e) o kp a_leaving a_coming a_ofType a_withLabels a_kind a_types a_direction a_low a_high a_variable a_labels a_token a_condition a_truth a_number a_variableOf a_atPart a_trail a_here a_bound a_named a_used a_weight a_left a_ends a_seen a_sum a_some a_letter a_follow a_firstOf a_lastOf a_nullable a_spelled a_visited a_front a_next := by
  intro k
  induction k with
  | zero => intro e ix fo o kp _ hk; omega
  | succ k ih =>
    intro e ix fo o kp he hk SS
    by_cases e12 : e = 12
    · subst e12
      exact br_t (nI_le (b := 12) (Nat.le_refl _) (by omega)) (x_write (by omega) hL SS fun o k S' => h o k S')
    · have he : e < 12 := by omega
      refine br_f (nI_ge (b := 12) he (by omega)) ?_
      cases z : f e with
      | false =>
        have z' := hf e he
        rw [z] at z'
        refine br_t ((bb_bit (by omega) (by omega)).mpr z') (nm_r (nI_1 e) ?_)
        have := ih (e + 1) ix fo o kp (by omega) (by omega) (by rw [gR_f z]; exact SS)
        rw [gR_f z] at this
        simp only [cq, z, Bool.false_eq_true, if_false, Nat.add_zero] at this
        exact this
      | true =>
        have z' := hf e he
        rw [z] at z'
        have e8 : (8 : Int32) + nI e = nI (8 + e) := nI_add 8 e
        refine br_f ((bb_bitT (by omega) (by omega)).mpr z') ?_
        rw [e8]
        refine x_write (by omega) hL SS fun o k' S' => nm_r (nI_1 _) (nm_r (nI_1 e) ?_)
        rw [gR_t z] at S'
        have := ih (e + 1) 0 0 o k' (by omega) (by omega) S'
        simp only [cq, z, if_true] at this
        rw [gR_t z]
        exact this
end
section
variable {yf_level yf_parts yf_pending yf_conditions yf_spelled yf_depth yf_used yf_weight yf_found yf_lightest yf_some : Int32} {yf_sum : Int64} {ya_labels : Nat → Int32} {ya_properties : Nat → Int64} {ya_from ya_to ya_types ya_weights ya_variable ya_wanted ya_among ya_direction ya_low ya_high ya_tokens ya_condition ya_expression ya_stack ya_part ya_steps ya_place ya_choice ya_bound ya_took ya_nodeOf ya_chosen ya_far : Nat → Int32} {post : Int32 → SY → Prop}
theorem y_remove {n : Nat} {b : Int32} {g : Nat → Int64} {f : Nat → Bool} (G : YN g 0 ya_labels ya_properties) (E : YE g 0 ya_from ya_to ya_types ya_weights) (hn : n < 8) (g0 : ¬ g n = 0) (hf : ∀ e, e < 12 → (f e = true ↔ ¬ g (8 + e) = 0 ∧ (eF g e = n ∨ eT g e = n))) (h0 : 0 < cq f 12 → b = 0 → post (-1) (yf_level, yf_parts, yf_pending, yf_conditions, yf_spelled, yf_depth, yf_used, yf_weight, yf_found, yf_lightest, yf_some, yf_sum, ya_labels, ya_properties, ya_from, ya_to, ya_types, ya_weights, ya_variable, ya_wanted, ya_among, ya_direction, ya_low, ya_high, ya_tokens, ya_condition, ya_expression, ya_stack, ya_part, ya_steps, ya_place, ya_choice, ya_bound, ya_took, ya_nodeOf, ya_chosen, ya_far)) (h1 : (cq f 12 = 0 ∨ ¬ b = 0) → post (nI (cq f 12)) (yf_level, yf_parts, yf_pending, yf_conditions, yf_spelled, yf_depth, yf_used, yf_weight, yf_found, yf_lightest, yf_some, yf_sum, upd ya_labels n (-1), vp_updL ya_properties n 9000000000000000000, ya_from, tR ya_to f 12, ya_types, ya_weights, ya_variable, ya_wanted, ya_among, ya_direction, ya_low, ya_high, ya_tokens, ya_condition, ya_expression, ya_stack, ya_part, ya_steps, ya_place, ya_choice, ya_bound, ya_took, ya_nodeOf, ya_chosen, ya_far)) : wpY_remove post (yf_level, yf_parts, yf_pending, yf_conditions, yf_spelled, yf_depth, yf_used, yf_weight, yf_found, yf_lightest, yf_some, yf_sum, ya_labels, ya_properties, ya_from, ya_to, ya_types, ya_weights, ya_variable, ya_wanted, ya_among, ya_direction, ya_low, ya_high, ya_tokens, ya_condition, ya_expression, ya_stack, ya_part, ya_steps, ya_place, ya_choice, ya_bound, ya_took, ya_nodeOf, ya_chosen, ya_far) (nI n) b := by
  have cn : (nI n).toNatClampNeg = n := nI_clamp (by omega)
  have c12 := cq_le f 12
  have k75 : ∀ k e, (cq f 12 = 0 ∨ ¬ b = 0) → e ≤ 12 → 12 - e < k → wY_remove_75 post (nI n) (nI (cq f 12)) yf_level yf_parts yf_pending yf_conditions yf_spelled yf_depth yf_used yf_weight yf_found yf_lightest yf_some yf_sum k (nI e) ya_labels ya_properties ya_from (tR ya_to f e) ya_types ya_weights ya_variable ya_wanted ya_among ya_direction ya_low ya_high ya_tokens ya_condition ya_expression ya_stack ya_part ya_steps ya_place ya_choice ya_bound ya_took ya_nodeOf ya_chosen ya_far := by
    intro k
    induction k with
    | zero => intro e _ _ hk; omega
    | succ k ih =>
      intro e hb he hk
      by_cases e12 : e = 12
      · subst e12
        refine br_t (nI_le (b := 12) (Nat.le_refl _) (by omega)) ⟨vp_in_nI (by omega) (by omega), nm_r (e' := upd ya_labels n (-1)) (by rw [cn]) ⟨vp_in_nI (by omega) (by omega), nm_r (e' := vp_updL ya_properties n 9000000000000000000) (by rw [cn]) (h1 hb)⟩⟩
      · have he : e < 12 := by omega
        have ce : (nI e).toNatClampNeg = e := nI_clamp (by omega)
        have ve : vp_in (nI e) 60 := vp_in_nI (by omega) (by omega)
        have ge : gR g f e (8 + e) = g (8 + e) := by rw [gR_e, if_neg (fun y => absurd y.1 (Nat.lt_irrefl e))]
        have te : tR ya_to f e e = ya_to e := by unfold tR; rw [if_neg (fun y => absurd y.1 (Nat.lt_irrefl e))]
        have f8 := (eF_e g e).2
        have t8 := (eT_e g e).2
        have nxt := ih (e + 1) hb (by omega) (by omega)
        have skip : f e = false → ∀ x, x = nI e + 1 → wY_remove_75 post (nI n) (nI (cq f 12)) yf_level yf_parts yf_pending yf_conditions yf_spelled yf_depth yf_used yf_weight yf_found yf_lightest yf_some yf_sum k x ya_labels ya_properties ya_from (tR ya_to f e) ya_types ya_weights ya_variable ya_wanted ya_among ya_direction ya_low ya_high ya_tokens ya_condition ya_expression ya_stack ya_part ya_steps ya_place ya_choice ya_bound ya_took ya_nodeOf ya_chosen ya_far := by
          intro z
          rw [tR_f z] at nxt
          exact nm_r (nI_1 e) nxt
        have take : f e = true → vp_in (nI e) 60 ∧ ∀ a : Nat → Int32, a = upd (tR ya_to f e) (nI e).toNatClampNeg (-1) → ∀ x, x = nI e + 1 → wY_remove_75 post (nI n) (nI (cq f 12)) yf_level yf_parts yf_pending yf_conditions yf_spelled yf_depth yf_used yf_weight yf_found yf_lightest yf_some yf_sum k x ya_labels ya_properties ya_from a ya_types ya_weights ya_variable ya_wanted ya_among ya_direction ya_low ya_high ya_tokens ya_condition ya_expression ya_stack ya_part ya_steps ya_place ya_choice ya_bound ya_took ya_nodeOf ya_chosen ya_far := by
          intro z
          exact ⟨ve, nm_r (e' := tR ya_to f (e + 1)) (by rw [ce, tR_t z]) (nm_r (nI_1 e) nxt)⟩
        refine br_f (nI_ge (b := 12) he (by omega)) (y_isEdge (YE_R (f := f) (e := e) E) (fun z => br_f (by decide) ⟨ve, ?_⟩) (fun z => br_t rfl (skip (ts_nt fun y => z ⟨e, he, rfl, by rw [ge]; exact ((hf e he).mp y).1⟩))))
        obtain ⟨e', e1, e2, hz⟩ := z
        have : e = e' := (nI_eq (by omega) (by omega)).mp e2
        subst this
        rw [ge] at hz
        obtain ⟨y1, y2, y3, y4⟩ := y_edge_at E he hz
        rw [ce, y2]
        by_cases w : eF g e = n
        · have := take ((hf e he).mpr ⟨hz, Or.inl w⟩)
          rw [ce] at this
          exact br_t (congrArg nI w) this
        · refine br_f (fun y => w ((nI_eq (by omega) (by omega)).mp y)) ⟨ve, ?_⟩
          rw [te, y1]
          by_cases w2 : eT g e = n
          · have := take ((hf e he).mpr ⟨hz, Or.inr w2⟩)
            rw [ce] at this
            exact br_t (congrArg nI w2) this
          · refine br_f (fun y => w2 ((nI_eq (by omega) (by omega)).mp y)) (skip (ts_nt fun y => ?_))
            rcases ((hf e he).mp y).2 with x | x
            · exact w x
            · exact w2 x
  have go : (cq f 12 = 0 ∨ ¬ b = 0) → ∃ k, wY_remove_75 post (nI n) (nI (cq f 12)) yf_level yf_parts yf_pending yf_conditions yf_spelled yf_depth yf_used yf_weight yf_found yf_lightest yf_some yf_sum k 0 ya_labels ya_properties ya_from ya_to ya_types ya_weights ya_variable ya_wanted ya_among ya_direction ya_low ya_high ya_tokens ya_condition ya_expression ya_stack ya_part ya_steps ya_place ya_choice ya_bound ya_took ya_nodeOf ya_chosen ya_far := by
    intro hb
    have := k75 13 0 hb (by omega) (by omega)
    rw [tR_0] at this
    exact ⟨13, this⟩
  have k15 : ∀ k e, e ≤ 12 → 12 - e < k → wY_remove_15 post (nI n) b yf_level yf_parts yf_pending yf_conditions yf_spelled yf_depth yf_used yf_weight yf_found yf_lightest yf_some yf_sum ya_labels ya_properties ya_from ya_to ya_types ya_weights ya_variable ya_wanted ya_among ya_direction ya_low ya_high ya_tokens ya_condition ya_expression ya_stack ya_part ya_steps ya_place ya_choice ya_bound ya_took ya_nodeOf ya_chosen ya_far k (nI (cq f e)) (nI e) := by
    intro k
    induction k with
    | zero => intro e _ hk; omega
    | succ k ih =>
      intro e he hk
      by_cases e12 : e = 12
      · subst e12
        refine br_t (nI_le (b := 12) (Nat.le_refl _) (by omega)) ?_
        by_cases z : cq f 12 = 0
        · refine br_t ?_ (go (Or.inl z))
          rw [z]
          decide
        · refine br_f (nI_nle (by omega) (by omega)) (br_c (fun y => h0 (by omega) y) (fun y => go (Or.inr y)))
      · have he : e < 12 := by omega
        have ce : (nI e).toNatClampNeg = e := nI_clamp (by omega)
        have ve : vp_in (nI e) 60 := vp_in_nI (by omega) (by omega)
        have f8 := (eF_e g e).2
        have t8 := (eT_e g e).2
        have nxt := ih (e + 1) (by omega) (by omega)
        have skip : f e = false → ∀ x, x = nI e + 1 → wY_remove_15 post (nI n) b yf_level yf_parts yf_pending yf_conditions yf_spelled yf_depth yf_used yf_weight yf_found yf_lightest yf_some yf_sum ya_labels ya_properties ya_from ya_to ya_types ya_weights ya_variable ya_wanted ya_among ya_direction ya_low ya_high ya_tokens ya_condition ya_expression ya_stack ya_part ya_steps ya_place ya_choice ya_bound ya_took ya_nodeOf ya_chosen ya_far k (nI (cq f e)) x := by
          intro z
          simp only [cq, z, Bool.false_eq_true, if_false, Nat.add_zero] at nxt
          exact nm_r (nI_1 e) nxt
        have take : f e = true → ∀ y, y = nI (cq f e) + 1 → ∀ x, x = nI e + 1 → wY_remove_15 post (nI n) b yf_level yf_parts yf_pending yf_conditions yf_spelled yf_depth yf_used yf_weight yf_found yf_lightest yf_some yf_sum ya_labels ya_properties ya_from ya_to ya_types ya_weights ya_variable ya_wanted ya_among ya_direction ya_low ya_high ya_tokens ya_condition ya_expression ya_stack ya_part ya_steps ya_place ya_choice ya_bound ya_took ya_nodeOf ya_chosen ya_far k y x := by
          intro z
          simp only [cq, z, if_true] at nxt
          exact nm_r (nI_1 _) (nm_r (nI_1 e) nxt)
        refine br_f (nI_ge (b := 12) he (by omega)) (y_isEdge E (fun z => br_f (by decide) ⟨ve, ?_⟩) (fun z => br_t rfl (skip (ts_nt fun y => z ⟨e, he, rfl, ((hf e he).mp y).1⟩))))
        obtain ⟨e', e1, e2, hz⟩ := z
        have : e = e' := (nI_eq (by omega) (by omega)).mp e2
        subst this
        obtain ⟨y1, y2, y3, y4⟩ := y_edge_at E he hz
        rw [ce, y2]
        by_cases w : eF g e = n
        · exact br_t (congrArg nI w) (take ((hf e he).mpr ⟨hz, Or.inl w⟩))
        · refine br_f (fun y => w ((nI_eq (by omega) (by omega)).mp y)) ⟨ve, ?_⟩
          rw [y1]
          by_cases w2 : eT g e = n
          · exact br_t (congrArg nI w2) (take ((hf e he).mpr ⟨hz, Or.inr w2⟩))
          · refine br_f (fun y => w2 ((nI_eq (by omega) (by omega)).mp y)) (skip (ts_nt fun y => ?_))
            rcases ((hf e he).mp y).2 with x | x
            · exact w x
            · exact w2 x
  unfold wpY_remove
  exact y_isNode G (fun _ => br_f (by decide) ⟨13, k15 13 0 (by omega) (by omega)⟩) (fun y => absurd ⟨n, hn, rfl, g0⟩ y)
end
theorem i_vc_remove {k : Nat} {u : SX} {v : SY} (I : i_Rel k u v) (hk : k + 7 ≤ 3584) (v1 : Int32) (v2 : Int32) : wpX_remove (fun r u' => wpY_remove (fun r' v' => r' = r ∧ i_Rel (k + 7) u' v') v v1 (lw_bz v2)) u v1 (lw_bz v2) := by
  refine el_R (R := fun u v => wpX_remove (fun r u' => wpY_remove (fun r' v' => r' = r ∧ i_Rel (k + 7) u' v') v v1 (lw_bz v2)) u v1 (lw_bz v2)) ?_ I
  intro f_level f_indexed f_parts f_highs f_tokens f_conditionLength f_conditionNames f_depth f_found f_testAt f_count f_different f_cheapest f_positions f_starts f_accepts f_empty f_written f_target f_steps a_state a_old a_kept a_leaving a_coming a_ofType a_withLabels a_kind a_types a_direction a_low a_high a_variable a_labels a_token a_condition a_truth a_number a_variableOf a_atPart a_trail a_here a_bound a_named a_used a_weight a_left a_ends a_seen a_sum a_some a_letter a_follow a_firstOf a_lastOf a_nullable a_spelled a_visited a_front a_next yf_level yf_parts yf_pending yf_conditions yf_spelled yf_depth yf_used yf_weight yf_found yf_lightest yf_some yf_sum ya_labels ya_properties ya_from ya_to ya_types ya_weights ya_variable ya_wanted ya_among ya_direction ya_low ya_high ya_tokens ya_condition ya_expression ya_stack ya_part ya_steps ya_place ya_choice ya_bound ya_took ya_nodeOf ya_chosen ya_far P q c m CN hG hI hT hS hQ hC hF
  have GG := hG
  obtain ⟨L, T, hL, rfl, rfl, SS, G, H⟩ := GG
  have R0 : i_Rel (k + 7) (nI L, f_indexed, f_parts, f_highs, f_tokens, f_conditionLength, f_conditionNames, f_depth, f_found, f_testAt, f_count, f_different, f_cheapest, f_positions, f_starts, f_accepts, f_empty, f_written, f_target, f_steps, a_state, a_old, a_kept, a_leaving, a_coming, a_ofType, a_withLabels, a_kind, a_types, a_direction, a_low, a_high, a_variable, a_labels, a_token, a_condition, a_truth, a_number, a_variableOf, a_atPart, a_trail, a_here, a_bound, a_named, a_used, a_weight, a_left, a_ends, a_seen, a_sum, a_some, a_letter, a_follow, a_firstOf, a_lastOf, a_nullable, a_spelled, a_visited, a_front, a_next) (nI L, yf_parts, yf_pending, yf_conditions, yf_spelled, yf_depth, yf_used, yf_weight, yf_found, yf_lightest, yf_some, yf_sum, ya_labels, ya_properties, ya_from, ya_to, ya_types, ya_weights, ya_variable, ya_wanted, ya_among, ya_direction, ya_low, ya_high, ya_tokens, ya_condition, ya_expression, ya_stack, ya_part, ya_steps, ya_place, ya_choice, ya_bound, ya_took, ya_nodeOf, ya_chosen, ya_far) := mk_R hG hI hT hS hQ hC hF
  unfold wpX_remove
  refine x_isNode (fun z => br_f (by decide) ?_) (fun z => br_t rfl ?_)
  · obtain ⟨n, hn, rfl, g0⟩ := z
    have cn : (nI n).toNatClampNeg = n := nI_clamp (by omega)
    have vn : vp_in (nI n) 8 := vp_in_nI hn (by omega)
    refine x_index G.1 hI fun lv cm ot wl I => ?_
    obtain ⟨A, l1, l2, l3⟩ := I.1.1 n hn
    obtain ⟨C, c1, c2, c3⟩ := I.1.2.1 n hn
    have LC : A ||| C < 2 ^ 12 := Nat.or_lt_two_pow l1 c1
    have LCt : ∀ e, e < 12 → ((A ||| C).testBit e = true ↔ ¬ a_state (8 + e) = 0 ∧ (eF a_state e = n ∨ eT a_state e = n)) := by
      intro e he
      rw [Nat.testBit_or, Bool.or_eq_true, l3, c3]
      constructor
      · rintro (⟨x, y, z⟩ | ⟨x, y, z⟩)
        · exact ⟨y, Or.inl z⟩
        · exact ⟨y, Or.inr z⟩
      · rintro ⟨y, z | z⟩
        · exact Or.inl ⟨he, y, z⟩
        · exact Or.inr ⟨he, y, z⟩
    have R1 : i_Rel (k + 7) (nI L, 1, f_parts, f_highs, f_tokens, f_conditionLength, f_conditionNames, f_depth, f_found, f_testAt, f_count, f_different, f_cheapest, f_positions, f_starts, f_accepts, f_empty, f_written, f_target, f_steps, a_state, a_old, a_kept, lv, cm, ot, wl, a_kind, a_types, a_direction, a_low, a_high, a_variable, a_labels, a_token, a_condition, a_truth, a_number, a_variableOf, a_atPart, a_trail, a_here, a_bound, a_named, a_used, a_weight, a_left, a_ends, a_seen, a_sum, a_some, a_letter, a_follow, a_firstOf, a_lastOf, a_nullable, a_spelled, a_visited, a_front, a_next) (nI L, yf_parts, yf_pending, yf_conditions, yf_spelled, yf_depth, yf_used, yf_weight, yf_found, yf_lightest, yf_some, yf_sum, ya_labels, ya_properties, ya_from, ya_to, ya_types, ya_weights, ya_variable, ya_wanted, ya_among, ya_direction, ya_low, ya_high, ya_tokens, ya_condition, ya_expression, ya_stack, ya_part, ya_steps, ya_place, ya_choice, ya_bound, ya_took, ya_nodeOf, ya_chosen, ya_far) := mk_R hG (Or.inr ⟨rfl, I⟩) hT hS hQ hC hF
    -- nothing is touched where the set is empty
    have c0 : A ||| C = 0 ↔ cq (fun e => (A ||| C).testBit e) 12 = 0 := by
      constructor
      · intro z
        rw [z]
        exact cq_0 12 fun e _ => Nat.zero_testBit e
      · intro z
        refine bb_ext0 LC fun e he => ts_nt fun y => ?_
        have a1 := cq_mono (fun e => (A ||| C).testBit e) (m := e + 1) 12 (by omega)
        simp only [cq, y, if_true] at a1 z
        omega
    have gone : (cq (fun e => (A ||| C).testBit e) 12 = 0 ∨ ¬ lw_bz v2 = 0) → ∃ kk, wX_remove_44 (fun r u' => wpY_remove (fun r' v' => r' = r ∧ i_Rel (k + 7) u' v') (nI L, yf_parts, yf_pending, yf_conditions, yf_spelled, yf_depth, yf_used, yf_weight, yf_found, yf_lightest, yf_some, yf_sum, ya_labels, ya_properties, ya_from, ya_to, ya_types, ya_weights, ya_variable, ya_wanted, ya_among, ya_direction, ya_low, ya_high, ya_tokens, ya_condition, ya_expression, ya_stack, ya_part, ya_steps, ya_place, ya_choice, ya_bound, ya_took, ya_nodeOf, ya_chosen, ya_far) (nI n) (lw_bz v2)) (nI n) (nI (A ||| C)) kk 0 0 (nI L) 1 f_parts f_highs f_tokens f_conditionLength f_conditionNames f_depth f_found f_testAt f_count f_different f_cheapest f_positions f_starts f_accepts f_empty f_written f_target f_steps a_state a_old a_kept lv cm ot wl a_kind a_types a_direction a_low a_high a_variable a_labels a_token a_condition a_truth a_number a_variableOf a_atPart a_trail a_here a_bound a_named a_used a_weight a_left a_ends a_seen a_sum a_some a_letter a_follow a_firstOf a_lastOf a_nullable a_spelled a_visited a_front a_next := by
      intro hb
      have S0 : SN L T (gR a_state (fun e => (A ||| C).testBit e) 0) a_old a_kept := by rw [gR_0]; exact SS
      have := x_remove_44 (f_parts := f_parts) (f_highs := f_highs) (f_tokens := f_tokens) (f_conditionLength := f_conditionLength) (f_conditionNames := f_conditionNames) (f_depth := f_depth) (f_testAt := f_testAt) (f_count := f_count) (f_different := f_different) (f_cheapest := f_cheapest) (f_positions := f_positions) (f_starts := f_starts) (f_accepts := f_accepts) (f_empty := f_empty) (f_written := f_written) (f_target := f_target) (f_steps := f_steps) (a_leaving := lv) (a_coming := cm) (a_ofType := ot) (a_withLabels := wl) (a_kind := a_kind) (a_types := a_types) (a_direction := a_direction) (a_low := a_low) (a_high := a_high) (a_variable := a_variable) (a_labels := a_labels) (a_token := a_token) (a_condition := a_condition) (a_truth := a_truth) (a_number := a_number) (a_variableOf := a_variableOf) (a_atPart := a_atPart) (a_trail := a_trail) (a_here := a_here) (a_bound := a_bound) (a_named := a_named) (a_used := a_used) (a_weight := a_weight) (a_left := a_left) (a_ends := a_ends) (a_seen := a_seen) (a_sum := a_sum) (a_some := a_some) (a_letter := a_letter) (a_follow := a_follow) (a_firstOf := a_firstOf) (a_lastOf := a_lastOf) (a_nullable := a_nullable) (a_spelled := a_spelled) (a_visited := a_visited) (a_front := a_front) (a_next := a_next) (post := fun r u' => wpY_remove (fun r' v' => r' = r ∧ i_Rel (k + 7) u' v') (nI L, yf_parts, yf_pending, yf_conditions, yf_spelled, yf_depth, yf_used, yf_weight, yf_found, yf_lightest, yf_some, yf_sum, ya_labels, ya_properties, ya_from, ya_to, ya_types, ya_weights, ya_variable, ya_wanted, ya_among, ya_direction, ya_low, ya_high, ya_tokens, ya_condition, ya_expression, ya_stack, ya_part, ya_steps, ya_place, ya_choice, ya_bound, ya_took, ya_nodeOf, ya_chosen, ya_far) (nI n) (lw_bz v2)) (g := a_state) (f := fun e => (A ||| C).testBit e) (T := T) (n := n) (S := A ||| C) hL hn LC (fun e _ => rfl) (fun o k' S' => ?_) 13 0 1 f_found a_old a_kept (by omega) (by omega) S0
      · rw [gR_0] at this
        exact ⟨13, this⟩
      · refine y_remove (g := a_state) (f := fun e => (A ||| C).testBit e) G.2.1 G.2.2 hn g0 LCt (fun y1 y2 => ?_) (fun _ => ⟨rfl, ?_⟩)
        · rcases hb with hb | hb
          · omega
          · exact absurd y2 hb
        · have VR := VG_R (f := fun e => (A ||| C).testBit e) (e := 12) G.1
          have HH : ∀ l, l < L → VG (T l) ∧ YN (T l) (l + 1) ya_labels ya_properties ∧ YE (T l) (l + 1) ya_from (tR ya_to (fun e => (A ||| C).testBit e) 12) ya_types ya_weights := by
            intro l hl
            obtain ⟨h1, h2, h3⟩ := H l hl
            refine ⟨h1, h2, YE_c (fun _ _ => rfl) (fun x hx => ⟨rfl, ?_, rfl, rfl⟩) h3⟩
            unfold tR
            rw [if_neg (fun y => by omega)]
          refine mk_R (RG_node (o := a_old) (k := a_kept) (lb' := upd ya_labels n (-1)) (pr' := vp_updL ya_properties n 9000000000000000000) hL hn ⟨VR, fun x hx => yn1_c (gR_n hx) rfl rfl (G.2.1 x hx), YE_R G.2.2⟩ HH S' (VG_gone VR hn fun e he z => ?_) (fun j hj => pk_un hj) (fun j hj => pk_uLn hj) (Or.inl ⟨pk_uLs, by rw [Nat.mul_zero, Nat.zero_add, pk_us]⟩)) (Or.inl rfl) hT hS hQ hC (Or.inl rfl)
          · rw [gR_e] at z
            by_cases w : e < 12 ∧ (A ||| C).testBit e = true
            · rw [if_pos w] at z; exact absurd rfl z
            · rw [if_neg w] at z
              have q : gR a_state (fun e => (A ||| C).testBit e) 12 (8 + e) = a_state (8 + e) := by rw [gR_e, if_neg w]
              rw [eF_c q, eT_c q]
              have no : ¬ (eF a_state e = n ∨ eT a_state e = n) := fun y => w ⟨he, (LCt e he).mpr ⟨z, y⟩⟩
              exact ⟨fun y => no (Or.inl y), fun y => no (Or.inr y)⟩
    refine ⟨vn, vn, nm_r (e' := nI (A ||| C)) (by rw [cn, l2, c2, bb_or]) ?_⟩
    by_cases z : A ||| C = 0
    · exact br_t (congrArg nI z) (gone (Or.inl (c0.mp z)))
    · refine br_f (nI_ne0 (by omega) (by omega)) (br_c (fun y => ?_) (fun y => gone (Or.inr y)))
      refine y_remove (g := a_state) (f := fun e => (A ||| C).testBit e) G.2.1 G.2.2 hn g0 LCt (fun _ _ => ⟨rfl, R1⟩) (fun w => ?_)
      rcases w with w | w
      · exact absurd (c0.mpr w) z
      · exact absurd y w
  · show wpY_remove _ (nI L, yf_parts, yf_pending, yf_conditions, yf_spelled, yf_depth, yf_used, yf_weight, yf_found, yf_lightest, yf_some, yf_sum, ya_labels, ya_properties, ya_from, ya_to, ya_types, ya_weights, ya_variable, ya_wanted, ya_among, ya_direction, ya_low, ya_high, ya_tokens, ya_condition, ya_expression, ya_stack, ya_part, ya_steps, ya_place, ya_choice, ya_bound, ya_took, ya_nodeOf, ya_chosen, ya_far) v1 (lw_bz v2)
    unfold wpY_remove
    exact y_isNode G.2.1 (fun y => absurd y z) (fun _ => br_t rfl ⟨rfl, R0⟩)
end
section
/-! the query's parts -/
def qa (q : Nat → Nat → Nat) (P : Nat) (w : Nat → Nat) : Nat → Nat → Nat := fun i p => if p = P then w i else q i p
theorem qa_s {q : Nat → Nat → Nat} {P : Nat} {w : Nat → Nat} {i : Nat} : qa q P w i P = w i := if_pos rfl
theorem qa_n {q : Nat → Nat → Nat} {P : Nat} {w : Nat → Nat} {i p : Nat} (h : p ≠ P) : qa q P w i p = q i p := if_neg h
theorem qH_qa {q : Nat → Nat → Nat} {P : Nat} {w : Nat → Nat} : ∀ n, n ≤ P → qH (qa q P w) n = qH q n
  | 0, _ => rfl
  | n + 1, h => by
    simp only [qH]
    rw [qH_qa n (by omega), qa_n (by omega), qa_n (by omega)]
theorem XQ_add {q : Nat → Nat → Nat} {P : Nat} {w : Nat → Nat} {kd ty di lo hi va la ty' di' lo' hi' : Nat → Int32} (Q : XQ P q kd ty di lo hi va la) (hP : P < 6) (h5 : w 5 < 4) (h6 : w 6 < 16) (ho : ∀ p, p < P → ty' p = ty p ∧ di' p = di p ∧ lo' p = lo p ∧ hi' p = hi p) (hh : qH q P + (if w 0 = 0 then 0 else w 4) ≤ 5) (hw : w 0 = 0 ∨ (w 0 = 1 ∧ 0 < P ∧ (ty' P = nI (w 1) ∧ w 1 < 8) ∧ (di' P = nI (w 2) ∧ w 2 < 3) ∧ (lo' P = nI (w 3) ∧ 1 ≤ w 3) ∧ hi' P = nI (w 4) ∧ w 3 ≤ w 4 ∧ w 4 ≤ 3)) : XQ (P + 1) (qa q P w) (upd kd P (nI (w 0))) ty' di' lo' hi' (upd va P (nI (w 5))) (upd la P (nI (w 6))) := by
  obtain ⟨q1, q2, q3⟩ := Q
  refine ⟨by omega, ?_, fun p hp => ?_⟩
  · simp only [qH]
    rw [qH_qa P (Nat.le_refl _), qa_s, qa_s]
    exact hh
  · by_cases e : p = P
    · subst e
      simp only [qa_s, pk_us]
      exact ⟨⟨by trivial, by trivial, h5, by trivial, h6⟩, hw⟩
    · simp only [qa_n e, pk_un e]
      obtain ⟨a1, a2, a3, a4⟩ := ho p (by omega)
      rw [a1, a2, a3, a4]
      exact q3 p (by omega)
theorem YQ_add {q : Nat → Nat → Nat} {P : Nat} {w : Nat → Nat} {va wn am di lo hi di' lo' hi' : Nat → Int32} (Q : YQ P q va wn am di lo hi) (hP : P < 6) (h5 : w 5 < 4) (h6 : w 6 < 16) (x : Int32) (ho : ∀ p, p < P → di' p = di p ∧ lo' p = lo p ∧ hi' p = hi p) (hh : qH q P + (if w 0 = 0 then 0 else w 4) ≤ 5) (hw : (w 0 = 0 ∧ x = 0) ∨ (w 0 = 1 ∧ 0 < P ∧ (x = nI (w 1) ∧ 0 < w 1 ∧ w 1 < 8) ∧ (di' P = nI (w 2) ∧ w 2 < 3) ∧ (lo' P = nI (w 3) ∧ 1 ≤ w 3) ∧ hi' P = nI (w 4) ∧ w 3 ≤ w 4 ∧ w 4 ≤ 3)) : YQ (P + 1) (qa q P w) (upd va P (nI (w 5))) (upd wn P (nI (w 6))) (upd am P x) di' lo' hi' := by
  obtain ⟨q1, q2, q3⟩ := Q
  refine ⟨by omega, ?_, fun p hp => ?_⟩
  · simp only [qH]
    rw [qH_qa P (Nat.le_refl _), qa_s, qa_s]
    exact hh
  · by_cases e : p = P
    · subst e
      simp only [qa_s, pk_us]
      exact ⟨⟨by trivial, h5, by trivial, h6⟩, hw⟩
    · simp only [qa_n e, pk_un e]
      obtain ⟨a2, a3, a4⟩ := ho p (by omega)
      rw [a2, a3, a4]
      exact q3 p (by omega)
theorem RCd_add {q : Nat → Nat → Nat} {P : Nat} {w : Nat → Nat} {c : Nat → Nat} {m CN : Nat} {lx nx : Int32} {cx : Nat → Int32} {ly : Int32} {cy : Nat → Int32} (h : RCd P q c m CN lx nx cx ly cy) : RCd (P + 1) (qa q P w) c m CN lx nx cx ly cy := by
  obtain ⟨h1, h2, h3, h4, h5⟩ := h
  refine ⟨h1, h2, h3, h4, fun v hv => ?_⟩
  obtain ⟨p, p1, p2⟩ := h5 v hv
  exact ⟨p, by omega, by rw [qa_n (by omega)]; exact p2⟩
section
variable {f_level f_indexed f_parts f_highs f_tokens f_conditionLength f_conditionNames f_depth f_found f_testAt f_count f_different f_cheapest f_positions f_starts f_accepts f_empty f_written f_target f_steps : Int32} {a_state a_old : Nat → Int64} {a_kept a_leaving a_coming a_ofType a_withLabels a_kind a_types a_direction a_low a_high a_variable a_labels a_token a_condition a_truth a_number a_variableOf a_atPart a_trail a_here a_bound a_named a_used a_weight a_left a_ends : Nat → Int32} {a_seen a_sum : Nat → Int64} {a_some a_letter a_follow a_firstOf a_lastOf a_nullable a_spelled a_visited a_front a_next : Nat → Int32} {post : Int32 → SX → Prop}
theorem x_part {P kn v l : Nat} (hP : P < 6) (hk : kn < 2) (hv : v < 4) (hl : l < 16) (h : post (nI (P + 1)) (f_level, f_indexed, nI (P + 1), f_highs, f_tokens, f_conditionLength, f_conditionNames, f_depth, 0, f_testAt, f_count, f_different, f_cheapest, f_positions, f_starts, f_accepts, f_empty, f_written, f_target, f_steps, a_state, a_old, a_kept, a_leaving, a_coming, a_ofType, a_withLabels, upd a_kind P (nI kn), a_types, a_direction, a_low, a_high, upd a_variable P (nI v), upd a_labels P (nI l), a_token, a_condition, a_truth, a_number, a_variableOf, a_atPart, a_trail, a_here, a_bound, a_named, a_used, a_weight, a_left, a_ends, a_seen, a_sum, a_some, a_letter, a_follow, a_firstOf, a_lastOf, a_nullable, a_spelled, a_visited, a_front, a_next)) : wpX_part post (f_level, f_indexed, nI P, f_highs, f_tokens, f_conditionLength, f_conditionNames, f_depth, f_found, f_testAt, f_count, f_different, f_cheapest, f_positions, f_starts, f_accepts, f_empty, f_written, f_target, f_steps, a_state, a_old, a_kept, a_leaving, a_coming, a_ofType, a_withLabels, a_kind, a_types, a_direction, a_low, a_high, a_variable, a_labels, a_token, a_condition, a_truth, a_number, a_variableOf, a_atPart, a_trail, a_here, a_bound, a_named, a_used, a_weight, a_left, a_ends, a_seen, a_sum, a_some, a_letter, a_follow, a_firstOf, a_lastOf, a_nullable, a_spelled, a_visited, a_front, a_next) (nI kn) (nI v) (nI l) := by
  have cP : (nI P).toNatClampNeg = P := nI_clamp (by omega)
  have vP : vp_in (nI P) 6 := vp_in_nI hP (by omega)
  unfold wpX_part
  exact ⟨vP, nm_r (e' := upd a_kind P (nI kn)) (by rw [cP, bb_by (by omega)]) ⟨vP, nm_r (e' := upd a_variable P (nI v)) (by rw [cP, bb_by (by omega)]) (nm_r (nI_1 P) ⟨vP, nm_r (e' := upd a_labels P (nI l)) (by rw [cP, bb_by (by omega)]) h⟩)⟩⟩
end
section
variable {yf_level yf_parts yf_pending yf_conditions yf_spelled yf_depth yf_used yf_weight yf_found yf_lightest yf_some : Int32} {yf_sum : Int64} {ya_labels : Nat → Int32} {ya_properties : Nat → Int64} {ya_from ya_to ya_types ya_weights ya_variable ya_wanted ya_among ya_direction ya_low ya_high ya_tokens ya_condition ya_expression ya_stack ya_part ya_steps ya_place ya_choice ya_bound ya_took ya_nodeOf ya_chosen ya_far : Nat → Int32} {post : Int32 → SY → Prop}
theorem y_add {P : Nat} {v l t : Int32} (hP : P < 6) (h : post (nI (P + 1)) (yf_level, nI (P + 1), yf_pending, yf_conditions, yf_spelled, yf_depth, yf_used, yf_weight, yf_found, yf_lightest, yf_some, yf_sum, ya_labels, ya_properties, ya_from, ya_to, ya_types, ya_weights, upd ya_variable P v, upd ya_wanted P l, upd ya_among P t, ya_direction, ya_low, ya_high, ya_tokens, ya_condition, ya_expression, ya_stack, ya_part, ya_steps, ya_place, ya_choice, ya_bound, ya_took, ya_nodeOf, ya_chosen, ya_far)) : wpY_add post (yf_level, nI P, yf_pending, yf_conditions, yf_spelled, yf_depth, yf_used, yf_weight, yf_found, yf_lightest, yf_some, yf_sum, ya_labels, ya_properties, ya_from, ya_to, ya_types, ya_weights, ya_variable, ya_wanted, ya_among, ya_direction, ya_low, ya_high, ya_tokens, ya_condition, ya_expression, ya_stack, ya_part, ya_steps, ya_place, ya_choice, ya_bound, ya_took, ya_nodeOf, ya_chosen, ya_far) v l t := by
  have cP : (nI P).toNatClampNeg = P := nI_clamp (by omega)
  have vP : vp_in (nI P) 6 := vp_in_nI hP (by omega)
  unfold wpY_add
  exact br_f (fun y => absurd ((nI_eq (b := 6) (by omega) (by omega)).mp y) (by omega)) ⟨vP, nm_r (e' := upd ya_variable P v) (by rw [cP]) ⟨vP, nm_r (e' := upd ya_wanted P l) (by rw [cP]) (nm_r (nI_1 P) ⟨vP, nm_r (e' := upd ya_among P t) (by rw [cP]) h⟩)⟩⟩
theorem y_add6 {v l t : Int32} (h : post (-2) (yf_level, nI 6, yf_pending, yf_conditions, yf_spelled, yf_depth, yf_used, yf_weight, yf_found, yf_lightest, yf_some, yf_sum, ya_labels, ya_properties, ya_from, ya_to, ya_types, ya_weights, ya_variable, ya_wanted, ya_among, ya_direction, ya_low, ya_high, ya_tokens, ya_condition, ya_expression, ya_stack, ya_part, ya_steps, ya_place, ya_choice, ya_bound, ya_took, ya_nodeOf, ya_chosen, ya_far)) : wpY_add post (yf_level, nI 6, yf_pending, yf_conditions, yf_spelled, yf_depth, yf_used, yf_weight, yf_found, yf_lightest, yf_some, yf_sum, ya_labels, ya_properties, ya_from, ya_to, ya_types, ya_weights, ya_variable, ya_wanted, ya_among, ya_direction, ya_low, ya_high, ya_tokens, ya_condition, ya_expression, ya_stack, ya_part, ya_steps, ya_place, ya_choice, ya_bound, ya_took, ya_nodeOf, ya_chosen, ya_far) v l t := by
  unfold wpY_add
  exact br_t rfl h
end
theorem i_vc_forget {k : Nat} {u : SX} {v : SY} (I : i_Rel k u v) (hk : k + 7 ≤ 3584) : wpX_forget (fun r u' => wpY_forget (fun r' v' => r' = r ∧ i_Rel (k + 7) u' v') v) u := by
  refine el_R (R := fun u v => wpX_forget (fun r u' => wpY_forget (fun r' v' => r' = r ∧ i_Rel (k + 7) u' v') v) u) ?_ I
  intro f_level f_indexed f_parts f_highs f_tokens f_conditionLength f_conditionNames f_depth f_found f_testAt f_count f_different f_cheapest f_positions f_starts f_accepts f_empty f_written f_target f_steps a_state a_old a_kept a_leaving a_coming a_ofType a_withLabels a_kind a_types a_direction a_low a_high a_variable a_labels a_token a_condition a_truth a_number a_variableOf a_atPart a_trail a_here a_bound a_named a_used a_weight a_left a_ends a_seen a_sum a_some a_letter a_follow a_firstOf a_lastOf a_nullable a_spelled a_visited a_front a_next yf_level yf_parts yf_pending yf_conditions yf_spelled yf_depth yf_used yf_weight yf_found yf_lightest yf_some yf_sum ya_labels ya_properties ya_from ya_to ya_types ya_weights ya_variable ya_wanted ya_among ya_direction ya_low ya_high ya_tokens ya_condition ya_expression ya_stack ya_part ya_steps ya_place ya_choice ya_bound ya_took ya_nodeOf ya_chosen ya_far P q c m CN hG hI hT hS hQ hC hF
  obtain ⟨⟨rfl, rfl, rfl⟩, ⟨q1, q2, q3, q4, q5'⟩, XQ', YQ'⟩ := hQ
  obtain rfl := q1.symm
  obtain rfl := q2.symm
  obtain rfl := q3.symm
  obtain rfl := q4.symm
  obtain rfl := q5'.symm
  obtain ⟨⟨rfl, rfl, q6, rfl⟩, _⟩ := hC
  obtain rfl := q6.symm
  unfold wpX_forget
  show wpY_forget _ (yf_level, nI P, yf_pending, nI m, yf_spelled, yf_depth, yf_used, yf_weight, yf_found, yf_lightest, yf_some, yf_sum, ya_labels, ya_properties, ya_from, ya_to, ya_types, ya_weights, a_variable, a_labels, ya_among, a_direction, a_low, a_high, ya_tokens, a_condition, ya_expression, ya_stack, ya_part, ya_steps, ya_place, ya_choice, ya_bound, ya_took, ya_nodeOf, ya_chosen, ya_far)
  unfold wpY_forget
  refine ⟨rfl, ?_⟩
  exact mk_R (P := 0) (q := q) (c := c) (m := 0) (CN := 0) hG hI hT hS ⟨⟨rfl, rfl, rfl⟩, ⟨rfl, rfl, rfl, rfl, rfl⟩, ⟨by omega, Nat.zero_le 5, fun p hp => absurd hp (Nat.not_lt_zero p)⟩, ⟨by omega, Nat.zero_le 5, fun p hp => absurd hp (Nat.not_lt_zero p)⟩⟩ ⟨⟨rfl, rfl, rfl, rfl⟩, ⟨by omega, fun k hk => absurd hk (Nat.not_lt_zero k), fun h => absurd h (Nat.lt_irrefl 0)⟩, by decide, fun k hk => absurd hk (Nat.not_lt_zero k), fun v hv => by rw [Nat.zero_testBit] at hv; exact absurd hv (by decide)⟩ (Or.inl rfl)
theorem i_vc_start {k : Nat} {u : SX} {v : SY} (I : i_Rel k u v) (hk : k + 7 ≤ 3584) (v1 : Int32) (v2 : Int32) : wpX_start (fun r u' => wpY_start (fun r' v' => r' = r ∧ i_Rel (k + 7) u' v') v v1 v2) u v1 v2 := by
  refine el_R (R := fun u v => wpX_start (fun r u' => wpY_start (fun r' v' => r' = r ∧ i_Rel (k + 7) u' v') v v1 v2) u v1 v2) ?_ I
  intro f_level f_indexed f_parts f_highs f_tokens f_conditionLength f_conditionNames f_depth f_found f_testAt f_count f_different f_cheapest f_positions f_starts f_accepts f_empty f_written f_target f_steps a_state a_old a_kept a_leaving a_coming a_ofType a_withLabels a_kind a_types a_direction a_low a_high a_variable a_labels a_token a_condition a_truth a_number a_variableOf a_atPart a_trail a_here a_bound a_named a_used a_weight a_left a_ends a_seen a_sum a_some a_letter a_follow a_firstOf a_lastOf a_nullable a_spelled a_visited a_front a_next yf_level yf_parts yf_pending yf_conditions yf_spelled yf_depth yf_used yf_weight yf_found yf_lightest yf_some yf_sum ya_labels ya_properties ya_from ya_to ya_types ya_weights ya_variable ya_wanted ya_among ya_direction ya_low ya_high ya_tokens ya_condition ya_expression ya_stack ya_part ya_steps ya_place ya_choice ya_bound ya_took ya_nodeOf ya_chosen ya_far P q c m CN hG hI hT hS hQ hC hF
  have QQ := hQ
  obtain ⟨⟨rfl, rfl, rfl⟩, ⟨q1, q2, q3, q4, q5'⟩, XQ', YQ'⟩ := QQ
  obtain rfl := q1.symm
  obtain rfl := q2.symm
  obtain rfl := q3.symm
  obtain rfl := q4.symm
  obtain rfl := q5'.symm
  have hP := XQ'.1
  have R0 : i_Rel (k + 7) (f_level, f_indexed, nI P, nI (qH q P), f_tokens, f_conditionLength, f_conditionNames, f_depth, f_found, f_testAt, f_count, f_different, f_cheapest, f_positions, f_starts, f_accepts, f_empty, f_written, f_target, f_steps, a_state, a_old, a_kept, a_leaving, a_coming, a_ofType, a_withLabels, a_kind, a_types, a_direction, a_low, a_high, a_variable, a_labels, a_token, a_condition, a_truth, a_number, a_variableOf, a_atPart, a_trail, a_here, a_bound, a_named, a_used, a_weight, a_left, a_ends, a_seen, a_sum, a_some, a_letter, a_follow, a_firstOf, a_lastOf, a_nullable, a_spelled, a_visited, a_front, a_next) (yf_level, nI P, yf_pending, yf_conditions, yf_spelled, yf_depth, yf_used, yf_weight, yf_found, yf_lightest, yf_some, yf_sum, ya_labels, ya_properties, ya_from, ya_to, ya_types, ya_weights, a_variable, a_labels, ya_among, a_direction, a_low, a_high, ya_tokens, ya_condition, ya_expression, ya_stack, ya_part, ya_steps, ya_place, ya_choice, ya_bound, ya_took, ya_nodeOf, ya_chosen, ya_far) := mk_R hG hI hT hS hQ hC hF
  have noY : ∀ r : Int32, r = -1 → ¬ (((0 : Int32) ≤ v1 ∧ v1 ≤ 3) ∧ (0 : Int32) ≤ v2 ∧ v2 ≤ 15) → wpY_start (fun r' v' => r' = r ∧ i_Rel (k + 7) (f_level, f_indexed, nI P, nI (qH q P), f_tokens, f_conditionLength, f_conditionNames, f_depth, f_found, f_testAt, f_count, f_different, f_cheapest, f_positions, f_starts, f_accepts, f_empty, f_written, f_target, f_steps, a_state, a_old, a_kept, a_leaving, a_coming, a_ofType, a_withLabels, a_kind, a_types, a_direction, a_low, a_high, a_variable, a_labels, a_token, a_condition, a_truth, a_number, a_variableOf, a_atPart, a_trail, a_here, a_bound, a_named, a_used, a_weight, a_left, a_ends, a_seen, a_sum, a_some, a_letter, a_follow, a_firstOf, a_lastOf, a_nullable, a_spelled, a_visited, a_front, a_next) v') (yf_level, nI P, yf_pending, yf_conditions, yf_spelled, yf_depth, yf_used, yf_weight, yf_found, yf_lightest, yf_some, yf_sum, ya_labels, ya_properties, ya_from, ya_to, ya_types, ya_weights, a_variable, a_labels, ya_among, a_direction, a_low, a_high, ya_tokens, ya_condition, ya_expression, ya_stack, ya_part, ya_steps, ya_place, ya_choice, ya_bound, ya_took, ya_nodeOf, ya_chosen, ya_far) v1 v2 := by
    intro r hr z
    unfold wpY_start
    exact yw (fun a b => br_f (by decide) (yw (fun c d => absurd ⟨⟨a, b⟩, c, d⟩ z) (fun _ => br_t rfl ⟨hr.symm, R0⟩))) (fun _ => br_t rfl ⟨hr.symm, R0⟩)
  unfold wpX_start
  refine xo (fun a1 b1 => br_t rfl (xo (fun a2 b2 => br_t rfl ?_) (fun z => br_f (by decide) (noY _ rfl (fun y => z y.2))))) (fun z => br_f (by decide) (noY _ rfl (fun y => z y.1)))
  obtain ⟨vv, hv, rfl⟩ := rg_of (b := 3) (by omega) a1 b1
  obtain ⟨l, hl, rfl⟩ := rg_of (b := 15) (by omega) a2 b2
  by_cases e : P = 6
  · subst e
    refine br_t rfl ?_
    show wpY_start _ (yf_level, nI 6, yf_pending, yf_conditions, yf_spelled, yf_depth, yf_used, yf_weight, yf_found, yf_lightest, yf_some, yf_sum, ya_labels, ya_properties, ya_from, ya_to, ya_types, ya_weights, a_variable, a_labels, ya_among, a_direction, a_low, a_high, ya_tokens, ya_condition, ya_expression, ya_stack, ya_part, ya_steps, ya_place, ya_choice, ya_bound, ya_took, ya_nodeOf, ya_chosen, ya_far) (nI vv) (nI l)
    unfold wpY_start
    exact yw (fun _ _ => br_f (by decide) (yw (fun _ _ => br_f (by decide) (y_add6 ⟨rfl, R0⟩)) (fun z => absurd ⟨a2, b2⟩ z))) (fun z => absurd ⟨a1, b1⟩ z)
  · have hP6 : P < 6 := by omega
    refine br_f (fun y => e ((nI_eq (b := 6) (by omega) (by omega)).mp y)) (x_part (kn := 0) hP6 (by omega) (by omega) (by omega) ?_)
    show wpY_start _ (yf_level, nI P, yf_pending, yf_conditions, yf_spelled, yf_depth, yf_used, yf_weight, yf_found, yf_lightest, yf_some, yf_sum, ya_labels, ya_properties, ya_from, ya_to, ya_types, ya_weights, a_variable, a_labels, ya_among, a_direction, a_low, a_high, ya_tokens, ya_condition, ya_expression, ya_stack, ya_part, ya_steps, ya_place, ya_choice, ya_bound, ya_took, ya_nodeOf, ya_chosen, ya_far) (nI vv) (nI l)
    unfold wpY_start
    refine yw (fun _ _ => br_f (by decide) (yw (fun _ _ => br_f (by decide) (y_add hP6 ⟨rfl, ?_⟩)) (fun z => absurd ⟨a2, b2⟩ z))) (fun z => absurd ⟨a1, b1⟩ z)
    have w0 : qH q P + (if (fun i => if i = 5 then vv else if i = 6 then l else 0) 0 = 0 then 0 else (fun i => if i = 5 then vv else if i = 6 then l else 0) 4) ≤ 5 := XQ'.2.1
    have X1 := XQ_add (w := fun i => if i = 5 then vv else if i = 6 then l else 0) XQ' hP6 (show vv < 4 by omega) (show l < 16 by omega) (fun p hp => ⟨rfl, rfl, rfl, rfl⟩) w0 (Or.inl rfl)
    have Y1 := YQ_add (w := fun i => if i = 5 then vv else if i = 6 then l else 0) YQ' hP6 (show vv < 4 by omega) (show l < 16 by omega) 0 (fun p hp => ⟨rfl, rfl, rfl⟩) w0 (Or.inl ⟨rfl, rfl⟩)
    refine mk_R hG hI hT hS ⟨⟨rfl, rfl, ?_⟩, ⟨rfl, rfl, rfl, rfl, rfl⟩, X1, Y1⟩ (RCd_add hC) (Or.inl rfl)
    simp only [qH]
    rw [qH_qa P (Nat.le_refl _), qa_s]
    rfl
def HP (P hs : Nat) (v1 v2 v3 v4 v5 v6 : Int32) : Prop := P ≠ 0 ∧ ((1 : Int32) ≤ v1 ∧ v1 ≤ 7) ∧ ((0 : Int32) ≤ v2 ∧ v2 ≤ 2) ∧ ((0 : Int32) ≤ v5 ∧ v5 ≤ 3) ∧ ((0 : Int32) ≤ v6 ∧ v6 ≤ 15) ∧ ¬ v3 < 1 ∧ (v3 ≤ v4 ∧ v4 ≤ 3) ∧ nI hs + v4 ≤ 5
section
variable {f_level f_indexed f_parts f_highs f_tokens f_conditionLength f_conditionNames f_depth f_found f_testAt f_count f_different f_cheapest f_positions f_starts f_accepts f_empty f_written f_target f_steps : Int32} {a_state a_old : Nat → Int64} {a_kept a_leaving a_coming a_ofType a_withLabels a_kind a_types a_direction a_low a_high a_variable a_labels a_token a_condition a_truth a_number a_variableOf a_atPart a_trail a_here a_bound a_named a_used a_weight a_left a_ends : Nat → Int32} {a_seen a_sum : Nat → Int64} {a_some a_letter a_follow a_firstOf a_lastOf a_nullable a_spelled a_visited a_front a_next : Nat → Int32} {post : Int32 → SX → Prop}
theorem x_hop {P hs : Nat} {v1 v2 v3 v4 v5 v6 : Int32} (hP : P ≤ 6) (h0 : ¬ HP P hs v1 v2 v3 v4 v5 v6 → post (-1) (f_level, f_indexed, nI P, nI hs, f_tokens, f_conditionLength, f_conditionNames, f_depth, f_found, f_testAt, f_count, f_different, f_cheapest, f_positions, f_starts, f_accepts, f_empty, f_written, f_target, f_steps, a_state, a_old, a_kept, a_leaving, a_coming, a_ofType, a_withLabels, a_kind, a_types, a_direction, a_low, a_high, a_variable, a_labels, a_token, a_condition, a_truth, a_number, a_variableOf, a_atPart, a_trail, a_here, a_bound, a_named, a_used, a_weight, a_left, a_ends, a_seen, a_sum, a_some, a_letter, a_follow, a_firstOf, a_lastOf, a_nullable, a_spelled, a_visited, a_front, a_next)) (h6 : HP P hs v1 v2 v3 v4 v5 v6 → P = 6 → post (-2) (f_level, f_indexed, nI P, nI hs, f_tokens, f_conditionLength, f_conditionNames, f_depth, f_found, f_testAt, f_count, f_different, f_cheapest, f_positions, f_starts, f_accepts, f_empty, f_written, f_target, f_steps, a_state, a_old, a_kept, a_leaving, a_coming, a_ofType, a_withLabels, a_kind, a_types, a_direction, a_low, a_high, a_variable, a_labels, a_token, a_condition, a_truth, a_number, a_variableOf, a_atPart, a_trail, a_here, a_bound, a_named, a_used, a_weight, a_left, a_ends, a_seen, a_sum, a_some, a_letter, a_follow, a_firstOf, a_lastOf, a_nullable, a_spelled, a_visited, a_front, a_next)) (h1 : HP P hs v1 v2 v3 v4 v5 v6 → P < 6 → wpX_part post (f_level, f_indexed, nI P, nI hs + v4, f_tokens, f_conditionLength, f_conditionNames, f_depth, f_found, f_testAt, f_count, f_different, f_cheapest, f_positions, f_starts, f_accepts, f_empty, f_written, f_target, f_steps, a_state, a_old, a_kept, a_leaving, a_coming, a_ofType, a_withLabels, a_kind, upd a_types P (vp_nar .byte v1.toInt8.toInt32), upd a_direction P (vp_nar .byte v2.toInt8.toInt32), upd a_low P (vp_nar .byte v3.toInt8.toInt32), upd a_high P (vp_nar .byte v4.toInt8.toInt32), a_variable, a_labels, a_token, a_condition, a_truth, a_number, a_variableOf, a_atPart, a_trail, a_here, a_bound, a_named, a_used, a_weight, a_left, a_ends, a_seen, a_sum, a_some, a_letter, a_follow, a_firstOf, a_lastOf, a_nullable, a_spelled, a_visited, a_front, a_next) 1 v5 v6) : wpX_hop post (f_level, f_indexed, nI P, nI hs, f_tokens, f_conditionLength, f_conditionNames, f_depth, f_found, f_testAt, f_count, f_different, f_cheapest, f_positions, f_starts, f_accepts, f_empty, f_written, f_target, f_steps, a_state, a_old, a_kept, a_leaving, a_coming, a_ofType, a_withLabels, a_kind, a_types, a_direction, a_low, a_high, a_variable, a_labels, a_token, a_condition, a_truth, a_number, a_variableOf, a_atPart, a_trail, a_here, a_bound, a_named, a_used, a_weight, a_left, a_ends, a_seen, a_sum, a_some, a_letter, a_follow, a_firstOf, a_lastOf, a_nullable, a_spelled, a_visited, a_front, a_next) v1 v2 v3 v4 v5 v6 := by
  have cP : (nI P).toNatClampNeg = P := nI_clamp (by omega)
  unfold wpX_hop
  by_cases P0 : P = 0
  · exact br_t (congrArg nI P0) (h0 fun y => y.1 P0)
  refine br_f (nI_ne0 (by omega) (by omega)) (xo (fun a1 b1 => br_t rfl (xo (fun a2 b2 => br_t rfl (xo (fun a5 b5 => br_t rfl (xo (fun a6 b6 => br_t rfl (br_c (fun z => h0 fun y => y.2.2.2.2.2.1 z) (fun z3 => xo (fun a4 b4 => br_t rfl (br_c (fun z8 => ?_) (fun z => h0 fun y => z y.2.2.2.2.2.2.2))) (fun z => br_f (by decide) (h0 fun y => z y.2.2.2.2.2.2.1))))) (fun z => br_f (by decide) (h0 fun y => z y.2.2.2.2.1)))) (fun z => br_f (by decide) (h0 fun y => z y.2.2.2.1)))) (fun z => br_f (by decide) (h0 fun y => z y.2.2.1)))) (fun z => br_f (by decide) (h0 fun y => z y.2.1)))
  have HH : HP P hs v1 v2 v3 v4 v5 v6 := ⟨P0, ⟨a1, b1⟩, ⟨a2, b2⟩, ⟨a5, b5⟩, ⟨a6, b6⟩, z3, ⟨a4, b4⟩, z8⟩
  by_cases e : P = 6
  · exact br_t (congrArg nI e) (h6 HH e)
  · have vP : vp_in (nI P) 6 := vp_in_nI (by omega) (by omega)
    exact br_f (fun y => e ((nI_eq (b := 6) (by omega) (by omega)).mp y)) ⟨vP, nm_r (e' := upd a_types P (vp_nar .byte v1.toInt8.toInt32)) (by rw [cP]) ⟨vP, nm_r (e' := upd a_direction P (vp_nar .byte v2.toInt8.toInt32)) (by rw [cP]) ⟨vP, nm_r (e' := upd a_low P (vp_nar .byte v3.toInt8.toInt32)) (by rw [cP]) ⟨vP, nm_r (e' := upd a_high P (vp_nar .byte v4.toInt8.toInt32)) (by rw [cP]) (nm_e (h1 HH (by omega)))⟩⟩⟩⟩
end
section
variable {yf_level yf_parts yf_pending yf_conditions yf_spelled yf_depth yf_used yf_weight yf_found yf_lightest yf_some : Int32} {yf_sum : Int64} {ya_labels : Nat → Int32} {ya_properties : Nat → Int64} {ya_from ya_to ya_types ya_weights ya_variable ya_wanted ya_among ya_direction ya_low ya_high ya_tokens ya_condition ya_expression ya_stack ya_part ya_steps ya_place ya_choice ya_bound ya_took ya_nodeOf ya_chosen ya_far : Nat → Int32} {post : Int32 → SY → Prop}
theorem y_hop {P : Nat} {q : Nat → Nat → Nat} {v1 v2 v3 v4 v5 v6 : Int32} (Q : YQ P q ya_variable ya_wanted ya_among ya_direction ya_low ya_high) (h0 : ¬ HP P (qH q P) v1 v2 v3 v4 v5 v6 → post (-1) (yf_level, nI P, yf_pending, yf_conditions, yf_spelled, yf_depth, yf_used, yf_weight, yf_found, yf_lightest, yf_some, yf_sum, ya_labels, ya_properties, ya_from, ya_to, ya_types, ya_weights, ya_variable, ya_wanted, ya_among, ya_direction, ya_low, ya_high, ya_tokens, ya_condition, ya_expression, ya_stack, ya_part, ya_steps, ya_place, ya_choice, ya_bound, ya_took, ya_nodeOf, ya_chosen, ya_far)) (h6 : HP P (qH q P) v1 v2 v3 v4 v5 v6 → P = 6 → post (-2) (yf_level, nI P, yf_pending, yf_conditions, yf_spelled, yf_depth, yf_used, yf_weight, yf_found, yf_lightest, yf_some, yf_sum, ya_labels, ya_properties, ya_from, ya_to, ya_types, ya_weights, ya_variable, ya_wanted, ya_among, ya_direction, ya_low, ya_high, ya_tokens, ya_condition, ya_expression, ya_stack, ya_part, ya_steps, ya_place, ya_choice, ya_bound, ya_took, ya_nodeOf, ya_chosen, ya_far)) (h1 : HP P (qH q P) v1 v2 v3 v4 v5 v6 → P < 6 → post (nI (P + 1)) (yf_level, nI (P + 1), yf_pending, yf_conditions, yf_spelled, yf_depth, yf_used, yf_weight, yf_found, yf_lightest, yf_some, yf_sum, ya_labels, ya_properties, ya_from, ya_to, ya_types, ya_weights, upd ya_variable P v5, upd ya_wanted P v6, upd ya_among P v1, upd ya_direction P v2, upd ya_low P v3, upd ya_high P v4, ya_tokens, ya_condition, ya_expression, ya_stack, ya_part, ya_steps, ya_place, ya_choice, ya_bound, ya_took, ya_nodeOf, ya_chosen, ya_far)) : wpY_hop post (yf_level, nI P, yf_pending, yf_conditions, yf_spelled, yf_depth, yf_used, yf_weight, yf_found, yf_lightest, yf_some, yf_sum, ya_labels, ya_properties, ya_from, ya_to, ya_types, ya_weights, ya_variable, ya_wanted, ya_among, ya_direction, ya_low, ya_high, ya_tokens, ya_condition, ya_expression, ya_stack, ya_part, ya_steps, ya_place, ya_choice, ya_bound, ya_took, ya_nodeOf, ya_chosen, ya_far) v1 v2 v3 v4 v5 v6 := by
  obtain ⟨hP, _, Q⟩ := Q
  have cP : (nI P).toNatClampNeg = P := nI_clamp (by omega)
  have fin : wY_hop_7 post v1 v2 v3 v4 v5 v6 yf_level (nI P) yf_pending yf_conditions yf_spelled yf_depth yf_used yf_weight yf_found yf_lightest yf_some yf_sum ya_labels ya_properties ya_from ya_to ya_types ya_weights ya_variable ya_wanted ya_among ya_direction ya_low ya_high ya_tokens ya_condition ya_expression ya_stack ya_part ya_steps ya_place ya_choice ya_bound ya_took ya_nodeOf ya_chosen ya_far 1 (v4 + nI (qH q P)) (nI P) := by
    have h91 : ¬ HP P (qH q P) v1 v2 v3 v4 v5 v6 → wY_hop_91 post v1 v2 v3 v4 v5 v6 (v4 + nI (qH q P)) yf_level (nI P) yf_pending yf_conditions yf_spelled yf_depth yf_used yf_weight yf_found yf_lightest yf_some yf_sum ya_labels ya_properties ya_from ya_to ya_types ya_weights ya_variable ya_wanted ya_among ya_direction ya_low ya_high ya_tokens ya_condition ya_expression ya_stack ya_part ya_steps ya_place ya_choice ya_bound ya_took ya_nodeOf ya_chosen ya_far := fun z => br_t rfl (h0 z)
    refine br_t (nI_le (Nat.le_refl _) (by omega)) ?_
    by_cases P0 : P = 0
    · refine br_t ?_ (h91 fun y => y.1 P0)
      rw [P0]
      decide
    refine br_f (nI_nle (by omega) (by omega)) (yw (fun a1 b1 => br_f (by decide) (yw (fun a2 b2 => br_f (by decide) (br_c (fun z => h91 fun y => y.2.2.2.2.2.1 z) (fun z3 => br_c (fun z => h91 fun y => absurd z (Int32.not_lt.mpr y.2.2.2.2.2.2.1.1)) (fun z4 => br_c (fun z => h91 fun y => absurd z (Int32.not_lt.mpr y.2.2.2.2.2.2.1.2)) (fun z5 => br_f (by decide) (yw (fun a5 b5 => br_f (by decide) (yw (fun a6 b6 => br_f (by decide) (br_c (fun z8 => ?_) (fun z => h0 fun y => z (by rw [Int32.add_comm]; exact y.2.2.2.2.2.2.2)))) (fun z => br_t rfl (h0 fun y => z y.2.2.2.2.1)))) (fun z => br_t rfl (h0 fun y => z y.2.2.2.1)))))))) (fun z => br_t rfl (h91 fun y => z y.2.2.1)))) (fun z => br_t rfl (h91 fun y => z y.2.1)))
    have HH : HP P (qH q P) v1 v2 v3 v4 v5 v6 := ⟨P0, ⟨a1, b1⟩, ⟨a2, b2⟩, ⟨a5, b5⟩, ⟨a6, b6⟩, z3, ⟨Int32.not_lt.mp z4, Int32.not_lt.mp z5⟩, by rw [Int32.add_comm]; exact z8⟩
    by_cases e : P = 6
    · exact br_t (congrArg nI e) (h6 HH e)
    · have vP : vp_in (nI P) 6 := vp_in_nI (by omega) (by omega)
      exact br_f (fun y => e ((nI_eq (b := 6) (by omega) (by omega)).mp y)) ⟨vP, nm_r (e' := upd ya_direction P v2) (by rw [cP]) ⟨vP, nm_r (e' := upd ya_low P v3) (by rw [cP]) ⟨vP, nm_r (e' := upd ya_high P v4) (by rw [cP]) (y_add (by omega) (h1 HH (by omega)))⟩⟩⟩
  have key : ∀ n i, i ≤ P → i + n = P → wY_hop_7 post v1 v2 v3 v4 v5 v6 yf_level (nI P) yf_pending yf_conditions yf_spelled yf_depth yf_used yf_weight yf_found yf_lightest yf_some yf_sum ya_labels ya_properties ya_from ya_to ya_types ya_weights ya_variable ya_wanted ya_among ya_direction ya_low ya_high ya_tokens ya_condition ya_expression ya_stack ya_part ya_steps ya_place ya_choice ya_bound ya_took ya_nodeOf ya_chosen ya_far (n + 1) (v4 + nI (qH q i)) (nI i) := by
    intro n
    induction n with
    | zero =>
      intro i hi e
      have : i = P := e
      subst this
      exact fin
    | succ n ih =>
      intro i hi e
      have nxt := ih (i + 1) (by omega) (by omega)
      have ci : (nI i).toNatClampNeg = i := nI_clamp (by omega)
      have vi : vp_in (nI i) 6 := vp_in_nI (by omega) (by omega)
      refine br_f (nI_ge (by omega) (by omega)) ⟨vi, ?_⟩
      rw [ci]
      rcases (Q i (by omega)).2 with ⟨k0, am⟩ | ⟨k0, _, ⟨am, am0, am8⟩, _, _, hi1, _, hi3⟩
      · simp only [qH, k0, if_true, Nat.add_zero] at nxt
        rw [am]
        exact br_t (by decide) (nm_r (nI_1 i) nxt)
      · simp only [qH, k0, show ¬ (1 : Nat) = 0 by decide, if_false] at nxt
        rw [am]
        refine br_f (nI_nle (by omega) (by omega)) ⟨vi, nm_r (e' := v4 + nI (qH q i + q 4 i)) ?_ (nm_r (nI_1 i) nxt)⟩
        rw [hi1, Int32.add_assoc, nI_add]
  unfold wpY_hop
  have := key P 0 (by omega) (by omega)
  simp only [qH, nI_0, Int32.add_zero] at this
  exact ⟨P + 1, this⟩
end
theorem i_vc_hop {k : Nat} {u : SX} {v : SY} (I : i_Rel k u v) (hk : k + 7 ≤ 3584) (v1 : Int32) (v2 : Int32) (v3 : Int32) (v4 : Int32) (v5 : Int32) (v6 : Int32) : wpX_hop (fun r u' => wpY_hop (fun r' v' => r' = r ∧ i_Rel (k + 7) u' v') v v1 v2 v3 v4 v5 v6) u v1 v2 v3 v4 v5 v6 := by
  refine el_R (R := fun u v => wpX_hop (fun r u' => wpY_hop (fun r' v' => r' = r ∧ i_Rel (k + 7) u' v') v v1 v2 v3 v4 v5 v6) u v1 v2 v3 v4 v5 v6) ?_ I
  intro f_level f_indexed f_parts f_highs f_tokens f_conditionLength f_conditionNames f_depth f_found f_testAt f_count f_different f_cheapest f_positions f_starts f_accepts f_empty f_written f_target f_steps a_state a_old a_kept a_leaving a_coming a_ofType a_withLabels a_kind a_types a_direction a_low a_high a_variable a_labels a_token a_condition a_truth a_number a_variableOf a_atPart a_trail a_here a_bound a_named a_used a_weight a_left a_ends a_seen a_sum a_some a_letter a_follow a_firstOf a_lastOf a_nullable a_spelled a_visited a_front a_next yf_level yf_parts yf_pending yf_conditions yf_spelled yf_depth yf_used yf_weight yf_found yf_lightest yf_some yf_sum ya_labels ya_properties ya_from ya_to ya_types ya_weights ya_variable ya_wanted ya_among ya_direction ya_low ya_high ya_tokens ya_condition ya_expression ya_stack ya_part ya_steps ya_place ya_choice ya_bound ya_took ya_nodeOf ya_chosen ya_far P q c m CN hG hI hT hS hQ hC hF
  have QQ := hQ
  obtain ⟨⟨rfl, rfl, rfl⟩, ⟨q1, q2, q3, q4, q5'⟩, XQ', YQ'⟩ := QQ
  obtain rfl := q1.symm
  obtain rfl := q2.symm
  obtain rfl := q3.symm
  obtain rfl := q4.symm
  obtain rfl := q5'.symm
  have hP := XQ'.1
  have R0 : i_Rel (k + 7) (f_level, f_indexed, nI P, nI (qH q P), f_tokens, f_conditionLength, f_conditionNames, f_depth, f_found, f_testAt, f_count, f_different, f_cheapest, f_positions, f_starts, f_accepts, f_empty, f_written, f_target, f_steps, a_state, a_old, a_kept, a_leaving, a_coming, a_ofType, a_withLabels, a_kind, a_types, a_direction, a_low, a_high, a_variable, a_labels, a_token, a_condition, a_truth, a_number, a_variableOf, a_atPart, a_trail, a_here, a_bound, a_named, a_used, a_weight, a_left, a_ends, a_seen, a_sum, a_some, a_letter, a_follow, a_firstOf, a_lastOf, a_nullable, a_spelled, a_visited, a_front, a_next) (yf_level, nI P, yf_pending, yf_conditions, yf_spelled, yf_depth, yf_used, yf_weight, yf_found, yf_lightest, yf_some, yf_sum, ya_labels, ya_properties, ya_from, ya_to, ya_types, ya_weights, a_variable, a_labels, ya_among, a_direction, a_low, a_high, ya_tokens, ya_condition, ya_expression, ya_stack, ya_part, ya_steps, ya_place, ya_choice, ya_bound, ya_took, ya_nodeOf, ya_chosen, ya_far) := mk_R hG hI hT hS hQ hC hF
  have q5 := XQ'.2.1
  refine x_hop hP (fun z => ?_) (fun z e => ?_) (fun z e => ?_)
  · exact y_hop (q := q) YQ' (fun _ => ⟨rfl, R0⟩) (fun y => absurd y z) (fun y => absurd y z)
  · exact y_hop (q := q) YQ' (fun y => absurd z y) (fun _ _ => ⟨rfl, R0⟩) (fun _ y => by omega)
  · obtain ⟨P0, ⟨a1, b1⟩, ⟨a2, b2⟩, ⟨a5, b5⟩, ⟨a6, b6⟩, z3, ⟨a4, b4⟩, z8⟩ := z
    have z3' : (1 : Int32) ≤ v3 := Int32.not_lt.mp z3
    obtain ⟨t, ht, rfl⟩ := rg_of (b := 7) (by omega) (Int32.le_trans (by decide) a1) b1
    obtain ⟨dr, hd, rfl⟩ := rg_of (b := 2) (by omega) a2 b2
    obtain ⟨hi, hhi, rfl⟩ := rg_of (b := 3) (by omega) (Int32.le_trans (by decide) (Int32.le_trans z3' a4)) b4
    obtain ⟨lo, hlo, rfl⟩ := rg_of (v := v3) (b := 3) (by omega) (Int32.le_trans (by decide) z3') (Int32.le_trans a4 b4)
    obtain ⟨vv, hv, rfl⟩ := rg_of (b := 3) (by omega) a5 b5
    obtain ⟨l, hl, rfl⟩ := rg_of (b := 15) (by omega) a6 b6
    have t1 : 1 ≤ t := (nI_leI (a := 1) (by omega) (by omega)).mp a1
    have l1 : 1 ≤ lo := (nI_leI (a := 1) (by omega) (by omega)).mp z3'
    have lh : lo ≤ hi := (nI_leI (by omega) (by omega)).mp a4
    have h5 : qH q P + hi ≤ 5 := by
      rw [nI_add] at z8
      exact (nI_leI (b := 5) (by omega) (by omega)).mp z8
    have Z : HP P (qH q P) (nI t) (nI dr) (nI lo) (nI hi) (nI vv) (nI l) := ⟨P0, ⟨a1, b1⟩, ⟨a2, b2⟩, ⟨a5, b5⟩, ⟨a6, b6⟩, z3, ⟨a4, b4⟩, z8⟩
    rw [bb_by (by omega), bb_by (by omega), bb_by (by omega), bb_by (by omega), nI_add]
    refine x_part (kn := 1) e (by omega) (by omega) (by omega) ?_
    refine y_hop (q := q) YQ' (fun y => absurd Z y) (fun _ y => by omega) (fun _ _ => ⟨rfl, ?_⟩)
    have w0 : qH q P + (if (fun i => if i = 0 then 1 else if i = 1 then t else if i = 2 then dr else if i = 3 then lo else if i = 4 then hi else if i = 5 then vv else l) 0 = 0 then 0 else (fun i => if i = 0 then 1 else if i = 1 then t else if i = 2 then dr else if i = 3 then lo else if i = 4 then hi else if i = 5 then vv else l) 4) ≤ 5 := h5
    have X1 := XQ_add (w := fun i => if i = 0 then 1 else if i = 1 then t else if i = 2 then dr else if i = 3 then lo else if i = 4 then hi else if i = 5 then vv else l) (ty' := upd a_types P (nI t)) (di' := upd a_direction P (nI dr)) (lo' := upd a_low P (nI lo)) (hi' := upd a_high P (nI hi)) XQ' e (show vv < 4 by omega) (show l < 16 by omega) (fun p hp => ⟨pk_un (by omega), pk_un (by omega), pk_un (by omega), pk_un (by omega)⟩) w0 (Or.inr ⟨rfl, by omega, ⟨pk_us, show t < 8 by omega⟩, ⟨pk_us, show dr < 3 by omega⟩, ⟨pk_us, l1⟩, pk_us, lh, hhi⟩)
    have Y1 := YQ_add (w := fun i => if i = 0 then 1 else if i = 1 then t else if i = 2 then dr else if i = 3 then lo else if i = 4 then hi else if i = 5 then vv else l) (di' := upd a_direction P (nI dr)) (lo' := upd a_low P (nI lo)) (hi' := upd a_high P (nI hi)) YQ' e (show vv < 4 by omega) (show l < 16 by omega) (nI t) (fun p hp => ⟨pk_un (by omega), pk_un (by omega), pk_un (by omega)⟩) w0 (Or.inr ⟨rfl, by omega, ⟨rfl, t1, show t < 8 by omega⟩, ⟨pk_us, show dr < 3 by omega⟩, ⟨pk_us, l1⟩, pk_us, lh, hhi⟩)
    refine mk_R hG hI hT hS ⟨⟨rfl, rfl, ?_⟩, ⟨rfl, rfl, rfl, rfl, rfl⟩, X1, Y1⟩ (RCd_add hC) (Or.inl rfl)
    simp only [qH]
    rw [qH_qa P (Nat.le_refl _), qa_s, qa_s]
    rfl
theorem i_vc_token {k : Nat} {u : SX} {v : SY} (I : i_Rel k u v) (hk : k + 7 ≤ 3584) (v1 : Int32) : wpX_token (fun r u' => wpY_token (fun r' v' => r' = r ∧ i_Rel (k + 7) u' v') v v1) u v1 := by
  refine el_R (R := fun u v => wpX_token (fun r u' => wpY_token (fun r' v' => r' = r ∧ i_Rel (k + 7) u' v') v v1) u v1) ?_ I
  intro f_level f_indexed f_parts f_highs f_tokens f_conditionLength f_conditionNames f_depth f_found f_testAt f_count f_different f_cheapest f_positions f_starts f_accepts f_empty f_written f_target f_steps a_state a_old a_kept a_leaving a_coming a_ofType a_withLabels a_kind a_types a_direction a_low a_high a_variable a_labels a_token a_condition a_truth a_number a_variableOf a_atPart a_trail a_here a_bound a_named a_used a_weight a_left a_ends a_seen a_sum a_some a_letter a_follow a_firstOf a_lastOf a_nullable a_spelled a_visited a_front a_next yf_level yf_parts yf_pending yf_conditions yf_spelled yf_depth yf_used yf_weight yf_found yf_lightest yf_some yf_sum ya_labels ya_properties ya_from ya_to ya_types ya_weights ya_variable ya_wanted ya_among ya_direction ya_low ya_high ya_tokens ya_condition ya_expression ya_stack ya_part ya_steps ya_place ya_choice ya_bound ya_took ya_nodeOf ya_chosen ya_far P q c m CN hG hI hT hS hQ hC hF
  have TT := hT
  obtain ⟨q1, n, tk, hn, rfl, rfl, ht⟩ := TT
  obtain rfl := q1.symm
  have R0 : i_Rel (k + 7) (f_level, f_indexed, f_parts, f_highs, nI n, f_conditionLength, f_conditionNames, f_depth, f_found, f_testAt, f_count, f_different, f_cheapest, f_positions, f_starts, f_accepts, f_empty, f_written, f_target, f_steps, a_state, a_old, a_kept, a_leaving, a_coming, a_ofType, a_withLabels, a_kind, a_types, a_direction, a_low, a_high, a_variable, a_labels, a_token, a_condition, a_truth, a_number, a_variableOf, a_atPart, a_trail, a_here, a_bound, a_named, a_used, a_weight, a_left, a_ends, a_seen, a_sum, a_some, a_letter, a_follow, a_firstOf, a_lastOf, a_nullable, a_spelled, a_visited, a_front, a_next) (yf_level, yf_parts, nI n, yf_conditions, yf_spelled, yf_depth, yf_used, yf_weight, yf_found, yf_lightest, yf_some, yf_sum, ya_labels, ya_properties, ya_from, ya_to, ya_types, ya_weights, ya_variable, ya_wanted, ya_among, ya_direction, ya_low, ya_high, a_token, ya_condition, ya_expression, ya_stack, ya_part, ya_steps, ya_place, ya_choice, ya_bound, ya_took, ya_nodeOf, ya_chosen, ya_far) := mk_R hG hI hT hS hQ hC hF
  have cn : (nI n).toNatClampNeg = n := nI_clamp (by omega)
  by_cases good : ∃ t, v1 = nI t ∧ tkv t
  · obtain ⟨t, rfl, gt⟩ := good
    have t31 : t < 11000 := by
      rcases gt with h | h | h <;> omega
    have y33 : ∀ (K : Int32 → SY → Prop), (n = 12 → K (-1) (yf_level, yf_parts, nI n, yf_conditions, yf_spelled, yf_depth, yf_used, yf_weight, yf_found, yf_lightest, yf_some, yf_sum, ya_labels, ya_properties, ya_from, ya_to, ya_types, ya_weights, ya_variable, ya_wanted, ya_among, ya_direction, ya_low, ya_high, a_token, ya_condition, ya_expression, ya_stack, ya_part, ya_steps, ya_place, ya_choice, ya_bound, ya_took, ya_nodeOf, ya_chosen, ya_far)) → (n < 12 → K (nI (n + 1)) (yf_level, yf_parts, nI (n + 1), yf_conditions, yf_spelled, yf_depth, yf_used, yf_weight, yf_found, yf_lightest, yf_some, yf_sum, ya_labels, ya_properties, ya_from, ya_to, ya_types, ya_weights, ya_variable, ya_wanted, ya_among, ya_direction, ya_low, ya_high, upd a_token n (nI t), ya_condition, ya_expression, ya_stack, ya_part, ya_steps, ya_place, ya_choice, ya_bound, ya_took, ya_nodeOf, ya_chosen, ya_far)) → wpY_token K (yf_level, yf_parts, nI n, yf_conditions, yf_spelled, yf_depth, yf_used, yf_weight, yf_found, yf_lightest, yf_some, yf_sum, ya_labels, ya_properties, ya_from, ya_to, ya_types, ya_weights, ya_variable, ya_wanted, ya_among, ya_direction, ya_low, ya_high, a_token, ya_condition, ya_expression, ya_stack, ya_part, ya_steps, ya_place, ya_choice, ya_bound, ya_took, ya_nodeOf, ya_chosen, ya_far) (nI t) := by
      intro K k1 k2
      have s33 : wY_token_33 K (nI t) yf_level yf_parts (nI n) yf_conditions yf_spelled yf_depth yf_used yf_weight yf_found yf_lightest yf_some yf_sum ya_labels ya_properties ya_from ya_to ya_types ya_weights ya_variable ya_wanted ya_among ya_direction ya_low ya_high a_token ya_condition ya_expression ya_stack ya_part ya_steps ya_place ya_choice ya_bound ya_took ya_nodeOf ya_chosen ya_far := by
        by_cases e : n = 12
        · exact br_t (congrArg nI e) (k1 e)
        · exact br_f (fun y => e ((nI_eq (b := 12) (by omega) (by omega)).mp y)) (nm_r (nI_1 n) ⟨vp_in_nI (by omega) (by omega), nm_r (e' := upd a_token n (nI t)) (by rw [cn]) (k2 (by omega))⟩)
      unfold wpY_token
      refine yw (fun _ _ => br_f (by decide) s33) (fun z1 => br_t rfl (yw (fun _ _ => br_f (by decide) s33) (fun z2 => br_t rfl (yw (fun _ _ => br_f (by decide) s33) (fun z3 => ?_)))))
      rcases gt with h | h | h
      · exact absurd (rg_iff (n := t) (b := 5) (by omega) (by omega)) z1
      · exact absurd ⟨nI_le (a := 10) h.1 (by omega), nI_le (b := 16) h.2 (by omega)⟩ z2
      · exact absurd ⟨nI_le (a := 1000) h.1 (by omega), nI_le (b := 10999) (by omega) (by omega)⟩ z3
    have x36 : wX_token_36 (fun r u' => wpY_token (fun r' v' => r' = r ∧ i_Rel (k + 7) u' v') (yf_level, yf_parts, nI n, yf_conditions, yf_spelled, yf_depth, yf_used, yf_weight, yf_found, yf_lightest, yf_some, yf_sum, ya_labels, ya_properties, ya_from, ya_to, ya_types, ya_weights, ya_variable, ya_wanted, ya_among, ya_direction, ya_low, ya_high, a_token, ya_condition, ya_expression, ya_stack, ya_part, ya_steps, ya_place, ya_choice, ya_bound, ya_took, ya_nodeOf, ya_chosen, ya_far) (nI t)) (nI t) f_level f_indexed f_parts f_highs (nI n) f_conditionLength f_conditionNames f_depth f_found f_testAt f_count f_different f_cheapest f_positions f_starts f_accepts f_empty f_written f_target f_steps a_state a_old a_kept a_leaving a_coming a_ofType a_withLabels a_kind a_types a_direction a_low a_high a_variable a_labels a_token a_condition a_truth a_number a_variableOf a_atPart a_trail a_here a_bound a_named a_used a_weight a_left a_ends a_seen a_sum a_some a_letter a_follow a_firstOf a_lastOf a_nullable a_spelled a_visited a_front a_next := by
      refine br_f (by decide) ?_
      by_cases e : n = 12
      · exact br_t (congrArg nI e) (y33 _ (fun _ => ⟨rfl, R0⟩) (fun y => by omega))
      · refine br_f (fun y => e ((nI_eq (b := 12) (by omega) (by omega)).mp y)) (nm_r (nI_1 n) ⟨vp_in_nI (by omega) (by omega), nm_r (e' := upd a_token n (nI t)) (by rw [cn]) (y33 _ (fun y => absurd y e) (fun _ => ⟨rfl, ?_⟩))⟩)
        refine mk_R hG hI ⟨rfl, n + 1, fun k => if k = n then t else tk k, by omega, rfl, rfl, fun k hk => ?_⟩ hS hQ hC hF
        by_cases y : k = n
        · subst y
          rw [pk_us]
          simp only [if_true]
          exact ⟨by trivial, gt⟩
        · rw [pk_un y]
          simp only [if_neg y]
          exact ht k (by omega)
    unfold wpX_token
    refine br_f (nI_pos (by omega)) ?_
    rcases gt with h | h | h
    · exact br_t (nI_lt (b := 6) h (by omega)) x36
    · exact br_f (nI_nlt (b := 6) (by omega) (by omega)) (br_f (nI_ge (a := 9) (by omega) (by omega)) (br_t (nI_lt (b := 17) (by omega) (by omega)) x36))
    · exact br_f (nI_nlt (b := 6) (by omega) (by omega)) (br_f (nI_ge (a := 9) (by omega) (by omega)) (br_f (nI_nlt (b := 17) (by omega) (by omega)) (br_f (nI_ge (a := 999) (by omega) (by omega)) (br_f (nI_ge (b := 11000) h.2 (by omega)) x36))))
  · have bad : ∀ t, v1 = nI t → ¬ tkv t := fun t e y => good ⟨t, e, y⟩
    have yno : ∀ r : Int32, r = -1 → wpY_token (fun r' v' => r' = r ∧ i_Rel (k + 7) (f_level, f_indexed, f_parts, f_highs, nI n, f_conditionLength, f_conditionNames, f_depth, f_found, f_testAt, f_count, f_different, f_cheapest, f_positions, f_starts, f_accepts, f_empty, f_written, f_target, f_steps, a_state, a_old, a_kept, a_leaving, a_coming, a_ofType, a_withLabels, a_kind, a_types, a_direction, a_low, a_high, a_variable, a_labels, a_token, a_condition, a_truth, a_number, a_variableOf, a_atPart, a_trail, a_here, a_bound, a_named, a_used, a_weight, a_left, a_ends, a_seen, a_sum, a_some, a_letter, a_follow, a_firstOf, a_lastOf, a_nullable, a_spelled, a_visited, a_front, a_next) v') (yf_level, yf_parts, nI n, yf_conditions, yf_spelled, yf_depth, yf_used, yf_weight, yf_found, yf_lightest, yf_some, yf_sum, ya_labels, ya_properties, ya_from, ya_to, ya_types, ya_weights, ya_variable, ya_wanted, ya_among, ya_direction, ya_low, ya_high, a_token, ya_condition, ya_expression, ya_stack, ya_part, ya_steps, ya_place, ya_choice, ya_bound, ya_took, ya_nodeOf, ya_chosen, ya_far) v1 := by
      intro r hr
      unfold wpY_token
      refine yw (fun a b => ?_) (fun _ => br_t rfl (yw (fun a b => ?_) (fun _ => br_t rfl (yw (fun a b => ?_) (fun _ => br_t rfl ⟨hr.symm, R0⟩)))))
      · obtain ⟨t, ht, e⟩ := rg_of (b := 5) (by omega) a b
        exact absurd (Or.inl (by omega)) (bad t e)
      · obtain ⟨t, ht, e⟩ := rg_of (b := 16) (by omega) (Int32.le_trans (by decide) a) b
        rw [e] at a
        have := (nI_leI (a := 10) (by omega) (by omega)).mp a
        exact absurd (Or.inr (Or.inl ⟨this, ht⟩)) (bad t e)
      · obtain ⟨t, ht, e⟩ := rg_of (b := 10999) (by omega) (Int32.le_trans (by decide) a) b
        rw [e] at a
        have := (nI_leI (a := 1000) (by omega) (by omega)).mp a
        exact absurd (Or.inr (Or.inr ⟨this, by omega⟩)) (bad t e)
    have x40 : wX_token_40 (fun r u' => wpY_token (fun r' v' => r' = r ∧ i_Rel (k + 7) u' v') (yf_level, yf_parts, nI n, yf_conditions, yf_spelled, yf_depth, yf_used, yf_weight, yf_found, yf_lightest, yf_some, yf_sum, ya_labels, ya_properties, ya_from, ya_to, ya_types, ya_weights, ya_variable, ya_wanted, ya_among, ya_direction, ya_low, ya_high, a_token, ya_condition, ya_expression, ya_stack, ya_part, ya_steps, ya_place, ya_choice, ya_bound, ya_took, ya_nodeOf, ya_chosen, ya_far) v1) v1 f_level f_indexed f_parts f_highs (nI n) f_conditionLength f_conditionNames f_depth f_found f_testAt f_count f_different f_cheapest f_positions f_starts f_accepts f_empty f_written f_target f_steps a_state a_old a_kept a_leaving a_coming a_ofType a_withLabels a_kind a_types a_direction a_low a_high a_variable a_labels a_token a_condition a_truth a_number a_variableOf a_atPart a_trail a_here a_bound a_named a_used a_weight a_left a_ends a_seen a_sum a_some a_letter a_follow a_firstOf a_lastOf a_nullable a_spelled a_visited a_front a_next := br_t rfl (yno _ rfl)
    have x22 : wX_token_22 (fun r u' => wpY_token (fun r' v' => r' = r ∧ i_Rel (k + 7) u' v') (yf_level, yf_parts, nI n, yf_conditions, yf_spelled, yf_depth, yf_used, yf_weight, yf_found, yf_lightest, yf_some, yf_sum, ya_labels, ya_properties, ya_from, ya_to, ya_types, ya_weights, ya_variable, ya_wanted, ya_among, ya_direction, ya_low, ya_high, a_token, ya_condition, ya_expression, ya_stack, ya_part, ya_steps, ya_place, ya_choice, ya_bound, ya_took, ya_nodeOf, ya_chosen, ya_far) v1) v1 f_level f_indexed f_parts f_highs (nI n) f_conditionLength f_conditionNames f_depth f_found f_testAt f_count f_different f_cheapest f_positions f_starts f_accepts f_empty f_written f_target f_steps a_state a_old a_kept a_leaving a_coming a_ofType a_withLabels a_kind a_types a_direction a_low a_high a_variable a_labels a_token a_condition a_truth a_number a_variableOf a_atPart a_trail a_here a_bound a_named a_used a_weight a_left a_ends a_seen a_sum a_some a_letter a_follow a_firstOf a_lastOf a_nullable a_spelled a_visited a_front a_next := by
      refine br_c (fun _ => x40) (fun a => br_c (fun _ => x40) (fun b => ?_))
      have b' : v1 ≤ nI 10999 := by
        rw [Int32.le_iff_toInt_le] at b ⊢
        rw [show (11000 : Int32).toInt = 11000 by decide] at b
        rw [show (nI 10999).toInt = 10999 by decide]
        omega
      have a0 : (0 : Int32) ≤ v1 := by
        rw [Int32.le_iff_toInt_le] at a ⊢
        rw [show (999 : Int32).toInt = 999 by decide] at a
        rw [show (0 : Int32).toInt = 0 by decide]
        omega
      obtain ⟨t, ht, e⟩ := rg_of (b := 10999) (by omega) a0 b'
      rw [e] at a
      have : ¬ t ≤ 999 := fun y => a (nI_le (b := 999) y (by omega))
      exact absurd (Or.inr (Or.inr ⟨by omega, by omega⟩)) (bad t e)
    have x10 : wX_token_10 (fun r u' => wpY_token (fun r' v' => r' = r ∧ i_Rel (k + 7) u' v') (yf_level, yf_parts, nI n, yf_conditions, yf_spelled, yf_depth, yf_used, yf_weight, yf_found, yf_lightest, yf_some, yf_sum, ya_labels, ya_properties, ya_from, ya_to, ya_types, ya_weights, ya_variable, ya_wanted, ya_among, ya_direction, ya_low, ya_high, a_token, ya_condition, ya_expression, ya_stack, ya_part, ya_steps, ya_place, ya_choice, ya_bound, ya_took, ya_nodeOf, ya_chosen, ya_far) v1) v1 f_level f_indexed f_parts f_highs (nI n) f_conditionLength f_conditionNames f_depth f_found f_testAt f_count f_different f_cheapest f_positions f_starts f_accepts f_empty f_written f_target f_steps a_state a_old a_kept a_leaving a_coming a_ofType a_withLabels a_kind a_types a_direction a_low a_high a_variable a_labels a_token a_condition a_truth a_number a_variableOf a_atPart a_trail a_here a_bound a_named a_used a_weight a_left a_ends a_seen a_sum a_some a_letter a_follow a_firstOf a_lastOf a_nullable a_spelled a_visited a_front a_next := by
      refine br_c (fun _ => x22) (fun a => br_c (fun b => ?_) (fun _ => x22))
      have b' : v1 ≤ nI 16 := by
        rw [Int32.lt_iff_toInt_lt] at b
        rw [Int32.le_iff_toInt_le]
        rw [show (17 : Int32).toInt = 17 by decide] at b
        rw [show (nI 16).toInt = 16 by decide]
        omega
      have a0 : (0 : Int32) ≤ v1 := by
        rw [Int32.le_iff_toInt_le] at a ⊢
        rw [show (9 : Int32).toInt = 9 by decide] at a
        rw [show (0 : Int32).toInt = 0 by decide]
        omega
      obtain ⟨t, ht, e⟩ := rg_of (b := 16) (by omega) a0 b'
      rw [e] at a
      have : ¬ t ≤ 9 := fun y => a (nI_le (b := 9) y (by omega))
      exact absurd (Or.inr (Or.inl ⟨by omega, by omega⟩)) (bad t e)
    unfold wpX_token
    refine br_c (fun _ => x10) (fun a => br_c (fun b => ?_) (fun _ => x10))
    have b' : v1 ≤ nI 5 := by
      rw [Int32.lt_iff_toInt_lt] at b
      rw [Int32.le_iff_toInt_le]
      rw [show (6 : Int32).toInt = 6 by decide] at b
      rw [show (nI 5).toInt = 5 by decide]
      omega
    obtain ⟨t, ht, e⟩ := rg_of (b := 5) (by omega) (Int32.not_lt.mp a) b'
    exact absurd (Or.inl (by omega)) (bad t e)
end
section
/-! a condition read -/
def AW (tk : Nat → Nat) : Nat → List Nat → Prop
  | 0 => fun l => l = [0]
  | k + 1 => fun l => ∃ w r, AW tk k (w :: r) ∧ ev_fit w (tk k) ∧ l = ev_o (tk k) ++ r
theorem AW_u {tk : Nat → Nat} : ∀ {k l l'}, AW tk k l → AW tk k l' → l = l'
  | 0, l, l', h, h' => h.trans h'.symm
  | k + 1, l, l', h, h' => by
    obtain ⟨w, r, a, _, e⟩ := h
    obtain ⟨w', r', a', _, e'⟩ := h'
    have := AW_u a a'
    rw [List.cons.injEq] at this
    rw [e, e', this.2]
theorem AW_stop {tk : Nat → Nat} {k : Nat} {l : List Nat} (h : AW tk k l) (no : ∀ w r, l = w :: r → ¬ ev_fit w (tk k)) : ∀ n, k < n → ∀ l', ¬ AW tk n l' := by
  intro n
  induction n with
  | zero => intro hn; omega
  | succ n ih =>
    intro hn l' h'
    obtain ⟨w, r, a, b, _⟩ := h'
    by_cases e : n = k
    · subst e
      exact no w r (AW_u h a) b
    · exact ih (by omega) _ a
theorem ev_o_len (t : Nat) : (ev_o t).length ≤ 2 := by
  unfold ev_o
  split
  · decide
  · split
    · decide
    · split
      · decide
      · split
        · decide
        · split <;> decide
theorem AW_len {tk : Nat → Nat} : ∀ {k l}, AW tk k l → l.length ≤ k + 1
  | 0, l, h => by
    have h : l = [0] := h
    rw [h]
    decide
  | k + 1, l, h => by
    obtain ⟨w, r, a, _, e⟩ := h
    have := AW_len a
    have := ev_o_len (tk k)
    rw [e, List.length_append]
    rw [List.length_cons] at *
    omega
theorem AW_drop {tk : Nat → Nat} {k : Nat} {l : List Nat} (h : AW tk k l) : ∀ {d l'}, AW tk (k + d) l' → l.length ≤ l'.length + d
  | 0, l', h' => by rw [AW_u h h']; omega
  | d + 1, l', h' => by
    obtain ⟨w, r, a, _, e⟩ := h'
    have := AW_drop h a
    rw [List.length_cons] at this
    rw [e, List.length_append]
    omega
theorem AW_A {tk : Nat → Nat} : ∀ {n l}, AW tk n l → ∃ A : Nat → List Nat, A 0 = [0] ∧ A n = l ∧ ∀ k, k < n → ∃ w r, A k = w :: r ∧ ev_fit w (tk k) ∧ A (k + 1) = ev_o (tk k) ++ r
  | 0, l, h => ⟨fun _ => [0], rfl, h.symm, fun k hk => absurd hk (Nat.not_lt_zero k)⟩
  | n + 1, l, h => by
    obtain ⟨w, r, a, b, e⟩ := h
    obtain ⟨A, h1, h2, h3⟩ := AW_A a
    refine ⟨fun j => if j = n + 1 then l else A j, h1, if_pos rfl, fun k hk => ?_⟩
    by_cases y : k = n
    · subst y
      refine ⟨w, r, ?_, b, ?_⟩
      · simp only [if_neg (show ¬ k = k + 1 by omega)]; exact h2
      · simp only [if_true]; exact e
    · obtain ⟨w', r', z1, z2, z3⟩ := h3 k (by omega)
      refine ⟨w', r', ?_, z2, ?_⟩
      · simp only [if_neg (show ¬ k = n + 1 by omega)]; exact z1
      · simp only [if_neg (show ¬ k + 1 = n + 1 by omega)]; exact z3
/-- what a token opens, as both write it -/
def ev_v (t : Nat) : Nat := if t < 13 then 1 else if t = 13 then 2 else 0
def ev_n (t : Nat) : Nat := if t < 10 ∨ 1000 ≤ t then 0 else if t = 12 ∨ t = 16 then 1 else 2
def rp (v : Nat) : Nat → List Nat → List Nat
  | 0 => fun r => r
  | n + 1 => fun r => v :: rp v n r
theorem rp_len (v : Nat) (r : List Nat) : ∀ n, (rp v n r).length = n + r.length
  | 0 => by rw [Nat.zero_add]; rfl
  | n + 1 => by
    show (v :: rp v n r).length = _
    rw [List.length_cons, rp_len v r n]
    omega
theorem ev_o_rp {t : Nat} (h : t < 4 ∨ (10 ≤ t ∧ t ≤ 16) ∨ 1000 ≤ t) (r : List Nat) : ev_o t ++ r = rp (ev_v t) (ev_n t) r := by
  rcases h with h | h | h
  · have a : ev_o t = [] := if_pos (Or.inl (by omega))
    have b : ev_n t = 0 := if_pos (Or.inl (by omega))
    rw [a, b]
    rfl
  · have ht : t = 10 ∨ t = 11 ∨ t = 12 ∨ t = 13 ∨ t = 14 ∨ t = 15 ∨ t = 16 := by omega
    rcases ht with rfl | rfl | rfl | rfl | rfl | rfl | rfl <;> rfl
  · have a : ev_o t = [] := if_pos (Or.inr h)
    have b : ev_n t = 0 := if_pos (Or.inr h)
    rw [a, b]
    rfl
def KR (a : Nat → Int32) : List Nat → Prop
  | [] => True
  | w :: r => (a r.length = nI w ∧ w < 3) ∧ KR a r
theorem KR_c {a a' : Nat → Int32} : ∀ {l : List Nat}, (∀ j, j < l.length → a' j = a j) → KR a l → KR a' l
  | [], _, _ => True.intro
  | w :: r, h, q => by
    rw [List.length_cons] at h
    exact ⟨⟨by rw [h _ (by omega)]; exact q.1.1, q.1.2⟩, KR_c (fun j hj => h j (by omega)) q.2⟩
theorem KR_p {a : Nat → Int32} {l : List Nat} {v : Nat} (hv : v < 3) (h : KR a l) : KR (upd a l.length (nI v)) (v :: l) := ⟨⟨pk_us, hv⟩, KR_c (fun j hj => pk_un (by omega)) h⟩
def cpy (tok con : Nat → Int32) (i : Nat) : Nat → Int32 := fun j => if j < i then tok j else con j
theorem cpy_s (tok con : Nat → Int32) (i : Nat) : upd (cpy tok con i) i (tok i) = cpy tok con (i + 1) := by
  funext j
  by_cases e : j = i
  · subst e
    rw [pk_us]
    unfold cpy
    rw [if_pos (by omega)]
  · rw [pk_un e]
    unfold cpy
    exact se_if ⟨fun y => by omega, fun y => by omega⟩ _ _
theorem cpy_0 (tok con : Nat → Int32) : cpy tok con 0 = con := by
  funext j
  unfold cpy
  rw [if_neg (Nat.not_lt_zero j)]
/-- the tokens are a condition whose names are named -/
def OKw (tk : Nat → Nat) (n P : Nat) (q : Nat → Nat → Nat) : Prop := n = 0 ∨ (AW tk n [] ∧ ∀ k, k < n → tk k < 4 → ∃ p, p < P ∧ q 5 p = tk k)
theorem x_opens {post : Int32 → Prop} {t : Nat} (ht : tkv t) (h : post (nI (ev_n t))) : wpX_opens post (nI t) := by
  have h31 : t < 11000 := by rcases ht with h | h | h <;> omega
  unfold wpX_opens
  by_cases a : t < 10
  · have : ev_n t = 0 := if_pos (Or.inl a)
    rw [this] at h
    exact br_t (nI_lt (b := 10) a (by omega)) h
  · refine br_f (nI_nlt (b := 10) (by omega) (by omega)) ?_
    by_cases b : 16 < t
    · refine br_t (nI_lt (a := 16) b (by omega)) ?_
      unfold ev_n at h
      by_cases c : 1000 ≤ t
      · rw [if_pos (Or.inr c)] at h; exact h
      · rcases ht with h | h | h <;> omega
    · refine br_f (nI_nlt (a := 16) (by omega) (by omega)) ?_
      have ht : t = 10 ∨ t = 11 ∨ t = 12 ∨ t = 13 ∨ t = 14 ∨ t = 15 ∨ t = 16 := by omega
      rcases ht with rfl | rfl | rfl | rfl | rfl | rfl | rfl <;> (repeat (first | exact h | refine br_t rfl ?_ | refine br_f (by decide) ?_))
theorem x_fits {post : Int32 → Prop} {w t : Nat} (hw : w < 3) (ht : tkv t) (h1 : ev_fit w t → post 1) (h0 : ¬ ev_fit w t → post 0) : wpX_fits post (nI w) (nI t) := by
  have t31 : t < 11000 := by rcases ht with h | h | h <;> omega
  unfold wpX_fits
  have hw' : w = 0 ∨ w = 1 ∨ w = 2 := by omega
  rcases hw' with rfl | rfl | rfl
  · refine br_t rfl ?_
    by_cases a : t ≤ 9
    · exact br_t (nI_le (b := 9) a (by omega)) (h0 fun y => by rcases y with ⟨_, y⟩ | ⟨y, _⟩ | ⟨y, _⟩ <;> omega)
    · refine br_f (nI_ge (a := 9) (by omega) (by omega)) ?_
      by_cases b : 17 ≤ t
      · exact br_t (nI_le (a := 17) b (by omega)) (h0 fun y => by rcases y with ⟨_, y⟩ | ⟨y, _⟩ | ⟨y, _⟩ <;> omega)
      · exact br_f (nI_ge (b := 17) (by omega) (by omega)) (h1 (Or.inl ⟨rfl, by omega, by omega⟩))
  · refine br_f (by decide) (br_t rfl ?_)
    by_cases a : t < 4
    · exact br_t (nI_lt (b := 4) a (by omega)) (h1 (Or.inr (Or.inl ⟨rfl, Or.inl a⟩)))
    · refine br_f (nI_nlt (b := 4) (by omega) (by omega)) ?_
      by_cases b : t ≤ 999
      · exact br_t (nI_le (b := 999) b (by omega)) (h0 fun y => by rcases y with ⟨y, _⟩ | ⟨_, y⟩ | ⟨y, _⟩ <;> omega)
      · exact br_f (nI_ge (a := 999) (by omega) (by omega)) (h1 (Or.inr (Or.inl ⟨rfl, Or.inr (by omega)⟩)))
  · refine br_f (by decide) (br_f (by decide) ?_)
    by_cases a : 4 ≤ t
    · exact br_t (nI_le (a := 4) a (by omega)) (h0 fun y => by rcases y with ⟨y, _⟩ | ⟨y, _⟩ | ⟨_, y⟩ <;> omega)
    · exact br_f (nI_ge (b := 4) (by omega) (by omega)) (h1 (Or.inr (Or.inr ⟨rfl, by omega⟩)))
section
variable {f_level f_indexed f_parts f_highs f_tokens f_conditionLength f_conditionNames f_depth f_found f_testAt f_count f_different f_cheapest f_positions f_starts f_accepts f_empty f_written f_target f_steps : Int32} {a_state a_old : Nat → Int64} {a_kept a_leaving a_coming a_ofType a_withLabels a_kind a_types a_direction a_low a_high a_variable a_labels a_token a_condition a_truth a_number a_variableOf a_atPart a_trail a_here a_bound a_named a_used a_weight a_left a_ends : Nat → Int32} {a_seen a_sum : Nat → Int64} {a_some a_letter a_follow a_firstOf a_lastOf a_nullable a_spelled a_visited a_front a_next : Nat → Int32} {post : Int32 → SX → Prop} {P n : Nat} {q : Nat → Nat → Nat} {tk : Nat → Nat}
theorem x_where (Q : XQ P q a_kind a_types a_direction a_low a_high a_variable a_labels) (hn : n ≤ 12) (ht : ∀ k, k < n → a_token k = nI (tk k) ∧ tkv (tk k)) (h1 : OKw tk n P q → ∀ CN nu, CN < 16 → (∀ v, CN.testBit v = true ↔ ∃ k, k < n ∧ tk k < 4 ∧ tk k = v) → post 1 (f_level, f_indexed, nI P, f_highs, 0, nI n, nI CN, f_depth, 0, f_testAt, f_count, f_different, f_cheapest, f_positions, f_starts, f_accepts, f_empty, f_written, f_target, f_steps, a_state, a_old, a_kept, a_leaving, a_coming, a_ofType, a_withLabels, a_kind, a_types, a_direction, a_low, a_high, a_variable, a_labels, a_token, cpy a_token a_condition n, a_truth, nu, a_variableOf, a_atPart, a_trail, a_here, a_bound, a_named, a_used, a_weight, a_left, a_ends, a_seen, a_sum, a_some, a_letter, a_follow, a_firstOf, a_lastOf, a_nullable, a_spelled, a_visited, a_front, a_next)) (h0 : ¬ OKw tk n P q → ∀ nu, post 0 (f_level, f_indexed, nI P, f_highs, 0, f_conditionLength, f_conditionNames, f_depth, f_found, f_testAt, f_count, f_different, f_cheapest, f_positions, f_starts, f_accepts, f_empty, f_written, f_target, f_steps, a_state, a_old, a_kept, a_leaving, a_coming, a_ofType, a_withLabels, a_kind, a_types, a_direction, a_low, a_high, a_variable, a_labels, a_token, a_condition, a_truth, nu, a_variableOf, a_atPart, a_trail, a_here, a_bound, a_named, a_used, a_weight, a_left, a_ends, a_seen, a_sum, a_some, a_letter, a_follow, a_firstOf, a_lastOf, a_nullable, a_spelled, a_visited, a_front, a_next)) : wpX_where post (f_level, f_indexed, nI P, f_highs, nI n, f_conditionLength, f_conditionNames, f_depth, f_found, f_testAt, f_count, f_different, f_cheapest, f_positions, f_starts, f_accepts, f_empty, f_written, f_target, f_steps, a_state, a_old, a_kept, a_leaving, a_coming, a_ofType, a_withLabels, a_kind, a_types, a_direction, a_low, a_high, a_variable, a_labels, a_token, a_condition, a_truth, a_number, a_variableOf, a_atPart, a_trail, a_here, a_bound, a_named, a_used, a_weight, a_left, a_ends, a_seen, a_sum, a_some, a_letter, a_follow, a_firstOf, a_lastOf, a_nullable, a_spelled, a_visited, a_front, a_next) := by
  have hP := Q.1
  -- the copy
  have k182 : ∀ CN nu, (OKw tk n P q → post 1 (f_level, f_indexed, nI P, f_highs, 0, nI n, nI CN, f_depth, 0, f_testAt, f_count, f_different, f_cheapest, f_positions, f_starts, f_accepts, f_empty, f_written, f_target, f_steps, a_state, a_old, a_kept, a_leaving, a_coming, a_ofType, a_withLabels, a_kind, a_types, a_direction, a_low, a_high, a_variable, a_labels, a_token, cpy a_token a_condition n, a_truth, nu, a_variableOf, a_atPart, a_trail, a_here, a_bound, a_named, a_used, a_weight, a_left, a_ends, a_seen, a_sum, a_some, a_letter, a_follow, a_firstOf, a_lastOf, a_nullable, a_spelled, a_visited, a_front, a_next)) → OKw tk n P q → ∃ kk, wX_where_182 post (nI n) (nI CN) f_level f_indexed (nI P) f_highs 0 f_conditionLength f_conditionNames f_depth f_found f_testAt f_count f_different f_cheapest f_positions f_starts f_accepts f_empty f_written f_target f_steps kk 0 a_state a_old a_kept a_leaving a_coming a_ofType a_withLabels a_kind a_types a_direction a_low a_high a_variable a_labels a_token a_condition a_truth nu a_variableOf a_atPart a_trail a_here a_bound a_named a_used a_weight a_left a_ends a_seen a_sum a_some a_letter a_follow a_firstOf a_lastOf a_nullable a_spelled a_visited a_front a_next := by
    intro CN nu H ok
    have key : ∀ kk i, i ≤ n → n - i < kk → wX_where_182 post (nI n) (nI CN) f_level f_indexed (nI P) f_highs 0 f_conditionLength f_conditionNames f_depth f_found f_testAt f_count f_different f_cheapest f_positions f_starts f_accepts f_empty f_written f_target f_steps kk (nI i) a_state a_old a_kept a_leaving a_coming a_ofType a_withLabels a_kind a_types a_direction a_low a_high a_variable a_labels a_token (cpy a_token a_condition i) a_truth nu a_variableOf a_atPart a_trail a_here a_bound a_named a_used a_weight a_left a_ends a_seen a_sum a_some a_letter a_follow a_firstOf a_lastOf a_nullable a_spelled a_visited a_front a_next := by
      intro kk
      induction kk with
      | zero => intro i _ hk; omega
      | succ kk ih =>
        intro i hi hk
        by_cases e : i = n
        · subst e
          exact br_t (nI_le (Nat.le_refl _) (by omega)) (H ok)
        · have vi : vp_in (nI i) 12 := vp_in_nI (by omega) (by omega)
          refine br_f (nI_ge (by omega) (by omega)) ⟨vi, vi, nm_r (e' := cpy a_token a_condition (i + 1)) ?_ (nm_r (nI_1 i) (ih (i + 1) (by omega) (by omega)))⟩
          rw [nI_clamp (by omega), cpy_s]
    have := key (n + 1) 0 (by omega) (by omega)
    rw [cpy_0] at this
    exact ⟨n + 1, this⟩
  -- the end of the tokens
  have fin : ∀ S l nu, S < 16 → (∀ v, S.testBit v = true ↔ ∃ j, j < n ∧ tk j < 4 ∧ tk j = v) → l.length ≤ 12 → (n = 0 ∧ l = [] ∨ (0 < n ∧ AW tk n l)) → wX_where_36 post (nI n) f_level f_indexed (nI P) f_highs 0 f_conditionLength f_conditionNames f_depth f_found f_testAt f_count f_different f_cheapest f_positions f_starts f_accepts f_empty f_written f_target f_steps 1 (nI S) (nI l.length) (nI n) a_state a_old a_kept a_leaving a_coming a_ofType a_withLabels a_kind a_types a_direction a_low a_high a_variable a_labels a_token a_condition a_truth nu a_variableOf a_atPart a_trail a_here a_bound a_named a_used a_weight a_left a_ends a_seen a_sum a_some a_letter a_follow a_firstOf a_lastOf a_nullable a_spelled a_visited a_front a_next := by
    intro S l nu hS hb l12 hA
    refine br_t (nI_le (Nat.le_refl _) (by omega)) (x_names (va := q 5) hP (fun p hp => ⟨(Q.2.2 p hp).1.2.1, (Q.2.2 p hp).1.2.2.1⟩) fun NM nm16 nmb => ?_)
    by_cases e : l.length = 0
    · have l0 : l = [] := List.eq_nil_of_length_eq_zero e
      refine br_f (by rw [e]; decide) ?_
      have ndl := bb_nd_le S NM
      have key : (nI S &&& (nI NM ^^^ (-1))) = 0 ↔ bb_nd S NM = 0 := by
        rw [bb_andn]
        exact nI_eq (b := 0) (by omega) (by omega)
      have okw : OKw tk n P q ↔ bb_nd S NM = 0 := by
        constructor
        · intro ok
          refine bb_nd_0 fun v hv => ?_
          obtain ⟨j, j1, j2, j3⟩ := (hb v).mp hv
          rcases ok with ok | ok
          · omega
          · rw [← j3]
            exact (nmb _).mpr (ok.2 j j1 j2)
        · intro z
          rcases hA with ⟨a, _⟩ | ⟨a, b⟩
          · exact Or.inl a
          · rw [l0] at b
            exact Or.inr ⟨b, fun k hk h4 => (nmb _).mp (bb_nd_sub z _ ((hb _).mpr ⟨k, hk, h4, rfl⟩))⟩
      by_cases z : bb_nd S NM = 0
      · exact br_t (key.mpr z) (k182 S nu (fun ok => h1 ok S nu hS hb) (okw.mpr z))
      · exact br_f (fun y => z (key.mp y)) (h0 (fun y => z (okw.mp y)) nu)
    · refine br_t (nI_lt (a := 0) (by omega) (by omega)) (h0 (fun ok => ?_) nu)
      rcases hA with ⟨a, b⟩ | ⟨a, b⟩
      · rw [b] at e; exact e rfl
      · rcases ok with ok | ok
        · omega
        · rw [AW_u b ok.1] at e; exact e rfl
  have main : 0 < n → ∀ d k S l nu, k + d = n → S < 16 → (∀ v, S.testBit v = true ↔ ∃ j, j < k ∧ tk j < 4 ∧ tk j = v) → l.length ≤ 11 → AW tk k l → KR nu l → wX_where_36 post (nI n) f_level f_indexed (nI P) f_highs 0 f_conditionLength f_conditionNames f_depth f_found f_testAt f_count f_different f_cheapest f_positions f_starts f_accepts f_empty f_written f_target f_steps (d + 1) (nI S) (nI l.length) (nI k) a_state a_old a_kept a_leaving a_coming a_ofType a_withLabels a_kind a_types a_direction a_low a_high a_variable a_labels a_token a_condition a_truth nu a_variableOf a_atPart a_trail a_here a_bound a_named a_used a_weight a_left a_ends a_seen a_sum a_some a_letter a_follow a_firstOf a_lastOf a_nullable a_spelled a_visited a_front a_next := by
    intro n0 d
    induction d with
    | zero =>
      intro k S l nu e hS hb l11 hA hK
      have : k = n := e
      subst this
      exact fin S l nu hS hb (by omega) (Or.inr ⟨n0, hA⟩)
    | succ d ih =>
      intro k S l nu e hS hb l11 hA hK
      obtain ⟨tk1, tk2⟩ := ht k (by omega)
      have t31 : tk k < 11000 := by rcases tk2 with h | h | h <;> omega
      have stop : (∀ w r, l = w :: r → ¬ ev_fit w (tk k)) → ¬ OKw tk n P q := by
        intro z ok
        rcases ok with ok | ok
        · omega
        · exact AW_stop hA z n (by omega) _ ok.1
      refine br_f (nI_ge (by omega) (by omega)) ⟨vp_in_nI (by omega) (by omega), nm_r (e' := nI (tk k)) (by rw [nI_clamp (by omega)]; exact tk1) ?_⟩
      cases l with
      | nil => exact br_t rfl (h0 (stop fun w r y => by cases y) nu)
      | cons w r =>
        rw [List.length_cons] at l11 ⊢
        obtain ⟨⟨kw, w3⟩, hK'⟩ := hK
        refine br_f (nI_ne0 (by omega) (by omega)) ?_
        rw [nI_pred, nI_clamp (n := r.length) (by omega), kw]
        refine ⟨vp_in_nI (by omega) (by omega), x_fits w3 tk2 (fun ft => br_f (by decide) (nm_r (e' := nI r.length) (pk_m1 _) ?_)) (fun nf => br_t rfl (h0 (stop fun w' r' y => ?_) nu))⟩
        · have A1 : AW tk (k + 1) (ev_o (tk k) ++ r) := ⟨w, r, hA, ft, rfl⟩
          have tsh : tk k < 4 ∨ (10 ≤ tk k ∧ tk k ≤ 16) ∨ 1000 ≤ tk k := by
            rcases ft with ⟨_, y⟩ | ⟨_, y⟩ | ⟨_, y⟩ <;> omega
          rw [ev_o_rp tsh] at A1
          have len1 := AW_len A1
          rw [rp_len] at len1
          have v3 : ev_v (tk k) < 3 := by
            unfold ev_v
            split
            · decide
            · split <;> decide
          have n2 : ev_n (tk k) ≤ 2 := by
            unfold ev_n
            split
            · decide
            · split <;> decide
          -- the new set
          have s89 : ∀ S', S' < 16 → (∀ v, S'.testBit v = true ↔ ∃ j, j < k + 1 ∧ tk j < 4 ∧ tk j = v) → wX_where_89 post (wX_where_36 post (nI n) f_level f_indexed (nI P) f_highs 0 f_conditionLength f_conditionNames f_depth f_found f_testAt f_count f_different f_cheapest f_positions f_starts f_accepts f_empty f_written f_target f_steps (d + 1)) (nI n) (nI S') (nI r.length) (nI k) (nI (tk k)) f_level f_indexed (nI P) f_highs 0 f_conditionLength f_conditionNames f_depth f_found f_testAt f_count f_different f_cheapest f_positions f_starts f_accepts f_empty f_written f_target f_steps a_state a_old a_kept a_leaving a_coming a_ofType a_withLabels a_kind a_types a_direction a_low a_high a_variable a_labels a_token a_condition a_truth nu a_variableOf a_atPart a_trail a_here a_bound a_named a_used a_weight a_left a_ends a_seen a_sum a_some a_letter a_follow a_firstOf a_lastOf a_nullable a_spelled a_visited a_front a_next := by
            intro S' hS' hb'
            refine x_opens tk2 ⟨ev_n (tk k) + 1, ?_⟩
            have loop : ∀ b a nu', a + b = ev_n (tk k) → KR nu' (rp (ev_v (tk k)) a r) → wX_where_99 post (wX_where_36 post (nI n) f_level f_indexed (nI P) f_highs 0 f_conditionLength f_conditionNames f_depth f_found f_testAt f_count f_different f_cheapest f_positions f_starts f_accepts f_empty f_written f_target f_steps (d + 1)) (nI n) (nI S') (nI k) (nI (tk k)) (nI (ev_n (tk k))) f_level f_indexed (nI P) f_highs 0 f_conditionLength f_conditionNames f_depth f_found f_testAt f_count f_different f_cheapest f_positions f_starts f_accepts f_empty f_written f_target f_steps (b + 1) (nI (a + r.length)) (nI a) a_state a_old a_kept a_leaving a_coming a_ofType a_withLabels a_kind a_types a_direction a_low a_high a_variable a_labels a_token a_condition a_truth nu' a_variableOf a_atPart a_trail a_here a_bound a_named a_used a_weight a_left a_ends a_seen a_sum a_some a_letter a_follow a_firstOf a_lastOf a_nullable a_spelled a_visited a_front a_next := by
              intro b
              induction b with
              | zero =>
                intro a nu' ea K'
                have ea : a = ev_n (tk k) := ea
                refine br_t (nI_le (by omega) (by omega)) ?_
                rw [ea] at K' ⊢
                by_cases z : ev_n (tk k) + r.length ≤ 11
                · refine br_t (nI_le (b := 11) z (by omega)) (nm_r (nI_1 k) ?_)
                  have := ih (k + 1) S' (rp (ev_v (tk k)) (ev_n (tk k)) r) nu' (by omega) hS' hb' (by rw [rp_len]; exact z) A1 K'
                  rw [rp_len] at this
                  exact this
                · refine br_f (nI_ge (a := 11) (by omega) (by omega)) (h0 (fun ok => ?_) nu')
                  rcases ok with ok | ok
                  · omega
                  · have := AW_drop A1 (d := n - (k + 1)) (l' := []) (by rw [show k + 1 + (n - (k + 1)) = n by omega]; exact ok.1)
                    rw [rp_len, List.length_nil] at this
                    omega
              | succ b ihb =>
                intro a nu' ea K'
                have va : vp_in (nI (a + r.length)) 12 := vp_in_nI (by omega) (by omega)
                have push : ∀ x : Int32, x = nI (ev_v (tk k)) → vp_in (nI (a + r.length)) 12 ∧ ∀ y : Nat → Int32, y = upd nu' (nI (a + r.length)).toNatClampNeg x → ∀ z, z = nI a + 1 → wX_where_99 post (wX_where_36 post (nI n) f_level f_indexed (nI P) f_highs 0 f_conditionLength f_conditionNames f_depth f_found f_testAt f_count f_different f_cheapest f_positions f_starts f_accepts f_empty f_written f_target f_steps (d + 1)) (nI n) (nI S') (nI k) (nI (tk k)) (nI (ev_n (tk k))) f_level f_indexed (nI P) f_highs 0 f_conditionLength f_conditionNames f_depth f_found f_testAt f_count f_different f_cheapest f_positions f_starts f_accepts f_empty f_written f_target f_steps (b + 1) (nI (a + r.length + 1)) z a_state a_old a_kept a_leaving a_coming a_ofType a_withLabels a_kind a_types a_direction a_low a_high a_variable a_labels a_token a_condition a_truth y a_variableOf a_atPart a_trail a_here a_bound a_named a_used a_weight a_left a_ends a_seen a_sum a_some a_letter a_follow a_firstOf a_lastOf a_nullable a_spelled a_visited a_front a_next := by
                  intro x ex
                  subst ex
                  refine ⟨va, nm_r (e' := upd nu' (a + r.length) (nI (ev_v (tk k)))) (by rw [nI_clamp (by omega)]) (nm_r (nI_1 a) ?_)⟩
                  have K2 := KR_p v3 K'
                  rw [rp_len] at K2
                  have := ihb (a + 1) _ (by omega) K2
                  rw [show a + 1 + r.length = a + r.length + 1 by omega] at this
                  exact this
                refine br_f (nI_ge (by omega) (by omega)) (nm_r (nI_1 _) ?_)
                by_cases z : 13 ≤ tk k
                · refine br_t (nI_le (a := 13) z (by omega)) ?_
                  by_cases z2 : tk k = 13
                  · exact br_t (congrArg nI z2) (push 2 (by unfold ev_v; rw [if_neg (by omega), if_pos z2]; rfl))
                  · exact br_f (fun y => z2 ((nI_eq (b := 13) (by omega) (by omega)).mp y)) (push 0 (by unfold ev_v; rw [if_neg (by omega), if_neg z2]; rfl))
                · exact br_f (nI_ge (b := 13) (by omega) (by omega)) (push 1 (by unfold ev_v; rw [if_pos (by omega)]; rfl))
            have := loop (ev_n (tk k)) 0 nu (by omega) hK'
            rw [Nat.zero_add] at this
            exact this
          by_cases t4 : 4 ≤ tk k
          · refine br_t (nI_le (a := 4) t4 (by omega)) (s89 S hS fun v => ?_)
            rw [hb]
            constructor
            · rintro ⟨j, j1, j2⟩; exact ⟨j, by omega, j2⟩
            · rintro ⟨j, j1, j2, j3⟩
              by_cases y : j = k
              · subst y; omega
              · exact ⟨j, by omega, j2, j3⟩
          · refine br_f (nI_ge (b := 4) (by omega) (by omega)) (nm_r (e' := nI (S ||| 2 ^ tk k)) (by rw [bb_1shl (by omega), bb_or]) (s89 _ (bb_or2_lt (k := 4) hS (by omega)) fun v => ?_))
            rw [bb_or2, Bool.or_eq_true, decide_eq_true_eq, hb]
            constructor
            · rintro (⟨j, j1, j2⟩ | y)
              · exact ⟨j, by omega, j2⟩
              · exact ⟨k, by omega, by omega, y⟩
            · rintro ⟨j, j1, j2, j3⟩
              by_cases y : j = k
              · subst y; exact Or.inr j3
              · exact Or.inl ⟨j, by omega, j2, j3⟩
        · rw [List.cons.injEq] at y
          rw [← y.1]
          exact nf
  unfold wpX_where
  have z0 : ∀ v, (0 : Nat).testBit v = true ↔ ∃ j, j < 0 ∧ tk j < 4 ∧ tk j = v := fun v => ⟨fun z => by rw [Nat.zero_testBit] at z; exact absurd z (by decide), fun ⟨j, z, _⟩ => absurd z (Nat.not_lt_zero j)⟩
  by_cases n0 : n = 0
  · subst n0
    exact br_t (by decide) (br_t (by decide) ⟨1, fin 0 [] a_number (by decide) z0 (by decide) (Or.inl ⟨rfl, rfl⟩)⟩)
  · refine br_f (nI_nle (by omega) (by omega)) (br_f (nI_nle (by omega) (by omega)) (nm_e ⟨n + 1, ?_⟩))
    exact main (by omega) n 0 0 [0] (upd a_number 0 0) (by omega) (by decide) z0 (by decide) rfl ⟨⟨pk_us, by decide⟩, True.intro⟩
end
end
section
/-! a condition read by the reference -/
section
variable {yf_level yf_parts yf_pending yf_conditions yf_spelled yf_depth yf_used yf_weight yf_found yf_lightest yf_some : Int32} {yf_sum : Int64} {ya_labels : Nat → Int32} {ya_properties : Nat → Int64} {ya_from ya_to ya_types ya_weights ya_variable ya_wanted ya_among ya_direction ya_low ya_high ya_tokens ya_condition ya_expression ya_stack ya_part ya_steps ya_place ya_choice ya_bound ya_took ya_nodeOf ya_chosen ya_far : Nat → Int32} {P n : Nat} {q : Nat → Nat → Nat} {tk : Nat → Nat}
theorem y_isNamed {post : Int32 → Prop} {v : Nat} (hP : P ≤ 6) (hv : v < 2 ^ 31) (hq : ∀ p, p < P → ya_variable p = nI (q 5 p) ∧ q 5 p < 4) (h1 : (∃ p, p < P ∧ q 5 p = v) → post 1) (h0 : ¬ (∃ p, p < P ∧ q 5 p = v) → post 0) : wpY_isNamed post (yf_level, nI P, yf_pending, yf_conditions, yf_spelled, yf_depth, yf_used, yf_weight, yf_found, yf_lightest, yf_some, yf_sum, ya_labels, ya_properties, ya_from, ya_to, ya_types, ya_weights, ya_variable, ya_wanted, ya_among, ya_direction, ya_low, ya_high, ya_tokens, ya_condition, ya_expression, ya_stack, ya_part, ya_steps, ya_place, ya_choice, ya_bound, ya_took, ya_nodeOf, ya_chosen, ya_far) (nI v) := by
  have key : ∀ k i, i ≤ P → P - i < k → (∀ p, p < i → q 5 p ≠ v) → wY_isNamed_2 post (nI v) yf_level (nI P) yf_pending yf_conditions yf_spelled yf_depth yf_used yf_weight yf_found yf_lightest yf_some yf_sum ya_labels ya_properties ya_from ya_to ya_types ya_weights ya_variable ya_wanted ya_among ya_direction ya_low ya_high ya_tokens ya_condition ya_expression ya_stack ya_part ya_steps ya_place ya_choice ya_bound ya_took ya_nodeOf ya_chosen ya_far k (nI i) := by
    intro k
    induction k with
    | zero => intro i _ hk; omega
    | succ k ih =>
      intro i hi hk J
      by_cases e : i = P
      · subst e
        exact br_t (nI_le (Nat.le_refl _) (by omega)) (h0 fun ⟨p, p1, p2⟩ => J p p1 p2)
      · obtain ⟨a, b⟩ := hq i (by omega)
        refine br_f (nI_ge (by omega) (by omega)) ⟨vp_in_nI (by omega) (by omega), ?_⟩
        rw [nI_clamp (by omega), a]
        by_cases z : q 5 i = v
        · exact br_t (congrArg nI z) (h1 ⟨i, by omega, z⟩)
        · refine br_f (fun y => z ((nI_eq (by omega) hv).mp y)) (nm_r (nI_1 i) (ih (i + 1) (by omega) (by omega) fun p hp => ?_))
          by_cases y : p = i
          · subst y; exact z
          · exact J p (by omega)
  unfold wpY_isNamed
  exact ⟨P + 1, key (P + 1) 0 (by omega) (by omega) (fun p hp => absurd hp (Nat.not_lt_zero p))⟩
theorem y_where {post : Int32 → SY → Prop} (Q : YQ P q ya_variable ya_wanted ya_among ya_direction ya_low ya_high) (hn : n ≤ 12) (ht : ∀ k, k < n → ya_tokens k = nI (tk k) ∧ tkv (tk k)) (h1 : OKw tk n P q → ∀ s, post 1 (yf_level, nI P, 0, nI n, yf_spelled, yf_depth, yf_used, yf_weight, yf_found, yf_lightest, yf_some, yf_sum, ya_labels, ya_properties, ya_from, ya_to, ya_types, ya_weights, ya_variable, ya_wanted, ya_among, ya_direction, ya_low, ya_high, ya_tokens, cpy ya_tokens ya_condition n, ya_expression, s, ya_part, ya_steps, ya_place, ya_choice, ya_bound, ya_took, ya_nodeOf, ya_chosen, ya_far)) (h0 : ¬ OKw tk n P q → ∀ s, post 0 (yf_level, nI P, 0, yf_conditions, yf_spelled, yf_depth, yf_used, yf_weight, yf_found, yf_lightest, yf_some, yf_sum, ya_labels, ya_properties, ya_from, ya_to, ya_types, ya_weights, ya_variable, ya_wanted, ya_among, ya_direction, ya_low, ya_high, ya_tokens, ya_condition, ya_expression, s, ya_part, ya_steps, ya_place, ya_choice, ya_bound, ya_took, ya_nodeOf, ya_chosen, ya_far)) : wpY_where post (yf_level, nI P, nI n, yf_conditions, yf_spelled, yf_depth, yf_used, yf_weight, yf_found, yf_lightest, yf_some, yf_sum, ya_labels, ya_properties, ya_from, ya_to, ya_types, ya_weights, ya_variable, ya_wanted, ya_among, ya_direction, ya_low, ya_high, ya_tokens, ya_condition, ya_expression, ya_stack, ya_part, ya_steps, ya_place, ya_choice, ya_bound, ya_took, ya_nodeOf, ya_chosen, ya_far) := by
  have hP := Q.1
  have k31 : OKw tk n P q → ∀ s, ∃ kk, wY_where_31 post (nI n) yf_level (nI P) 0 (nI n) yf_spelled yf_depth yf_used yf_weight yf_found yf_lightest yf_some yf_sum kk 0 ya_labels ya_properties ya_from ya_to ya_types ya_weights ya_variable ya_wanted ya_among ya_direction ya_low ya_high ya_tokens ya_condition ya_expression s ya_part ya_steps ya_place ya_choice ya_bound ya_took ya_nodeOf ya_chosen ya_far := by
    intro ok s
    have key : ∀ kk i, i ≤ n → n - i < kk → wY_where_31 post (nI n) yf_level (nI P) 0 (nI n) yf_spelled yf_depth yf_used yf_weight yf_found yf_lightest yf_some yf_sum kk (nI i) ya_labels ya_properties ya_from ya_to ya_types ya_weights ya_variable ya_wanted ya_among ya_direction ya_low ya_high ya_tokens (cpy ya_tokens ya_condition i) ya_expression s ya_part ya_steps ya_place ya_choice ya_bound ya_took ya_nodeOf ya_chosen ya_far := by
      intro kk
      induction kk with
      | zero => intro i _ hk; omega
      | succ kk ih =>
        intro i hi hk
        by_cases e : i = n
        · subst e
          exact br_t (nI_le (Nat.le_refl _) (by omega)) (h1 ok s)
        · have vi : vp_in (nI i) 12 := vp_in_nI (by omega) (by omega)
          refine br_f (nI_ge (by omega) (by omega)) ⟨vi, vi, nm_r (e' := cpy ya_tokens ya_condition (i + 1)) ?_ (nm_r (nI_1 i) (ih (i + 1) (by omega) (by omega)))⟩
          rw [nI_clamp (by omega), cpy_s]
    have := key (n + 1) 0 (by omega) (by omega)
    rw [cpy_0] at this
    exact ⟨n + 1, this⟩
  unfold wpY_where
  by_cases n0 : n = 0
  · subst n0
    exact br_t (by decide) (k31 (Or.inl rfl) ya_stack)
  refine br_f (nI_nle (by omega) (by omega)) ?_
  unfold wpY_isCondition
  refine nm_e ⟨n + 1, ?_⟩
  -- the loop over the tokens, for whatever comes behind it
  have main : ∀ (K : Int32 → SY → Prop), (∀ s, OKw tk n P q → K 1 (yf_level, nI P, 0, yf_conditions, yf_spelled, yf_depth, yf_used, yf_weight, yf_found, yf_lightest, yf_some, yf_sum, ya_labels, ya_properties, ya_from, ya_to, ya_types, ya_weights, ya_variable, ya_wanted, ya_among, ya_direction, ya_low, ya_high, ya_tokens, ya_condition, ya_expression, s, ya_part, ya_steps, ya_place, ya_choice, ya_bound, ya_took, ya_nodeOf, ya_chosen, ya_far)) → (∀ s, ¬ OKw tk n P q → K 0 (yf_level, nI P, 0, yf_conditions, yf_spelled, yf_depth, yf_used, yf_weight, yf_found, yf_lightest, yf_some, yf_sum, ya_labels, ya_properties, ya_from, ya_to, ya_types, ya_weights, ya_variable, ya_wanted, ya_among, ya_direction, ya_low, ya_high, ya_tokens, ya_condition, ya_expression, s, ya_part, ya_steps, ya_place, ya_choice, ya_bound, ya_took, ya_nodeOf, ya_chosen, ya_far)) → ∀ d k l s, k + d = n → AW tk k l → (∀ j, j < k → tk j < 4 → ∃ p, p < P ∧ q 5 p = tk j) → KR s l → wY_isCondition_11 K (nI n) yf_level (nI P) 0 yf_conditions yf_spelled yf_depth yf_used yf_weight yf_found yf_lightest yf_some yf_sum (d + 1) (nI l.length) (nI k) ya_labels ya_properties ya_from ya_to ya_types ya_weights ya_variable ya_wanted ya_among ya_direction ya_low ya_high ya_tokens ya_condition ya_expression s ya_part ya_steps ya_place ya_choice ya_bound ya_took ya_nodeOf ya_chosen ya_far := by
    intro K K1 K0 d
    induction d with
    | zero =>
      intro k l s e hA hN hK
      have : k = n := e
      subst this
      have ll := AW_len hA
      refine br_t (nI_le (Nat.le_refl _) (by omega)) ?_
      cases l with
      | nil => exact br_t rfl (K1 s (Or.inr ⟨hA, hN⟩))
      | cons w r =>
        refine br_f (nI_ne0 (by rw [List.length_cons]; omega) (by omega)) (K0 s fun ok => ?_)
        rcases ok with ok | ok
        · omega
        · have := AW_u hA ok.1
          cases this
    | succ d ih =>
      intro k l s e hA hN hK
      obtain ⟨tk1, tk2⟩ := ht k (by omega)
      have ll := AW_len hA
      have t31 : tk k < 11000 := by rcases tk2 with h | h | h <;> omega
      have stop : (∀ w r, l = w :: r → ¬ ev_fit w (tk k)) → ¬ OKw tk n P q := by
        intro z ok
        rcases ok with ok | ok
        · omega
        · exact AW_stop hA z n (by omega) _ ok.1
      refine br_f (nI_ge (by omega) (by omega)) ?_
      cases l with
      | nil => exact br_t rfl (K0 s (stop fun w r y => by cases y))
      | cons w r =>
        rw [List.length_cons] at ll ⊢
        obtain ⟨⟨kw, w3⟩, hK'⟩ := hK
        refine br_f (nI_ne0 (by omega) (by omega)) (nm_r (e' := nI r.length) (pk_m1 _) ⟨vp_in_nI (by omega) (by omega), nm_r (e' := nI w) (by rw [nI_clamp (by omega)]; exact kw) ⟨vp_in_nI (by omega) (by omega), nm_r (e' := nI (tk k)) (by rw [nI_clamp (by omega)]; exact tk1) ?_⟩⟩)
        -- it doesn't fit, or the name isn't there
        have no : ¬ (ev_fit w (tk k) ∧ (tk k < 4 → ∃ p, p < P ∧ q 5 p = tk k)) → K 0 (yf_level, nI P, 0, yf_conditions, yf_spelled, yf_depth, yf_used, yf_weight, yf_found, yf_lightest, yf_some, yf_sum, ya_labels, ya_properties, ya_from, ya_to, ya_types, ya_weights, ya_variable, ya_wanted, ya_among, ya_direction, ya_low, ya_high, ya_tokens, ya_condition, ya_expression, s, ya_part, ya_steps, ya_place, ya_choice, ya_bound, ya_took, ya_nodeOf, ya_chosen, ya_far) := by
          intro z
          refine K0 s fun ok => ?_
          by_cases y : ev_fit w (tk k)
          · rcases ok with ok | ok
            · omega
            · exact z ⟨y, ok.2 k (by omega)⟩
          · refine stop (fun w' r' e => ?_) ok
            rw [List.cons.injEq] at e
            rw [← e.1]
            exact y
        have yes : ev_fit w (tk k) → (tk k < 4 → ∃ p, p < P ∧ q 5 p = tk k) → ∀ z0 : Int32, ¬ z0 = 0 → wY_isCondition_96 K (wY_isCondition_11 K (nI n) yf_level (nI P) 0 yf_conditions yf_spelled yf_depth yf_used yf_weight yf_found yf_lightest yf_some yf_sum (d + 1)) (nI n) (nI r.length) (nI k) (nI w) (nI (tk k)) z0 yf_level (nI P) 0 yf_conditions yf_spelled yf_depth yf_used yf_weight yf_found yf_lightest yf_some yf_sum ya_labels ya_properties ya_from ya_to ya_types ya_weights ya_variable ya_wanted ya_among ya_direction ya_low ya_high ya_tokens ya_condition ya_expression s ya_part ya_steps ya_place ya_choice ya_bound ya_took ya_nodeOf ya_chosen ya_far := by
          intro ft hnm z0 hz
          have A1 : AW tk (k + 1) (ev_o (tk k) ++ r) := ⟨w, r, hA, ft, rfl⟩
          have N1 : ∀ j, j < k + 1 → tk j < 4 → ∃ p, p < P ∧ q 5 p = tk j := by
            intro j hj h4
            by_cases y : j = k
            · subst y; exact hnm h4
            · exact hN j (by omega) h4
          refine br_f hz ?_
          by_cases w0 : w = 0
          · subst w0
            have t10 : 10 ≤ tk k ∧ tk k ≤ 16 := by rcases ft with ⟨_, y⟩ | ⟨y, _⟩ | ⟨y, _⟩ <;> omega
            refine br_t (by decide) ?_
            have s136 : ∀ x, x = nI (ev_v (tk k)) → wY_isCondition_136 K (wY_isCondition_11 K (nI n) yf_level (nI P) 0 yf_conditions yf_spelled yf_depth yf_used yf_weight yf_found yf_lightest yf_some yf_sum (d + 1)) (nI n) (nI r.length) (nI k) (nI (tk k)) x yf_level (nI P) 0 yf_conditions yf_spelled yf_depth yf_used yf_weight yf_found yf_lightest yf_some yf_sum ya_labels ya_properties ya_from ya_to ya_types ya_weights ya_variable ya_wanted ya_among ya_direction ya_low ya_high ya_tokens ya_condition ya_expression s ya_part ya_steps ya_place ya_choice ya_bound ya_took ya_nodeOf ya_chosen ya_far := by
              intro x ex
              subst ex
              have v3 : ev_v (tk k) < 3 := by
                unfold ev_v
                split
                · decide
                · split <;> decide
              rw [ev_o_rp (Or.inr (Or.inl t10))] at A1
              have K1 := KR_p v3 hK'
              refine nm_r (nI_1 _) ⟨vp_in_nI (by omega) (by omega), nm_r (e' := upd s r.length (nI (ev_v (tk k)))) (by rw [nI_clamp (by omega)]) ?_⟩
              by_cases o : tk k = 12 ∨ tk k = 16
              · have e1 : ev_n (tk k) = 1 := by unfold ev_n; rw [if_neg (by omega), if_pos o]
                rw [e1] at A1
                have := ih (k + 1) _ _ (by omega) A1 N1 K1
                rcases o with o | o
                · exact br_t (congrArg nI o) (nm_r (nI_1 k) this)
                · exact br_f (fun y => by have := (nI_eq (b := 12) (by omega) (by omega)).mp y; omega) (br_t (congrArg nI o) (nm_r (nI_1 k) this))
              · have e2 : ev_n (tk k) = 2 := by unfold ev_n; rw [if_neg (by omega), if_neg o]
                rw [e2] at A1
                have K2 := KR_p v3 K1
                rw [List.length_cons] at K2
                have := ih (k + 1) _ _ (by omega) A1 N1 K2
                exact br_f (fun y => o (Or.inl ((nI_eq (b := 12) (by omega) (by omega)).mp y))) (br_f (fun y => o (Or.inr ((nI_eq (b := 16) (by omega) (by omega)).mp y))) (nm_r (nI_1 _) ⟨vp_in_nI (by omega) (by omega), nm_r (e' := upd (upd s r.length (nI (ev_v (tk k)))) (r.length + 1) (nI (ev_v (tk k)))) (by rw [nI_clamp (by omega)]) (nm_r (nI_1 k) this)⟩))
            by_cases z : 13 ≤ tk k
            · refine br_t (nI_le (a := 13) z (by omega)) ?_
              by_cases z2 : tk k = 13
              · exact br_t (congrArg nI z2) (s136 2 (by unfold ev_v; rw [if_neg (by omega), if_pos z2]; rfl))
              · exact br_f (fun y => z2 ((nI_eq (b := 13) (by omega) (by omega)).mp y)) (s136 0 (by unfold ev_v; rw [if_neg (by omega), if_neg z2]; rfl))
            · exact br_f (nI_ge (b := 13) (by omega) (by omega)) (s136 1 (by unfold ev_v; rw [if_pos (by omega)]; rfl))
          · have o : ev_o (tk k) = [] := by
              have : tk k < 10 ∨ 1000 ≤ tk k := by rcases ft with ⟨y, _⟩ | ⟨_, y⟩ | ⟨_, y⟩ <;> omega
              exact if_pos this
            rw [o] at A1
            refine br_f (nI_nle (by omega) (by omega)) (nm_r (nI_1 k) ?_)
            exact ih (k + 1) _ _ (by omega) A1 N1 hK'
        by_cases w0 : w = 0
        · subst w0
          refine br_t rfl (yw (fun a b => yes ?_ ?_ 1 (by decide)) (fun z => br_t rfl (no fun y => z ?_)))
          · have a := (nI_leI (a := 10) (by omega) (by omega)).mp a
            have b := (nI_leI (b := 16) (by omega) (by omega)).mp b
            exact Or.inl ⟨rfl, a, b⟩
          · intro h4
            have a := (nI_leI (a := 10) (by omega) (by omega)).mp a
            omega
          · have t10 : 10 ≤ tk k ∧ tk k ≤ 16 := by rcases y.1 with ⟨_, y⟩ | ⟨y, _⟩ | ⟨y, _⟩ <;> omega
            exact ⟨nI_le (a := 10) t10.1 (by omega), nI_le (b := 16) t10.2 (by omega)⟩
        · -- a number, property or variable
          have s77 : ¬ (tk k < 4 ∧ ∃ p, p < P ∧ q 5 p = tk k) → wY_isCondition_77 K (wY_isCondition_11 K (nI n) yf_level (nI P) 0 yf_conditions yf_spelled yf_depth yf_used yf_weight yf_found yf_lightest yf_some yf_sum (d + 1)) (nI n) (nI r.length) (nI k) (nI w) (nI (tk k)) yf_level (nI P) 0 yf_conditions yf_spelled yf_depth yf_used yf_weight yf_found yf_lightest yf_some yf_sum ya_labels ya_properties ya_from ya_to ya_types ya_weights ya_variable ya_wanted ya_among ya_direction ya_low ya_high ya_tokens ya_condition ya_expression s ya_part ya_steps ya_place ya_choice ya_bound ya_took ya_nodeOf ya_chosen ya_far := by
            intro z
            by_cases w1 : w = 1
            · subst w1
              refine br_t rfl ?_
              by_cases t4 : tk k < 1000
              · refine br_t (nI_lt (b := 1000) t4 (by omega)) (br_t rfl (no fun y => ?_))
                have : tk k < 4 := by rcases y.1 with ⟨x, _⟩ | ⟨_, x⟩ | ⟨x, _⟩ <;> omega
                exact z ⟨this, y.2 this⟩
              · exact br_f (nI_nlt (b := 1000) (by omega) (by omega)) (yes (Or.inr (Or.inl ⟨rfl, Or.inr (by omega)⟩)) (fun y => by omega) 1 (by decide))
            · refine br_f (fun y => w1 ((nI_eq (b := 1) (by omega) (by omega)).mp y)) (br_t rfl (no fun y => ?_))
              have : tk k < 4 := by rcases y.1 with ⟨x, _⟩ | ⟨x, _⟩ | ⟨_, x⟩ <;> omega
              exact z ⟨this, y.2 this⟩
          refine br_f (nI_ne0 (by omega) (by omega)) (yw (fun a b => br_f (by decide) ?_) (fun z => br_t rfl (s77 fun y => z (rg_iff (b := 3) (by omega) (by omega)))))
          have t3 := (nI_leI (b := 3) (by omega) (by omega)).mp b
          refine y_isNamed (q := q) hP (by omega) (fun p hp => ⟨(Q.2.2 p hp).1.1, (Q.2.2 p hp).1.2.1⟩) (fun y => br_f (by decide) (yes ?_ (fun _ => y) 1 (by decide))) (fun y => br_t rfl (s77 fun x => y x.2))
          have w12 : w = 1 ∨ w = 2 := by omega
          rcases w12 with w12 | w12
          · exact Or.inr (Or.inl ⟨w12, Or.inl (by omega)⟩)
          · exact Or.inr (Or.inr ⟨w12, by omega⟩)
  refine main _ (fun s ok => br_f (by decide) (k31 ok s)) (fun s no => br_t rfl (h0 no s)) n 0 [0] (upd ya_stack 0 0) (by omega) rfl (fun j hj => absurd hj (Nat.not_lt_zero j)) ⟨⟨pk_us, by decide⟩, True.intro⟩
end
theorem i_vc_where {k : Nat} {u : SX} {v : SY} (I : i_Rel k u v) (hk : k + 7 ≤ 3584) : wpX_where (fun r u' => wpY_where (fun r' v' => r' = r ∧ i_Rel (k + 7) u' v') v) u := by
  refine el_R (R := fun u v => wpX_where (fun r u' => wpY_where (fun r' v' => r' = r ∧ i_Rel (k + 7) u' v') v) u) ?_ I
  intro f_level f_indexed f_parts f_highs f_tokens f_conditionLength f_conditionNames f_depth f_found f_testAt f_count f_different f_cheapest f_positions f_starts f_accepts f_empty f_written f_target f_steps a_state a_old a_kept a_leaving a_coming a_ofType a_withLabels a_kind a_types a_direction a_low a_high a_variable a_labels a_token a_condition a_truth a_number a_variableOf a_atPart a_trail a_here a_bound a_named a_used a_weight a_left a_ends a_seen a_sum a_some a_letter a_follow a_firstOf a_lastOf a_nullable a_spelled a_visited a_front a_next yf_level yf_parts yf_pending yf_conditions yf_spelled yf_depth yf_used yf_weight yf_found yf_lightest yf_some yf_sum ya_labels ya_properties ya_from ya_to ya_types ya_weights ya_variable ya_wanted ya_among ya_direction ya_low ya_high ya_tokens ya_condition ya_expression ya_stack ya_part ya_steps ya_place ya_choice ya_bound ya_took ya_nodeOf ya_chosen ya_far P q c m CN hG hI hT hS hQ hC hF
  have QQ := hQ
  obtain ⟨⟨rfl, rfl, rfl⟩, ⟨q1, q2, q3, q4, q5'⟩, XQ', YQ'⟩ := QQ
  obtain rfl := q1.symm
  obtain rfl := q2.symm
  obtain rfl := q3.symm
  obtain rfl := q4.symm
  obtain rfl := q5'.symm
  have TT := hT
  obtain ⟨q6, n, tk, hn, rfl, rfl, ht⟩ := TT
  obtain rfl := q6.symm
  have CC := hC
  obtain ⟨⟨rfl, rfl, q7, rfl⟩, _⟩ := CC
  obtain rfl := q7.symm
  have T0 : RT 0 a_token 0 a_token := ⟨rfl, 0, tk, by omega, rfl, rfl, fun k hk => absurd hk (Nat.not_lt_zero k)⟩
  refine x_where (q := q) (tk := tk) XQ' hn ht (fun ok CN' nu c16 cb => ?_) (fun no nu => ?_)
  · refine y_where (q := q) (tk := tk) YQ' hn ht (fun _ s => ⟨rfl, ?_⟩) (fun y => absurd ok y)
    refine mk_R (P := P) (q := q) (c := tk) (m := n) (CN := CN') hG hI T0 hS hQ ⟨⟨rfl, rfl, rfl, rfl⟩, ⟨hn, fun k hk => ?_, fun n0 => ?_⟩, c16, fun k hk h4 => (cb _).mpr ⟨k, hk, h4, rfl⟩, fun v hv => ?_⟩ (Or.inl rfl)
    · obtain ⟨a, b⟩ := ht k hk
      unfold cpy
      rw [if_pos hk]
      exact ⟨a, by rcases b with h | h | h <;> omega⟩
    · rcases ok with ok | ok
      · omega
      · exact AW_A ok.1
    · obtain ⟨k', k1, k2, k3⟩ := (cb v).mp hv
      rcases ok with ok | ok
      · omega
      · rw [← k3]; exact ok.2 k' k1 k2
  · refine y_where (q := q) (tk := tk) YQ' hn ht (fun y => absurd y no) (fun _ s => ⟨rfl, ?_⟩)
    exact mk_R hG hI T0 hS hQ hC hF
end
section
/-! an expression read -/
def SPk (tk : Nat → Nat) : Nat → Nat → Prop
  | 0 => fun o => o = 1
  | k + 1 => fun o => ∃ o', SPk tk k o' ∧ 0 < o' ∧ (tk k < 6 ∨ (10 ≤ tk k ∧ tk k ≤ 14)) ∧ o = if tk k < 6 then o' - 1 else if tk k < 12 then o' + 1 else o'
theorem SPk_u {tk : Nat → Nat} : ∀ {k o o'}, SPk tk k o → SPk tk k o' → o = o'
  | 0, o, o', h, h' => h.trans h'.symm
  | k + 1, o, o', h, h' => by
    obtain ⟨a, h1, _, _, e⟩ := h
    obtain ⟨a', h1', _, _, e'⟩ := h'
    rw [e, e', SPk_u h1 h1']
theorem SPk_stop {tk : Nat → Nat} {k o : Nat} (h : SPk tk k o) (no : o = 0 ∨ ¬ (tk k < 6 ∨ (10 ≤ tk k ∧ tk k ≤ 14))) : ∀ n, k < n → ∀ o', ¬ SPk tk n o' := by
  intro n
  induction n with
  | zero => intro hn; omega
  | succ n ih =>
    intro hn o' h'
    obtain ⟨a, h1, h2, h3, _⟩ := h'
    by_cases e : n = k
    · subst e
      have := SPk_u h h1
      rcases no with no | no
      · omega
      · exact no h3
    · exact ih (by omega) _ h1
theorem SPk_le {tk : Nat → Nat} : ∀ {k o}, SPk tk k o → o ≤ k + 1
  | 0, o, h => by have h : o = 1 := h; omega
  | k + 1, o, h => by
    obtain ⟨a, h1, _, _, e⟩ := h
    have := SPk_le h1
    split at e
    · omega
    · split at e <;> omega
theorem SPk_op {tk : Nat → Nat} : ∀ {n o}, SPk tk n o → ∃ op : Nat → Nat, op 0 = 1 ∧ op n = o ∧ ∀ k, k < n → (tk k < 6 ∨ (10 ≤ tk k ∧ tk k ≤ 14)) ∧ 0 < op k ∧ op (k + 1) = if tk k < 6 then op k - 1 else if tk k < 12 then op k + 1 else op k
  | 0, o, h => ⟨fun _ => 1, rfl, h.symm, fun k hk => absurd hk (Nat.not_lt_zero k)⟩
  | n + 1, o, h => by
    obtain ⟨a, h1, h2, h3, e⟩ := h
    obtain ⟨op, p1, p2, p3⟩ := SPk_op h1
    refine ⟨fun j => if j = n + 1 then o else op j, p1, if_pos rfl, fun k hk => ?_⟩
    by_cases y : k = n
    · subst y
      simp only [if_neg (show ¬ k = k + 1 by omega), if_true]
      rw [p2]
      exact ⟨h3, h2, e⟩
    · simp only [if_neg (show ¬ k = n + 1 by omega), if_neg (show ¬ k + 1 = n + 1 by omega)]
      exact p3 k (by omega)
def OKs (tk : Nat → Nat) (n : Nat) : Prop := (0 < n ∧ n ≤ 10) ∧ SPk tk n 0
section
variable {f_level f_indexed f_parts f_highs f_tokens f_conditionLength f_conditionNames f_depth f_found f_testAt f_count f_different f_cheapest f_positions f_starts f_accepts f_empty f_written f_target f_steps : Int32} {a_state a_old : Nat → Int64} {a_kept a_leaving a_coming a_ofType a_withLabels a_kind a_types a_direction a_low a_high a_variable a_labels a_token a_condition a_truth a_number a_variableOf a_atPart a_trail a_here a_bound a_named a_used a_weight a_left a_ends : Nat → Int32} {a_seen a_sum : Nat → Int64} {a_some a_letter a_follow a_firstOf a_lastOf a_nullable a_spelled a_visited a_front a_next : Nat → Int32} {post : Int32 → SX → Prop} {n : Nat} {tk : Nat → Nat}
theorem x_spell (hn : n ≤ 12) (ht : ∀ k, k < n → a_token k = nI (tk k) ∧ tkv (tk k)) (h1 : OKs tk n → ∀ d F L (nul : Bool) le a_letter a_follow a_firstOf a_lastOf a_nullable a_spelled, d ≤ 10 → gl_ok a_follow d → F < 2 ^ 10 → L < 2 ^ 10 → gl_E a_follow le 0 d F L nul (wk_h (wk_st tk n n)) → gl_S a_spelled le d → post 1 (f_level, f_indexed, f_parts, f_highs, 0, f_conditionLength, f_conditionNames, f_depth, f_found, f_testAt, f_count, f_different, f_cheapest, nI d, nI F, nI L, bi nul, 1, f_target, f_steps, a_state, a_old, a_kept, a_leaving, a_coming, a_ofType, a_withLabels, a_kind, a_types, a_direction, a_low, a_high, a_variable, a_labels, a_token, a_condition, a_truth, a_number, a_variableOf, a_atPart, a_trail, a_here, a_bound, a_named, a_used, a_weight, a_left, a_ends, a_seen, a_sum, a_some, a_letter, a_follow, a_firstOf, a_lastOf, a_nullable, a_spelled, a_visited, a_front, a_next)) (h0 : ¬ OKs tk n → post 0 (f_level, f_indexed, f_parts, f_highs, 0, f_conditionLength, f_conditionNames, f_depth, f_found, f_testAt, f_count, f_different, f_cheapest, f_positions, f_starts, f_accepts, f_empty, f_written, f_target, f_steps, a_state, a_old, a_kept, a_leaving, a_coming, a_ofType, a_withLabels, a_kind, a_types, a_direction, a_low, a_high, a_variable, a_labels, a_token, a_condition, a_truth, a_number, a_variableOf, a_atPart, a_trail, a_here, a_bound, a_named, a_used, a_weight, a_left, a_ends, a_seen, a_sum, a_some, a_letter, a_follow, a_firstOf, a_lastOf, a_nullable, a_spelled, a_visited, a_front, a_next)) : wpX_spell post (f_level, f_indexed, f_parts, f_highs, nI n, f_conditionLength, f_conditionNames, f_depth, f_found, f_testAt, f_count, f_different, f_cheapest, f_positions, f_starts, f_accepts, f_empty, f_written, f_target, f_steps, a_state, a_old, a_kept, a_leaving, a_coming, a_ofType, a_withLabels, a_kind, a_types, a_direction, a_low, a_high, a_variable, a_labels, a_token, a_condition, a_truth, a_number, a_variableOf, a_atPart, a_trail, a_here, a_bound, a_named, a_used, a_weight, a_left, a_ends, a_seen, a_sum, a_some, a_letter, a_follow, a_firstOf, a_lastOf, a_nullable, a_spelled, a_visited, a_front, a_next) := by
  unfold wpX_spell
  by_cases n0 : n = 0
  · exact br_t (congrArg nI n0) (h0 fun y => by have := y.1.1; omega)
  refine br_f (nI_ne0 (by omega) (by omega)) ?_
  by_cases n10 : n ≤ 10
  · refine br_t (nI_le (b := 10) n10 (by omega)) ⟨n + 1, ?_⟩
    have main : ∀ d k o, k + d = n → SPk tk k o → wX_spell_26 post (nI n) f_level f_indexed f_parts f_highs 0 f_conditionLength f_conditionNames f_depth f_found f_testAt f_count f_different f_cheapest f_positions f_starts f_accepts f_empty f_written f_target f_steps a_state a_old a_kept a_leaving a_coming a_ofType a_withLabels a_kind a_types a_direction a_low a_high a_variable a_labels a_token a_condition a_truth a_number a_variableOf a_atPart a_trail a_here a_bound a_named a_used a_weight a_left a_ends a_seen a_sum a_some a_letter a_follow a_firstOf a_lastOf a_nullable a_spelled a_visited a_front a_next (d + 1) (nI o) (nI k) := by
      intro d
      induction d with
      | zero =>
        intro k o e hS
        have : k = n := e
        subst this
        have ol := SPk_le hS
        refine br_t (nI_le (Nat.le_refl _) (by omega)) ?_
        by_cases o0 : o = 0
        · subst o0
          obtain ⟨op, p1, p2, p3⟩ := SPk_op hS
          exact br_t (by decide) (x_build (op := op) ⟨p1, p2, p3⟩ n10 (by omega) (fun k hk => (ht k hk).1) (h1 ⟨⟨by omega, n10⟩, hS⟩))
        · refine br_f (nI_nle (by omega) (by omega)) (h0 fun y => ?_)
          exact o0 (SPk_u hS y.2)
      | succ d ih =>
        intro k o e hS
        have ol := SPk_le hS
        obtain ⟨tk1, tk2⟩ := ht k (by omega)
        have t31 : tk k < 11000 := by rcases tk2 with h | h | h <;> omega
        have stop : (o = 0 ∨ ¬ (tk k < 6 ∨ (10 ≤ tk k ∧ tk k ≤ 14))) → post 0 (f_level, f_indexed, f_parts, f_highs, 0, f_conditionLength, f_conditionNames, f_depth, f_found, f_testAt, f_count, f_different, f_cheapest, f_positions, f_starts, f_accepts, f_empty, f_written, f_target, f_steps, a_state, a_old, a_kept, a_leaving, a_coming, a_ofType, a_withLabels, a_kind, a_types, a_direction, a_low, a_high, a_variable, a_labels, a_token, a_condition, a_truth, a_number, a_variableOf, a_atPart, a_trail, a_here, a_bound, a_named, a_used, a_weight, a_left, a_ends, a_seen, a_sum, a_some, a_letter, a_follow, a_firstOf, a_lastOf, a_nullable, a_spelled, a_visited, a_front, a_next) := fun z => h0 fun y => SPk_stop hS z n (by omega) _ y.2
        refine br_f (nI_ge (by omega) (by omega)) ⟨vp_in_nI (by omega) (by omega), nm_r (e' := nI (tk k)) (by rw [nI_clamp (by omega)]; exact tk1) ?_⟩
        by_cases o0 : o = 0
        · exact br_t (congrArg nI o0) (stop (Or.inl o0))
        refine br_f (nI_ne0 (by omega) (by omega)) ?_
        by_cases t15 : tk k = 15
        · exact br_t (congrArg nI t15) (stop (Or.inr (by omega)))
        refine br_f (fun y => t15 ((nI_eq (b := 15) (by omega) (by omega)).mp y)) ?_
        by_cases t16 : tk k = 16
        · exact br_t (congrArg nI t16) (stop (Or.inr (by omega)))
        refine br_f (fun y => t16 ((nI_eq (b := 16) (by omega) (by omega)).mp y)) ?_
        by_cases t999 : tk k ≤ 999
        · have tv : tk k < 6 ∨ (10 ≤ tk k ∧ tk k ≤ 14) := by rcases tk2 with h | h | h <;> omega
          have nxt : ∀ o', (o' = if tk k < 6 then o - 1 else if tk k < 12 then o + 1 else o) → wX_spell_26 post (nI n) f_level f_indexed f_parts f_highs 0 f_conditionLength f_conditionNames f_depth f_found f_testAt f_count f_different f_cheapest f_positions f_starts f_accepts f_empty f_written f_target f_steps a_state a_old a_kept a_leaving a_coming a_ofType a_withLabels a_kind a_types a_direction a_low a_high a_variable a_labels a_token a_condition a_truth a_number a_variableOf a_atPart a_trail a_here a_bound a_named a_used a_weight a_left a_ends a_seen a_sum a_some a_letter a_follow a_firstOf a_lastOf a_nullable a_spelled a_visited a_front a_next (d + 1) (nI o') (nI (k + 1)) := fun o' e' => ih (k + 1) o' (by omega) ⟨o, hS, by omega, tv, e'⟩
          refine br_t (nI_le (b := 999) t999 (by omega)) ?_
          by_cases t6 : 6 ≤ tk k
          · refine br_t (nI_le (a := 6) t6 (by omega)) ?_
            by_cases t12 : 12 ≤ tk k
            · exact br_t (nI_le (a := 12) t12 (by omega)) (nm_r (e' := nI o) (Int32.add_zero _) (nm_r (nI_1 k) (nxt o (by rw [if_neg (by omega), if_neg (by omega)]))))
            · exact br_f (nI_ge (b := 12) (by omega) (by omega)) (nm_r (nI_1 o) (nm_r (nI_1 k) (nxt (o + 1) (by rw [if_neg (by omega), if_pos (by omega)]))))
          · obtain ⟨o', rfl⟩ : ∃ o', o = o' + 1 := ⟨o - 1, by omega⟩
            exact br_f (nI_ge (b := 6) (by omega) (by omega)) (nm_r (pk_m1 o') (nm_r (nI_1 k) (nxt o' (by rw [if_pos (by omega)]; omega))))
        · exact br_f (nI_ge (a := 999) (by omega) (by omega)) (stop (Or.inr (by omega)))
    exact main n 0 1 (by omega) rfl
  · exact br_f (nI_ge (a := 10) (by omega) (by omega)) (h0 fun y => n10 y.1.2)
end
section
variable {yf_level yf_parts yf_pending yf_conditions yf_spelled yf_depth yf_used yf_weight yf_found yf_lightest yf_some : Int32} {yf_sum : Int64} {ya_labels : Nat → Int32} {ya_properties : Nat → Int64} {ya_from ya_to ya_types ya_weights ya_variable ya_wanted ya_among ya_direction ya_low ya_high ya_tokens ya_condition ya_expression ya_stack ya_part ya_steps ya_place ya_choice ya_bound ya_took ya_nodeOf ya_chosen ya_far : Nat → Int32} {post : Int32 → SY → Prop} {n : Nat} {tk : Nat → Nat}
theorem y_spell (hn : n ≤ 12) (ht : ∀ k, k < n → ya_tokens k = nI (tk k) ∧ tkv (tk k)) (h1 : OKs tk n → post 1 (yf_level, yf_parts, 0, yf_conditions, nI n, yf_depth, yf_used, yf_weight, yf_found, yf_lightest, yf_some, yf_sum, ya_labels, ya_properties, ya_from, ya_to, ya_types, ya_weights, ya_variable, ya_wanted, ya_among, ya_direction, ya_low, ya_high, ya_tokens, ya_condition, cpy ya_tokens ya_expression n, ya_stack, ya_part, ya_steps, ya_place, ya_choice, ya_bound, ya_took, ya_nodeOf, ya_chosen, ya_far)) (h0 : ¬ OKs tk n → post 0 (yf_level, yf_parts, 0, yf_conditions, yf_spelled, yf_depth, yf_used, yf_weight, yf_found, yf_lightest, yf_some, yf_sum, ya_labels, ya_properties, ya_from, ya_to, ya_types, ya_weights, ya_variable, ya_wanted, ya_among, ya_direction, ya_low, ya_high, ya_tokens, ya_condition, ya_expression, ya_stack, ya_part, ya_steps, ya_place, ya_choice, ya_bound, ya_took, ya_nodeOf, ya_chosen, ya_far)) : wpY_spell post (yf_level, yf_parts, nI n, yf_conditions, yf_spelled, yf_depth, yf_used, yf_weight, yf_found, yf_lightest, yf_some, yf_sum, ya_labels, ya_properties, ya_from, ya_to, ya_types, ya_weights, ya_variable, ya_wanted, ya_among, ya_direction, ya_low, ya_high, ya_tokens, ya_condition, ya_expression, ya_stack, ya_part, ya_steps, ya_place, ya_choice, ya_bound, ya_took, ya_nodeOf, ya_chosen, ya_far) := by
  have s110 : OKs tk n → ∃ kk, wY_spell_110 post (nI n) yf_level yf_parts 0 yf_conditions (nI n) yf_depth yf_used yf_weight yf_found yf_lightest yf_some yf_sum kk 0 ya_labels ya_properties ya_from ya_to ya_types ya_weights ya_variable ya_wanted ya_among ya_direction ya_low ya_high ya_tokens ya_condition ya_expression ya_stack ya_part ya_steps ya_place ya_choice ya_bound ya_took ya_nodeOf ya_chosen ya_far := by
    intro ok
    have key : ∀ kk i, i ≤ n → n - i < kk → wY_spell_110 post (nI n) yf_level yf_parts 0 yf_conditions (nI n) yf_depth yf_used yf_weight yf_found yf_lightest yf_some yf_sum kk (nI i) ya_labels ya_properties ya_from ya_to ya_types ya_weights ya_variable ya_wanted ya_among ya_direction ya_low ya_high ya_tokens ya_condition (cpy ya_tokens ya_expression i) ya_stack ya_part ya_steps ya_place ya_choice ya_bound ya_took ya_nodeOf ya_chosen ya_far := by
      intro kk
      induction kk with
      | zero => intro i _ hk; omega
      | succ kk ih =>
        intro i hi hk
        by_cases e : i = n
        · subst e
          exact br_t (nI_le (Nat.le_refl _) (by omega)) (h1 ok)
        · have vi : vp_in (nI i) 12 := vp_in_nI (by omega) (by omega)
          refine br_f (nI_ge (by omega) (by omega)) ⟨vi, vi, nm_r (e' := cpy ya_tokens ya_expression (i + 1)) ?_ (nm_r (nI_1 i) (ih (i + 1) (by omega) (by omega)))⟩
          rw [nI_clamp (by omega), cpy_s]
    have := key (n + 1) 0 (by omega) (by omega)
    rw [cpy_0] at this
    exact ⟨n + 1, this⟩
  have s87 : ∀ o, o < 100 → (OKs tk n → o = 0) → (o = 0 → 0 < n → n ≤ 10 → OKs tk n) → wY_spell_87 post (nI n) (nI o) yf_level yf_parts 0 yf_conditions yf_spelled yf_depth yf_used yf_weight yf_found yf_lightest yf_some yf_sum ya_labels ya_properties ya_from ya_to ya_types ya_weights ya_variable ya_wanted ya_among ya_direction ya_low ya_high ya_tokens ya_condition ya_expression ya_stack ya_part ya_steps ya_place ya_choice ya_bound ya_took ya_nodeOf ya_chosen ya_far := by
    intro o o100 a b
    by_cases n0 : n = 0
    · exact br_t (congrArg nI n0) (h0 fun y => by have := y.1.1; omega)
    refine br_f (nI_ne0 (by omega) (by omega)) ?_
    by_cases n10 : 10 < n
    · exact br_t (nI_lt (a := 10) n10 (by omega)) (h0 fun y => by have := y.1.2; omega)
    refine br_f (nI_nlt (a := 10) (by omega) (by omega)) ?_
    by_cases o0 : o = 0
    · subst o0
      exact br_t (by decide) (s110 (b rfl (by omega) (by omega)))
    · exact br_f (nI_nle (by omega) (by omega)) (h0 fun y => o0 (a y))
  have main : ∀ d k o, k + d = n → SPk tk k o → (o = 0 → k = n) → wY_spell_14 post (nI n) yf_level yf_parts 0 yf_conditions yf_spelled yf_depth yf_used yf_weight yf_found yf_lightest yf_some yf_sum ya_labels ya_properties ya_from ya_to ya_types ya_weights ya_variable ya_wanted ya_among ya_direction ya_low ya_high ya_tokens ya_condition ya_expression ya_stack ya_part ya_steps ya_place ya_choice ya_bound ya_took ya_nodeOf ya_chosen ya_far (d + 1) (nI o) (nI k) := by
    intro d
    induction d with
    | zero =>
      intro k o e hS _
      have : k = n := e
      subst this
      have ol := SPk_le hS
      exact br_t (nI_le (Nat.le_refl _) (by omega)) (s87 o (by omega) (fun y => SPk_u hS y.2) (fun o0 a b => ⟨⟨a, b⟩, by rw [← o0]; exact hS⟩))
    | succ d ih =>
      intro k o e hS ho
      have ol := SPk_le hS
      obtain ⟨tk1, tk2⟩ := ht k (by omega)
      have t31 : tk k < 11000 := by rcases tk2 with h | h | h <;> omega
      have o1 : 0 < o := by
        rcases Nat.eq_zero_or_pos o with y | y
        · have := ho y; omega
        · exact y
      have ck : (nI k).toNatClampNeg = k := nI_clamp (by omega)
      have vk : vp_in (nI k) 12 := vp_in_nI (by omega) (by omega)
      have s55 : ∀ (z0 : Int32) (o' : Nat), o' < 100 → nI o + z0 = nI o' → (o' = if tk k < 6 then o - 1 else if tk k < 12 then o + 1 else o) → wY_spell_55 post (wY_spell_14 post (nI n) yf_level yf_parts 0 yf_conditions yf_spelled yf_depth yf_used yf_weight yf_found yf_lightest yf_some yf_sum ya_labels ya_properties ya_from ya_to ya_types ya_weights ya_variable ya_wanted ya_among ya_direction ya_low ya_high ya_tokens ya_condition ya_expression ya_stack ya_part ya_steps ya_place ya_choice ya_bound ya_took ya_nodeOf ya_chosen ya_far (d + 1)) (nI n) (nI k) z0 (nI o) yf_level yf_parts 0 yf_conditions yf_spelled yf_depth yf_used yf_weight yf_found yf_lightest yf_some yf_sum ya_labels ya_properties ya_from ya_to ya_types ya_weights ya_variable ya_wanted ya_among ya_direction ya_low ya_high ya_tokens ya_condition ya_expression ya_stack ya_part ya_steps ya_place ya_choice ya_bound ya_took ya_nodeOf ya_chosen ya_far := by
        intro z0 o' o100 hz e'
        refine nm_r hz ⟨vk, ?_⟩
        rw [ck, tk1]
        by_cases t14 : 14 < tk k
        · exact br_t (nI_lt (a := 14) t14 (by omega)) (h0 fun y => SPk_stop hS (Or.inr (by omega)) n (by omega) _ y.2)
        · have tv : tk k < 6 ∨ (10 ≤ tk k ∧ tk k ≤ 14) := by rcases tk2 with h | h | h <;> omega
          have S1 : SPk tk (k + 1) o' := ⟨o, hS, o1, tv, e'⟩
          have n1 : nI n - 1 = nI (n - 1) := pk_sub (a := n) (b := 1) (by omega)
          refine br_f (nI_nlt (a := 14) (by omega) (by omega)) ?_
          by_cases oz : o' = 0
          · refine br_t (congrArg nI oz) ?_
            rw [n1]
            by_cases kn : n - 1 ≤ k
            · exact br_t (nI_le kn (by omega)) (nm_r (nI_1 k) (ih (k + 1) o' (by omega) S1 (fun _ => by omega)))
            · exact br_f (nI_ge (by omega) (by omega)) (h0 fun y => SPk_stop S1 (Or.inl oz) n (by omega) _ y.2)
          · exact br_f (nI_ne0 (by omega) (by omega)) (nm_r (nI_1 k) (ih (k + 1) o' (by omega) S1 (fun y => absurd y oz)))
      refine br_f (nI_ge (by omega) (by omega)) (br_f (nI_nle (by omega) (by omega)) ⟨vk, ?_⟩)
      rw [ck, tk1]
      by_cases t6 : 6 ≤ tk k
      · refine br_t (nI_le (a := 6) t6 (by omega)) ⟨vk, ?_⟩
        by_cases t12 : 12 ≤ tk k
        · exact br_t (nI_le (a := 12) t12 (by omega)) (s55 0 o (by omega) (Int32.add_zero _) (by rw [if_neg (by omega), if_neg (by omega)]))
        · exact br_f (nI_ge (b := 12) (by omega) (by omega)) (s55 1 (o + 1) (by omega) (nI_1 o) (by rw [if_neg (by omega), if_pos (by omega)]))
      · refine br_f (nI_ge (b := 6) (by omega) (by omega)) ?_
        obtain ⟨o', rfl⟩ : ∃ o', o = o' + 1 := ⟨o - 1, by omega⟩
        exact s55 (-1) o' (by omega) (pk_m1 o') (by rw [if_pos (by omega)]; omega)
  unfold wpY_spell
  exact ⟨n + 1, main n 0 1 (by omega) rfl (fun y => absurd y (by decide))⟩
end
theorem i_vc_spell {k : Nat} {u : SX} {v : SY} (I : i_Rel k u v) (hk : k + 7 ≤ 3584) : wpX_spell (fun r u' => wpY_spell (fun r' v' => r' = r ∧ i_Rel (k + 7) u' v') v) u := by
  refine el_R (R := fun u v => wpX_spell (fun r u' => wpY_spell (fun r' v' => r' = r ∧ i_Rel (k + 7) u' v') v) u) ?_ I
  intro f_level f_indexed f_parts f_highs f_tokens f_conditionLength f_conditionNames f_depth f_found f_testAt f_count f_different f_cheapest f_positions f_starts f_accepts f_empty f_written f_target f_steps a_state a_old a_kept a_leaving a_coming a_ofType a_withLabels a_kind a_types a_direction a_low a_high a_variable a_labels a_token a_condition a_truth a_number a_variableOf a_atPart a_trail a_here a_bound a_named a_used a_weight a_left a_ends a_seen a_sum a_some a_letter a_follow a_firstOf a_lastOf a_nullable a_spelled a_visited a_front a_next yf_level yf_parts yf_pending yf_conditions yf_spelled yf_depth yf_used yf_weight yf_found yf_lightest yf_some yf_sum ya_labels ya_properties ya_from ya_to ya_types ya_weights ya_variable ya_wanted ya_among ya_direction ya_low ya_high ya_tokens ya_condition ya_expression ya_stack ya_part ya_steps ya_place ya_choice ya_bound ya_took ya_nodeOf ya_chosen ya_far P q c m CN hG hI hT hS hQ hC hF
  have TT := hT
  obtain ⟨q6, n, tk, hn, rfl, rfl, ht⟩ := TT
  obtain rfl := q6.symm
  have T0 : RT 0 a_token 0 a_token := ⟨rfl, 0, tk, by omega, rfl, rfl, fun k hk => absurd hk (Nat.not_lt_zero k)⟩
  refine x_spell (tk := tk) hn ht (fun ok d F L nul le letter follow firstOf lastOf nullable spelled d10 okf hF' hL' E SP => ?_) (fun no => ?_)
  · refine y_spell (tk := tk) hn ht (fun _ => ⟨rfl, ?_⟩) (fun y => absurd ok y)
    obtain ⟨op, p1, p2, p3⟩ := SPk_op ok.2
    refine mk_R hG hI T0 (Or.inr ⟨rfl, n, tk, op, d, F, L, le, nul, ⟨p1, p2, p3⟩, ok.1, ⟨rfl, fun k hk => ?_⟩, ⟨d10, hF', hL'⟩, ⟨rfl, rfl, rfl, rfl⟩, okf, E, SP⟩) hQ hC hF
    unfold cpy
    rw [if_pos hk]
    exact (ht k hk).1
  · exact y_spell (tk := tk) hn ht (fun y => absurd y no) (fun _ => ⟨rfl, mk_R hG hI T0 hS hQ hC hF⟩)
end
section
/-! the answers of the query -/
section
variable {f_level f_indexed f_parts f_highs f_tokens f_conditionLength f_conditionNames f_depth f_found f_testAt f_count f_different f_cheapest f_positions f_starts f_accepts f_empty f_written f_target f_steps : Int32} {a_state a_old : Nat → Int64} {a_kept a_leaving a_coming a_ofType a_withLabels a_kind a_types a_direction a_low a_high a_variable a_labels a_token a_condition a_truth a_number a_variableOf a_atPart a_trail a_here a_bound a_named a_used a_weight a_left a_ends : Nat → Int32} {a_seen a_sum : Nat → Int64} {a_some a_letter a_follow a_firstOf a_lastOf a_nullable a_spelled a_visited a_front a_next : Nat → Int32} {P : Nat} {q : Nat → Nat → Nat}
theorem x_isNamed {post : Int32 → Prop} {v : Int32} (hP : P ≤ 6) (hq : ∀ p, p < P → a_variable p = nI (q 5 p) ∧ q 5 p < 4) (h1 : (∃ n, n < 4 ∧ v = nI n ∧ ∃ p, p < P ∧ q 5 p = n) → post 1) (h0 : ¬ (∃ n, n < 4 ∧ v = nI n ∧ ∃ p, p < P ∧ q 5 p = n) → post 0) : wpX_isNamed post (f_level, f_indexed, nI P, f_highs, f_tokens, f_conditionLength, f_conditionNames, f_depth, f_found, f_testAt, f_count, f_different, f_cheapest, f_positions, f_starts, f_accepts, f_empty, f_written, f_target, f_steps, a_state, a_old, a_kept, a_leaving, a_coming, a_ofType, a_withLabels, a_kind, a_types, a_direction, a_low, a_high, a_variable, a_labels, a_token, a_condition, a_truth, a_number, a_variableOf, a_atPart, a_trail, a_here, a_bound, a_named, a_used, a_weight, a_left, a_ends, a_seen, a_sum, a_some, a_letter, a_follow, a_firstOf, a_lastOf, a_nullable, a_spelled, a_visited, a_front, a_next) v := by
  unfold wpX_isNamed
  refine xo (fun a b => br_t rfl ?_) (fun a => br_f (by decide) (h0 fun ⟨n, n1, n2, _⟩ => a (by rw [n2]; exact rg_iff (b := 3) (by omega) (by omega))))
  obtain ⟨n, hn, rfl⟩ := rg_of (b := 3) (by omega) a b
  refine x_names (va := q 5) hP hq fun S hS hb => ?_
  cases z : S.testBit n with
  | false =>
    refine br_t ((bb_bit (by omega) (by omega)).mpr z) (h0 fun ⟨n', n1, n2, n3⟩ => ?_)
    have : n = n' := (nI_eq (by omega) (by omega)).mp n2
    subst this
    have := (hb n).mpr n3
    rw [z] at this
    exact absurd this (by decide)
  | true => exact br_f ((bb_bitT (by omega) (by omega)).mpr z) (h1 ⟨n, by omega, rfl, (hb n).mp z⟩)
end
theorem i_vc_matches {k : Nat} {u : SX} {v : SY} (I : i_Rel k u v) (hk : k + 7 ≤ 3584) : wpX_matches (fun r u' => wpY_matches (fun r' v' => r' = r ∧ i_Rel (k + 7) u' v') v) u := by
  refine el_R (R := fun u v => wpX_matches (fun r u' => wpY_matches (fun r' v' => r' = r ∧ i_Rel (k + 7) u' v') v) u) ?_ I
  intro f_level f_indexed f_parts f_highs f_tokens f_conditionLength f_conditionNames f_depth f_found f_testAt f_count f_different f_cheapest f_positions f_starts f_accepts f_empty f_written f_target f_steps a_state a_old a_kept a_leaving a_coming a_ofType a_withLabels a_kind a_types a_direction a_low a_high a_variable a_labels a_token a_condition a_truth a_number a_variableOf a_atPart a_trail a_here a_bound a_named a_used a_weight a_left a_ends a_seen a_sum a_some a_letter a_follow a_firstOf a_lastOf a_nullable a_spelled a_visited a_front a_next yf_level yf_parts yf_pending yf_conditions yf_spelled yf_depth yf_used yf_weight yf_found yf_lightest yf_some yf_sum ya_labels ya_properties ya_from ya_to ya_types ya_weights ya_variable ya_wanted ya_among ya_direction ya_low ya_high ya_tokens ya_condition ya_expression ya_stack ya_part ya_steps ya_place ya_choice ya_bound ya_took ya_nodeOf ya_chosen ya_far P q c m CN hG hI hT hS hQ hC hF
  have QQ := hQ
  obtain ⟨⟨rfl, rfl, rfl⟩, ⟨q1, q2, q3, q4, q5'⟩, XQ', YQ'⟩ := QQ
  obtain rfl := q1.symm
  obtain rfl := q2.symm
  obtain rfl := q3.symm
  obtain rfl := q4.symm
  obtain rfl := q5'.symm
  have CC := hC
  obtain ⟨⟨rfl, rfl, q7, rfl⟩, CO', cn16, cn1, cn2⟩ := CC
  obtain rfl := q7.symm
  have GG := hG
  obtain ⟨L, T, hL, rfl, rfl, SS, G, H⟩ := GG
  have hP := XQ'.1
  have YC' : YC P q c m a_state ya_labels ya_properties ya_from ya_to ya_types ya_weights a_variable a_labels ya_among a_direction a_low a_high a_condition := ⟨YQ', G.1, G.2.1, G.2.2, CO', fun k hk h4 => cn2 _ (cn1 k hk h4)⟩
  have hv5 : ∀ p, p < P → a_variable p = nI (q 5 p) ∧ q 5 p < 4 := fun p hp => ⟨(XQ'.2.2 p hp).1.2.1, (XQ'.2.2 p hp).1.2.2.1⟩
  unfold wpX_matches
  refine x_search (q := q) (c := c) XQ' G.1 hI CO' cn16 cn1 cn2 hF fun ix a_leaving' a_coming' a_ofType' a_withLabels' ta f_depth' a_truth' a_number' a_variableOf' a_atPart' a_trail' a_here' a_bound' a_named' a_used' a_weight' a_left' a_ends' f_count' f_different' f_cheapest' a_seen' a_sum' a_some' RI' A => ?_
  have R1 : ∀ (ya_part' ya_steps' ya_place' ya_choice' ya_bound' ya_took' : Nat → Int32) (yf_found' yf_lightest' yf_some' : Int32) (yf_sum' : Int64) (ya_chosen' : Nat → Int32) (yf_depth' yf_used' yf_weight' : Int32) (ya_stack' ya_nodeOf' : Nat → Int32), i_Rel (k + 7) (nI L, ix, nI P, nI (qH q P), f_tokens, nI m, nI CN, f_depth', 1, ta, f_count', f_different', f_cheapest', f_positions, f_starts, f_accepts, f_empty, f_written, f_target, f_steps, a_state, a_old, a_kept, a_leaving', a_coming', a_ofType', a_withLabels', a_kind, a_types, a_direction, a_low, a_high, a_variable, a_labels, a_token, a_condition, a_truth', a_number', a_variableOf', a_atPart', a_trail', a_here', a_bound', a_named', a_used', a_weight', a_left', a_ends', a_seen', a_sum', a_some', a_letter, a_follow, a_firstOf, a_lastOf, a_nullable, a_spelled, a_visited, a_front, a_next) (nI L, nI P, yf_pending, nI m, yf_spelled, yf_depth', yf_used', yf_weight', yf_found', yf_lightest', yf_some', yf_sum', ya_labels, ya_properties, ya_from, ya_to, ya_types, ya_weights, a_variable, a_labels, ya_among, a_direction, a_low, a_high, ya_tokens, a_condition, ya_expression, ya_stack', ya_part', ya_steps', ya_place', ya_choice', ya_bound', ya_took', ya_nodeOf', ya_chosen', ya_far) := fun ya_part' ya_steps' ya_place' ya_choice' ya_bound' ya_took' yf_found' yf_lightest' yf_some' yf_sum' ya_chosen' yf_depth' yf_used' yf_weight' ya_stack' ya_nodeOf' => mk_R hG RI' hT hS hQ hC (Or.inr ⟨rfl, A⟩)
  have R0 : i_Rel (k + 7) (nI L, ix, nI P, nI (qH q P), f_tokens, nI m, nI CN, f_depth', 1, ta, f_count', f_different', f_cheapest', f_positions, f_starts, f_accepts, f_empty, f_written, f_target, f_steps, a_state, a_old, a_kept, a_leaving', a_coming', a_ofType', a_withLabels', a_kind, a_types, a_direction, a_low, a_high, a_variable, a_labels, a_token, a_condition, a_truth', a_number', a_variableOf', a_atPart', a_trail', a_here', a_bound', a_named', a_used', a_weight', a_left', a_ends', a_seen', a_sum', a_some', a_letter, a_follow, a_firstOf, a_lastOf, a_nullable, a_spelled, a_visited, a_front, a_next) (nI L, nI P, yf_pending, nI m, yf_spelled, yf_depth, yf_used, yf_weight, yf_found, yf_lightest, yf_some, yf_sum, ya_labels, ya_properties, ya_from, ya_to, ya_types, ya_weights, a_variable, a_labels, ya_among, a_direction, a_low, a_high, ya_tokens, a_condition, ya_expression, ya_stack, ya_part, ya_steps, ya_place, ya_choice, ya_bound, ya_took, ya_nodeOf, ya_chosen, ya_far) := mk_R hG RI' hT hS hQ hC (Or.inr ⟨rfl, A⟩)
  have A1 := A.1
  have l1 : ((se_M a_state q P c m).take 1001).length ≤ 1001 := by rw [List.length_take]; omega
  have yq : ∀ r : Int32, r = (if ((se_M a_state q P c m).take 1001).length ≤ 1000 then nI ((se_M a_state q P c m).take 1001).length else -3) → wpY_matches (fun r' v' => r' = r ∧ i_Rel (k + 7) (nI L, ix, nI P, nI (qH q P), f_tokens, nI m, nI CN, f_depth', 1, ta, f_count', f_different', f_cheapest', f_positions, f_starts, f_accepts, f_empty, f_written, f_target, f_steps, a_state, a_old, a_kept, a_leaving', a_coming', a_ofType', a_withLabels', a_kind, a_types, a_direction, a_low, a_high, a_variable, a_labels, a_token, a_condition, a_truth', a_number', a_variableOf', a_atPart', a_trail', a_here', a_bound', a_named', a_used', a_weight', a_left', a_ends', a_seen', a_sum', a_some', a_letter, a_follow, a_firstOf, a_lastOf, a_nullable, a_spelled, a_visited, a_front, a_next) v') (nI L, nI P, yf_pending, nI m, yf_spelled, yf_depth, yf_used, yf_weight, yf_found, yf_lightest, yf_some, yf_sum, ya_labels, ya_properties, ya_from, ya_to, ya_types, ya_weights, a_variable, a_labels, ya_among, a_direction, a_low, a_high, ya_tokens, a_condition, ya_expression, ya_stack, ya_part, ya_steps, ya_place, ya_choice, ya_bound, ya_took, ya_nodeOf, ya_chosen, ya_far) := by
    intro r hr
    unfold wpY_matches
    refine y_search (v := 0) YC' (by omega) fun ya_part' ya_steps' ya_place' ya_choice' ya_bound' ya_took' yf_found' yf_lightest' yf_some' yf_sum' ya_chosen' yf_depth' yf_used' yf_weight' ya_stack' ya_nodeOf' B => ?_
    rw [B.1]
    by_cases z : ((se_M a_state q P c m).take 1001).length ≤ 1000
    · rw [if_pos z] at hr
      exact br_t (nI_le (b := 1000) z (by omega)) ⟨hr.symm, by rw [← B.1]; exact R1 _ _ _ _ _ _ _ _ _ _ _ _ _ _ _ _⟩
    · rw [if_neg z] at hr
      exact br_f (nI_ge (a := 1000) (by omega) (by omega)) ⟨hr.symm, by rw [← B.1]; exact R1 _ _ _ _ _ _ _ _ _ _ _ _ _ _ _ _⟩
  by_cases z : ((se_M a_state q P c m).take 1001).length ≤ 1000
  · refine br_t (by rw [A1]; exact nI_le (b := 1000) z (by omega)) (yq _ ?_)
    rw [if_pos z]; exact A1
  · refine br_f (by rw [A1]; exact nI_ge (a := 1000) (by omega) (by omega)) (yq _ ?_)
    rw [if_neg z]
end
section
/-! rows -/
theorem i_vc_rows {k : Nat} {u : SX} {v : SY} (I : i_Rel k u v) (hk : k + 7 ≤ 3584) : wpX_rows (fun r u' => wpY_rows (fun r' v' => r' = r ∧ i_Rel (k + 7) u' v') v) u := by
  refine el_R (R := fun u v => wpX_rows (fun r u' => wpY_rows (fun r' v' => r' = r ∧ i_Rel (k + 7) u' v') v) u) ?_ I
  intro f_level f_indexed f_parts f_highs f_tokens f_conditionLength f_conditionNames f_depth f_found f_testAt f_count f_different f_cheapest f_positions f_starts f_accepts f_empty f_written f_target f_steps a_state a_old a_kept a_leaving a_coming a_ofType a_withLabels a_kind a_types a_direction a_low a_high a_variable a_labels a_token a_condition a_truth a_number a_variableOf a_atPart a_trail a_here a_bound a_named a_used a_weight a_left a_ends a_seen a_sum a_some a_letter a_follow a_firstOf a_lastOf a_nullable a_spelled a_visited a_front a_next yf_level yf_parts yf_pending yf_conditions yf_spelled yf_depth yf_used yf_weight yf_found yf_lightest yf_some yf_sum ya_labels ya_properties ya_from ya_to ya_types ya_weights ya_variable ya_wanted ya_among ya_direction ya_low ya_high ya_tokens ya_condition ya_expression ya_stack ya_part ya_steps ya_place ya_choice ya_bound ya_took ya_nodeOf ya_chosen ya_far P q c m CN hG hI hT hS hQ hC hF
  have QQ := hQ
  obtain ⟨⟨rfl, rfl, rfl⟩, ⟨q1, q2, q3, q4, q5'⟩, XQ', YQ'⟩ := QQ
  obtain rfl := q1.symm
  obtain rfl := q2.symm
  obtain rfl := q3.symm
  obtain rfl := q4.symm
  obtain rfl := q5'.symm
  have CC := hC
  obtain ⟨⟨rfl, rfl, q7, rfl⟩, CO', cn16, cn1, cn2⟩ := CC
  obtain rfl := q7.symm
  have GG := hG
  obtain ⟨L, T, hL, rfl, rfl, SS, G, H⟩ := GG
  have hP := XQ'.1
  have YC' : YC P q c m a_state ya_labels ya_properties ya_from ya_to ya_types ya_weights a_variable a_labels ya_among a_direction a_low a_high a_condition := ⟨YQ', G.1, G.2.1, G.2.2, CO', fun k hk h4 => cn2 _ (cn1 k hk h4)⟩
  have hv5 : ∀ p, p < P → a_variable p = nI (q 5 p) ∧ q 5 p < 4 := fun p hp => ⟨(XQ'.2.2 p hp).1.2.1, (XQ'.2.2 p hp).1.2.2.1⟩
  unfold wpX_rows
  refine x_search (q := q) (c := c) XQ' G.1 hI CO' cn16 cn1 cn2 hF fun ix a_leaving' a_coming' a_ofType' a_withLabels' ta f_depth' a_truth' a_number' a_variableOf' a_atPart' a_trail' a_here' a_bound' a_named' a_used' a_weight' a_left' a_ends' f_count' f_different' f_cheapest' a_seen' a_sum' a_some' RI' A => ?_
  have R1 : ∀ (ya_part' ya_steps' ya_place' ya_choice' ya_bound' ya_took' : Nat → Int32) (yf_found' yf_lightest' yf_some' : Int32) (yf_sum' : Int64) (ya_chosen' : Nat → Int32) (yf_depth' yf_used' yf_weight' : Int32) (ya_stack' ya_nodeOf' : Nat → Int32), i_Rel (k + 7) (nI L, ix, nI P, nI (qH q P), f_tokens, nI m, nI CN, f_depth', 1, ta, f_count', f_different', f_cheapest', f_positions, f_starts, f_accepts, f_empty, f_written, f_target, f_steps, a_state, a_old, a_kept, a_leaving', a_coming', a_ofType', a_withLabels', a_kind, a_types, a_direction, a_low, a_high, a_variable, a_labels, a_token, a_condition, a_truth', a_number', a_variableOf', a_atPart', a_trail', a_here', a_bound', a_named', a_used', a_weight', a_left', a_ends', a_seen', a_sum', a_some', a_letter, a_follow, a_firstOf, a_lastOf, a_nullable, a_spelled, a_visited, a_front, a_next) (nI L, nI P, yf_pending, nI m, yf_spelled, yf_depth', yf_used', yf_weight', yf_found', yf_lightest', yf_some', yf_sum', ya_labels, ya_properties, ya_from, ya_to, ya_types, ya_weights, a_variable, a_labels, ya_among, a_direction, a_low, a_high, ya_tokens, a_condition, ya_expression, ya_stack', ya_part', ya_steps', ya_place', ya_choice', ya_bound', ya_took', ya_nodeOf', ya_chosen', ya_far) := fun ya_part' ya_steps' ya_place' ya_choice' ya_bound' ya_took' yf_found' yf_lightest' yf_some' yf_sum' ya_chosen' yf_depth' yf_used' yf_weight' ya_stack' ya_nodeOf' => mk_R hG RI' hT hS hQ hC (Or.inr ⟨rfl, A⟩)
  have R0 : i_Rel (k + 7) (nI L, ix, nI P, nI (qH q P), f_tokens, nI m, nI CN, f_depth', 1, ta, f_count', f_different', f_cheapest', f_positions, f_starts, f_accepts, f_empty, f_written, f_target, f_steps, a_state, a_old, a_kept, a_leaving', a_coming', a_ofType', a_withLabels', a_kind, a_types, a_direction, a_low, a_high, a_variable, a_labels, a_token, a_condition, a_truth', a_number', a_variableOf', a_atPart', a_trail', a_here', a_bound', a_named', a_used', a_weight', a_left', a_ends', a_seen', a_sum', a_some', a_letter, a_follow, a_firstOf, a_lastOf, a_nullable, a_spelled, a_visited, a_front, a_next) (nI L, nI P, yf_pending, nI m, yf_spelled, yf_depth, yf_used, yf_weight, yf_found, yf_lightest, yf_some, yf_sum, ya_labels, ya_properties, ya_from, ya_to, ya_types, ya_weights, a_variable, a_labels, ya_among, a_direction, a_low, a_high, ya_tokens, a_condition, ya_expression, ya_stack, ya_part, ya_steps, ya_place, ya_choice, ya_bound, ya_took, ya_nodeOf, ya_chosen, ya_far) := mk_R hG RI' hT hS hQ hC (Or.inr ⟨rfl, A⟩)
  have A1 := A.1
  have l1 : ((se_M a_state q P c m).take 1001).length ≤ 1001 := by rw [List.length_take]; omega
  have A2 := A.2.1
  have c4096 := cq_le (se_in ((se_M a_state q P c m).take 1001)) 4096
  have yq : ∀ r : Int32, r = (if ((se_M a_state q P c m).take 1001).length ≤ 1000 then nI (cq (se_in ((se_M a_state q P c m).take 1001)) 4096) else -3) → wpY_rows (fun r' v' => r' = r ∧ i_Rel (k + 7) (nI L, ix, nI P, nI (qH q P), f_tokens, nI m, nI CN, f_depth', 1, ta, f_count', f_different', f_cheapest', f_positions, f_starts, f_accepts, f_empty, f_written, f_target, f_steps, a_state, a_old, a_kept, a_leaving', a_coming', a_ofType', a_withLabels', a_kind, a_types, a_direction, a_low, a_high, a_variable, a_labels, a_token, a_condition, a_truth', a_number', a_variableOf', a_atPart', a_trail', a_here', a_bound', a_named', a_used', a_weight', a_left', a_ends', a_seen', a_sum', a_some', a_letter, a_follow, a_firstOf, a_lastOf, a_nullable, a_spelled, a_visited, a_front, a_next) v') (nI L, nI P, yf_pending, nI m, yf_spelled, yf_depth, yf_used, yf_weight, yf_found, yf_lightest, yf_some, yf_sum, ya_labels, ya_properties, ya_from, ya_to, ya_types, ya_weights, a_variable, a_labels, ya_among, a_direction, a_low, a_high, ya_tokens, a_condition, ya_expression, ya_stack, ya_part, ya_steps, ya_place, ya_choice, ya_bound, ya_took, ya_nodeOf, ya_chosen, ya_far) := by
    intro r hr
    unfold wpY_rows
    refine y_search (v := 0) YC' (by omega) fun ya_part' ya_steps' ya_place' ya_choice' ya_bound' ya_took' yf_found' yf_lightest' yf_some' yf_sum' ya_chosen' yf_depth' yf_used' yf_weight' ya_stack' ya_nodeOf' B => ?_
    have key : ∀ kk i, i + kk = 4096 → wY_rows_9 (fun r' v' => r' = r ∧ i_Rel (k + 7) (nI L, ix, nI P, nI (qH q P), f_tokens, nI m, nI CN, f_depth', 1, ta, f_count', f_different', f_cheapest', f_positions, f_starts, f_accepts, f_empty, f_written, f_target, f_steps, a_state, a_old, a_kept, a_leaving', a_coming', a_ofType', a_withLabels', a_kind, a_types, a_direction, a_low, a_high, a_variable, a_labels, a_token, a_condition, a_truth', a_number', a_variableOf', a_atPart', a_trail', a_here', a_bound', a_named', a_used', a_weight', a_left', a_ends', a_seen', a_sum', a_some', a_letter, a_follow, a_firstOf, a_lastOf, a_nullable, a_spelled, a_visited, a_front, a_next) v') (nI L) (nI P) yf_pending (nI m) yf_spelled yf_depth' yf_used' yf_weight' yf_found' yf_lightest' yf_some' yf_sum' ya_labels ya_properties ya_from ya_to ya_types ya_weights a_variable a_labels ya_among a_direction a_low a_high ya_tokens a_condition ya_expression ya_stack' ya_part' ya_steps' ya_place' ya_choice' ya_bound' ya_took' ya_nodeOf' ya_chosen' ya_far (kk + 1) (nI (cq (se_in ((se_M a_state q P c m).take 1001)) i)) (nI i) := by
      intro kk
      induction kk with
      | zero =>
        intro i e
        have : i = 4096 := e
        subst this
        refine br_t (nI_le (b := 4096) (Nat.le_refl _) (by omega)) ?_
        rw [B.1]
        by_cases z : ((se_M a_state q P c m).take 1001).length ≤ 1000
        · rw [if_pos z] at hr
          exact br_t (nI_le (b := 1000) z (by omega)) ⟨hr.symm, by rw [← B.1]; exact R1 _ _ _ _ _ _ _ _ _ _ _ _ _ _ _ _⟩
        · rw [if_neg z] at hr
          exact br_f (nI_ge (a := 1000) (by omega) (by omega)) ⟨hr.symm, by rw [← B.1]; exact R1 _ _ _ _ _ _ _ _ _ _ _ _ _ _ _ _⟩
      | succ kk ih =>
        intro i e
        have nxt := ih (i + 1) (by omega)
        simp only [cq] at nxt
        refine br_f (nI_ge (b := 4096) (by omega) (by omega)) ⟨vp_in_nI (by omega) (by omega), ?_⟩
        rw [nI_clamp (by omega), B.2.2.2.2 i (by omega)]
        cases z : se_in ((se_M a_state q P c m).take 1001) i with
        | false =>
          rw [z] at nxt
          exact br_t rfl (nm_r (nI_1 i) nxt)
        | true =>
          rw [z] at nxt
          exact br_f (by decide) (nm_r (nI_1 _) (nm_r (nI_1 i) nxt))
    have fin := key 4096 0 (by omega)
    rw [show cq (se_in ((se_M a_state q P c m).take 1001)) 0 = 0 from rfl, nI_0] at fin
    exact ⟨_, fin⟩
  by_cases z : ((se_M a_state q P c m).take 1001).length ≤ 1000
  · refine br_t (by rw [A1]; exact nI_le (b := 1000) z (by omega)) (yq _ ?_)
    rw [if_pos z]; exact A2
  · refine br_f (by rw [A1]; exact nI_ge (a := 1000) (by omega) (by omega)) (yq _ ?_)
    rw [if_neg z]
end
section
/-! least, total -/
theorem i_vc_least {k : Nat} {u : SX} {v : SY} (I : i_Rel k u v) (hk : k + 7 ≤ 3584) : wpX_least (fun r u' => wpY_least (fun r' v' => r' = r ∧ i_Rel (k + 7) u' v') v) u := by
  refine el_R (R := fun u v => wpX_least (fun r u' => wpY_least (fun r' v' => r' = r ∧ i_Rel (k + 7) u' v') v) u) ?_ I
  intro f_level f_indexed f_parts f_highs f_tokens f_conditionLength f_conditionNames f_depth f_found f_testAt f_count f_different f_cheapest f_positions f_starts f_accepts f_empty f_written f_target f_steps a_state a_old a_kept a_leaving a_coming a_ofType a_withLabels a_kind a_types a_direction a_low a_high a_variable a_labels a_token a_condition a_truth a_number a_variableOf a_atPart a_trail a_here a_bound a_named a_used a_weight a_left a_ends a_seen a_sum a_some a_letter a_follow a_firstOf a_lastOf a_nullable a_spelled a_visited a_front a_next yf_level yf_parts yf_pending yf_conditions yf_spelled yf_depth yf_used yf_weight yf_found yf_lightest yf_some yf_sum ya_labels ya_properties ya_from ya_to ya_types ya_weights ya_variable ya_wanted ya_among ya_direction ya_low ya_high ya_tokens ya_condition ya_expression ya_stack ya_part ya_steps ya_place ya_choice ya_bound ya_took ya_nodeOf ya_chosen ya_far P q c m CN hG hI hT hS hQ hC hF
  have QQ := hQ
  obtain ⟨⟨rfl, rfl, rfl⟩, ⟨q1, q2, q3, q4, q5'⟩, XQ', YQ'⟩ := QQ
  obtain rfl := q1.symm
  obtain rfl := q2.symm
  obtain rfl := q3.symm
  obtain rfl := q4.symm
  obtain rfl := q5'.symm
  have CC := hC
  obtain ⟨⟨rfl, rfl, q7, rfl⟩, CO', cn16, cn1, cn2⟩ := CC
  obtain rfl := q7.symm
  have GG := hG
  obtain ⟨L, T, hL, rfl, rfl, SS, G, H⟩ := GG
  have hP := XQ'.1
  have YC' : YC P q c m a_state ya_labels ya_properties ya_from ya_to ya_types ya_weights a_variable a_labels ya_among a_direction a_low a_high a_condition := ⟨YQ', G.1, G.2.1, G.2.2, CO', fun k hk h4 => cn2 _ (cn1 k hk h4)⟩
  have hv5 : ∀ p, p < P → a_variable p = nI (q 5 p) ∧ q 5 p < 4 := fun p hp => ⟨(XQ'.2.2 p hp).1.2.1, (XQ'.2.2 p hp).1.2.2.1⟩
  unfold wpX_least
  refine x_search (q := q) (c := c) XQ' G.1 hI CO' cn16 cn1 cn2 hF fun ix a_leaving' a_coming' a_ofType' a_withLabels' ta f_depth' a_truth' a_number' a_variableOf' a_atPart' a_trail' a_here' a_bound' a_named' a_used' a_weight' a_left' a_ends' f_count' f_different' f_cheapest' a_seen' a_sum' a_some' RI' A => ?_
  have R1 : ∀ (ya_part' ya_steps' ya_place' ya_choice' ya_bound' ya_took' : Nat → Int32) (yf_found' yf_lightest' yf_some' : Int32) (yf_sum' : Int64) (ya_chosen' : Nat → Int32) (yf_depth' yf_used' yf_weight' : Int32) (ya_stack' ya_nodeOf' : Nat → Int32), i_Rel (k + 7) (nI L, ix, nI P, nI (qH q P), f_tokens, nI m, nI CN, f_depth', 1, ta, f_count', f_different', f_cheapest', f_positions, f_starts, f_accepts, f_empty, f_written, f_target, f_steps, a_state, a_old, a_kept, a_leaving', a_coming', a_ofType', a_withLabels', a_kind, a_types, a_direction, a_low, a_high, a_variable, a_labels, a_token, a_condition, a_truth', a_number', a_variableOf', a_atPart', a_trail', a_here', a_bound', a_named', a_used', a_weight', a_left', a_ends', a_seen', a_sum', a_some', a_letter, a_follow, a_firstOf, a_lastOf, a_nullable, a_spelled, a_visited, a_front, a_next) (nI L, nI P, yf_pending, nI m, yf_spelled, yf_depth', yf_used', yf_weight', yf_found', yf_lightest', yf_some', yf_sum', ya_labels, ya_properties, ya_from, ya_to, ya_types, ya_weights, a_variable, a_labels, ya_among, a_direction, a_low, a_high, ya_tokens, a_condition, ya_expression, ya_stack', ya_part', ya_steps', ya_place', ya_choice', ya_bound', ya_took', ya_nodeOf', ya_chosen', ya_far) := fun ya_part' ya_steps' ya_place' ya_choice' ya_bound' ya_took' yf_found' yf_lightest' yf_some' yf_sum' ya_chosen' yf_depth' yf_used' yf_weight' ya_stack' ya_nodeOf' => mk_R hG RI' hT hS hQ hC (Or.inr ⟨rfl, A⟩)
  have R0 : i_Rel (k + 7) (nI L, ix, nI P, nI (qH q P), f_tokens, nI m, nI CN, f_depth', 1, ta, f_count', f_different', f_cheapest', f_positions, f_starts, f_accepts, f_empty, f_written, f_target, f_steps, a_state, a_old, a_kept, a_leaving', a_coming', a_ofType', a_withLabels', a_kind, a_types, a_direction, a_low, a_high, a_variable, a_labels, a_token, a_condition, a_truth', a_number', a_variableOf', a_atPart', a_trail', a_here', a_bound', a_named', a_used', a_weight', a_left', a_ends', a_seen', a_sum', a_some', a_letter, a_follow, a_firstOf, a_lastOf, a_nullable, a_spelled, a_visited, a_front, a_next) (nI L, nI P, yf_pending, nI m, yf_spelled, yf_depth, yf_used, yf_weight, yf_found, yf_lightest, yf_some, yf_sum, ya_labels, ya_properties, ya_from, ya_to, ya_types, ya_weights, a_variable, a_labels, ya_among, a_direction, a_low, a_high, ya_tokens, a_condition, ya_expression, ya_stack, ya_part, ya_steps, ya_place, ya_choice, ya_bound, ya_took, ya_nodeOf, ya_chosen, ya_far) := mk_R hG RI' hT hS hQ hC (Or.inr ⟨rfl, A⟩)
  have A1 := A.1
  have l1 : ((se_M a_state q P c m).take 1001).length ≤ 1001 := by rw [List.length_take]; omega
  have A3 := A.2.2.1
  have yq : ∀ r : Int32, ((1000 < ((se_M a_state q P c m).take 1001).length ∨ ((se_M a_state q P c m).take 1001).length = 0) → r = -1) → (¬ (1000 < ((se_M a_state q P c m).take 1001).length ∨ ((se_M a_state q P c m).take 1001).length = 0) → ∃ mn, r = nI mn ∧ se_mn ((se_M a_state q P c m).take 1001) mn) → wpY_least (fun r' v' => r' = r ∧ i_Rel (k + 7) (nI L, ix, nI P, nI (qH q P), f_tokens, nI m, nI CN, f_depth', 1, ta, f_count', f_different', f_cheapest', f_positions, f_starts, f_accepts, f_empty, f_written, f_target, f_steps, a_state, a_old, a_kept, a_leaving', a_coming', a_ofType', a_withLabels', a_kind, a_types, a_direction, a_low, a_high, a_variable, a_labels, a_token, a_condition, a_truth', a_number', a_variableOf', a_atPart', a_trail', a_here', a_bound', a_named', a_used', a_weight', a_left', a_ends', a_seen', a_sum', a_some', a_letter, a_follow, a_firstOf, a_lastOf, a_nullable, a_spelled, a_visited, a_front, a_next) v') (nI L, nI P, yf_pending, nI m, yf_spelled, yf_depth, yf_used, yf_weight, yf_found, yf_lightest, yf_some, yf_sum, ya_labels, ya_properties, ya_from, ya_to, ya_types, ya_weights, a_variable, a_labels, ya_among, a_direction, a_low, a_high, ya_tokens, a_condition, ya_expression, ya_stack, ya_part, ya_steps, ya_place, ya_choice, ya_bound, ya_took, ya_nodeOf, ya_chosen, ya_far) := by
    intro r hr1 hr2
    unfold wpY_least
    refine y_search (v := 0) YC' (by omega) fun ya_part' ya_steps' ya_place' ya_choice' ya_bound' ya_took' yf_found' yf_lightest' yf_some' yf_sum' ya_chosen' yf_depth' yf_used' yf_weight' ya_stack' ya_nodeOf' B => ?_
    rw [B.1]
    by_cases z : 1000 < ((se_M a_state q P c m).take 1001).length
    · exact br_t (nI_lt (a := 1000) z (by omega)) ⟨(hr1 (Or.inl z)).symm, by rw [← B.1]; exact R1 _ _ _ _ _ _ _ _ _ _ _ _ _ _ _ _⟩
    · refine br_f (nI_nlt (a := 1000) (by omega) (by omega)) ?_
      by_cases z0 : ((se_M a_state q P c m).take 1001).length = 0
      · exact br_t (congrArg nI z0) ⟨(hr1 (Or.inr z0)).symm, by rw [← B.1]; exact R1 _ _ _ _ _ _ _ _ _ _ _ _ _ _ _ _⟩
      · refine br_f (nI_ne0 (by omega) (by omega)) ⟨?_, by rw [← B.1]; exact R1 _ _ _ _ _ _ _ _ _ _ _ _ _ _ _ _⟩
        obtain ⟨mn, e1, e2⟩ := hr2 (fun y => y.elim z z0)
        rcases B.2.1 with ⟨y, _⟩ | ⟨mn', y1, y2⟩
        · rw [y] at z0; exact absurd rfl z0
        · rw [y1, e1, se_mn_u y2 e2]
  by_cases z : 1000 < ((se_M a_state q P c m).take 1001).length
  · exact br_t (by rw [A1]; exact nI_lt (a := 1000) z (by omega)) (yq _ (fun _ => rfl) (fun y => absurd (Or.inl z) y))
  · refine br_f (by rw [A1]; exact nI_nlt (a := 1000) (by omega) (by omega)) ?_
    by_cases z0 : ((se_M a_state q P c m).take 1001).length = 0
    · exact br_t (by rw [A1]; exact congrArg nI z0) (yq _ (fun _ => rfl) (fun y => absurd (Or.inr z0) y))
    · refine br_f (by rw [A1]; exact nI_ne0 (by omega) (by omega)) (yq _ (fun y => absurd y (fun w => w.elim z z0)) (fun _ => ?_))
      rcases A3 with ⟨y, _⟩ | y
      · rw [y] at z0; exact absurd rfl z0
      · exact y
theorem i_vc_total {k : Nat} {u : SX} {v : SY} (I : i_Rel k u v) (hk : k + 7 ≤ 3584) (v1 : Int32) : wpX_total (fun r u' => wpY_total (fun r' v' => r' = r ∧ i_Rel (k + 7) u' v') v v1) u v1 := by
  refine el_R (R := fun u v => wpX_total (fun r u' => wpY_total (fun r' v' => r' = r ∧ i_Rel (k + 7) u' v') v v1) u v1) ?_ I
  intro f_level f_indexed f_parts f_highs f_tokens f_conditionLength f_conditionNames f_depth f_found f_testAt f_count f_different f_cheapest f_positions f_starts f_accepts f_empty f_written f_target f_steps a_state a_old a_kept a_leaving a_coming a_ofType a_withLabels a_kind a_types a_direction a_low a_high a_variable a_labels a_token a_condition a_truth a_number a_variableOf a_atPart a_trail a_here a_bound a_named a_used a_weight a_left a_ends a_seen a_sum a_some a_letter a_follow a_firstOf a_lastOf a_nullable a_spelled a_visited a_front a_next yf_level yf_parts yf_pending yf_conditions yf_spelled yf_depth yf_used yf_weight yf_found yf_lightest yf_some yf_sum ya_labels ya_properties ya_from ya_to ya_types ya_weights ya_variable ya_wanted ya_among ya_direction ya_low ya_high ya_tokens ya_condition ya_expression ya_stack ya_part ya_steps ya_place ya_choice ya_bound ya_took ya_nodeOf ya_chosen ya_far P q c m CN hG hI hT hS hQ hC hF
  have QQ := hQ
  obtain ⟨⟨rfl, rfl, rfl⟩, ⟨q1, q2, q3, q4, q5'⟩, XQ', YQ'⟩ := QQ
  obtain rfl := q1.symm
  obtain rfl := q2.symm
  obtain rfl := q3.symm
  obtain rfl := q4.symm
  obtain rfl := q5'.symm
  have CC := hC
  obtain ⟨⟨rfl, rfl, q7, rfl⟩, CO', cn16, cn1, cn2⟩ := CC
  obtain rfl := q7.symm
  have GG := hG
  obtain ⟨L, T, hL, rfl, rfl, SS, G, H⟩ := GG
  have hP := XQ'.1
  have YC' : YC P q c m a_state ya_labels ya_properties ya_from ya_to ya_types ya_weights a_variable a_labels ya_among a_direction a_low a_high a_condition := ⟨YQ', G.1, G.2.1, G.2.2, CO', fun k hk h4 => cn2 _ (cn1 k hk h4)⟩
  have hv5 : ∀ p, p < P → a_variable p = nI (q 5 p) ∧ q 5 p < 4 := fun p hp => ⟨(XQ'.2.2 p hp).1.2.1, (XQ'.2.2 p hp).1.2.2.1⟩
  unfold wpX_total
  refine x_search (q := q) (c := c) XQ' G.1 hI CO' cn16 cn1 cn2 hF fun ix a_leaving' a_coming' a_ofType' a_withLabels' ta f_depth' a_truth' a_number' a_variableOf' a_atPart' a_trail' a_here' a_bound' a_named' a_used' a_weight' a_left' a_ends' f_count' f_different' f_cheapest' a_seen' a_sum' a_some' RI' A => ?_
  have R1 : ∀ (ya_part' ya_steps' ya_place' ya_choice' ya_bound' ya_took' : Nat → Int32) (yf_found' yf_lightest' yf_some' : Int32) (yf_sum' : Int64) (ya_chosen' : Nat → Int32) (yf_depth' yf_used' yf_weight' : Int32) (ya_stack' ya_nodeOf' : Nat → Int32), i_Rel (k + 7) (nI L, ix, nI P, nI (qH q P), f_tokens, nI m, nI CN, f_depth', 1, ta, f_count', f_different', f_cheapest', f_positions, f_starts, f_accepts, f_empty, f_written, f_target, f_steps, a_state, a_old, a_kept, a_leaving', a_coming', a_ofType', a_withLabels', a_kind, a_types, a_direction, a_low, a_high, a_variable, a_labels, a_token, a_condition, a_truth', a_number', a_variableOf', a_atPart', a_trail', a_here', a_bound', a_named', a_used', a_weight', a_left', a_ends', a_seen', a_sum', a_some', a_letter, a_follow, a_firstOf, a_lastOf, a_nullable, a_spelled, a_visited, a_front, a_next) (nI L, nI P, yf_pending, nI m, yf_spelled, yf_depth', yf_used', yf_weight', yf_found', yf_lightest', yf_some', yf_sum', ya_labels, ya_properties, ya_from, ya_to, ya_types, ya_weights, a_variable, a_labels, ya_among, a_direction, a_low, a_high, ya_tokens, a_condition, ya_expression, ya_stack', ya_part', ya_steps', ya_place', ya_choice', ya_bound', ya_took', ya_nodeOf', ya_chosen', ya_far) := fun ya_part' ya_steps' ya_place' ya_choice' ya_bound' ya_took' yf_found' yf_lightest' yf_some' yf_sum' ya_chosen' yf_depth' yf_used' yf_weight' ya_stack' ya_nodeOf' => mk_R hG RI' hT hS hQ hC (Or.inr ⟨rfl, A⟩)
  have R0 : i_Rel (k + 7) (nI L, ix, nI P, nI (qH q P), f_tokens, nI m, nI CN, f_depth', 1, ta, f_count', f_different', f_cheapest', f_positions, f_starts, f_accepts, f_empty, f_written, f_target, f_steps, a_state, a_old, a_kept, a_leaving', a_coming', a_ofType', a_withLabels', a_kind, a_types, a_direction, a_low, a_high, a_variable, a_labels, a_token, a_condition, a_truth', a_number', a_variableOf', a_atPart', a_trail', a_here', a_bound', a_named', a_used', a_weight', a_left', a_ends', a_seen', a_sum', a_some', a_letter, a_follow, a_firstOf, a_lastOf, a_nullable, a_spelled, a_visited, a_front, a_next) (nI L, nI P, yf_pending, nI m, yf_spelled, yf_depth, yf_used, yf_weight, yf_found, yf_lightest, yf_some, yf_sum, ya_labels, ya_properties, ya_from, ya_to, ya_types, ya_weights, a_variable, a_labels, ya_among, a_direction, a_low, a_high, ya_tokens, a_condition, ya_expression, ya_stack, ya_part, ya_steps, ya_place, ya_choice, ya_bound, ya_took, ya_nodeOf, ya_chosen, ya_far) := mk_R hG RI' hT hS hQ hC (Or.inr ⟨rfl, A⟩)
  have A1 := A.1
  have l1 : ((se_M a_state q P c m).take 1001).length ≤ 1001 := by rw [List.length_take]; omega
  have A5 := A.2.2.2.2.1
  have A6 := A.2.2.2.2.2
  have yno : ∀ r : Int64, r = 9000000000000000000 → ¬ (∃ n, n < 4 ∧ v1 = nI n ∧ ∃ p, p < P ∧ q 5 p = n) → wpY_total (fun r' v' => r' = r ∧ i_Rel (k + 7) (nI L, ix, nI P, nI (qH q P), f_tokens, nI m, nI CN, f_depth', 1, ta, f_count', f_different', f_cheapest', f_positions, f_starts, f_accepts, f_empty, f_written, f_target, f_steps, a_state, a_old, a_kept, a_leaving', a_coming', a_ofType', a_withLabels', a_kind, a_types, a_direction, a_low, a_high, a_variable, a_labels, a_token, a_condition, a_truth', a_number', a_variableOf', a_atPart', a_trail', a_here', a_bound', a_named', a_used', a_weight', a_left', a_ends', a_seen', a_sum', a_some', a_letter, a_follow, a_firstOf, a_lastOf, a_nullable, a_spelled, a_visited, a_front, a_next) v') (nI L, nI P, yf_pending, nI m, yf_spelled, yf_depth, yf_used, yf_weight, yf_found, yf_lightest, yf_some, yf_sum, ya_labels, ya_properties, ya_from, ya_to, ya_types, ya_weights, a_variable, a_labels, ya_among, a_direction, a_low, a_high, ya_tokens, a_condition, ya_expression, ya_stack, ya_part, ya_steps, ya_place, ya_choice, ya_bound, ya_took, ya_nodeOf, ya_chosen, ya_far) v1 := by
    intro r hr no
    unfold wpY_total
    refine yw (fun a b => br_f (by decide) ?_) (fun _ => br_t rfl ⟨hr.symm, R0⟩)
    obtain ⟨n, hn, rfl⟩ := rg_of (b := 3) (by omega) a b
    exact y_isNamed (q := q) hP (by omega) hv5 (fun y => absurd ⟨n, by omega, rfl, y⟩ no) (fun _ => br_t rfl ⟨hr.symm, R0⟩)
  have yyes : ∀ n, n < 4 → v1 = nI n → (∃ p, p < P ∧ q 5 p = n) → ∀ r : Int64, (1000 < ((se_M a_state q P c m).take 1001).length → r = 9000000000000000000) → (¬ 1000 < ((se_M a_state q P c m).take 1001).length → r = if se_so a_state n ((se_M a_state q P c m).take 1001) = true then se_sm a_state n ((se_M a_state q P c m).take 1001) else 9000000000000000000) → wpY_total (fun r' v' => r' = r ∧ i_Rel (k + 7) (nI L, ix, nI P, nI (qH q P), f_tokens, nI m, nI CN, f_depth', 1, ta, f_count', f_different', f_cheapest', f_positions, f_starts, f_accepts, f_empty, f_written, f_target, f_steps, a_state, a_old, a_kept, a_leaving', a_coming', a_ofType', a_withLabels', a_kind, a_types, a_direction, a_low, a_high, a_variable, a_labels, a_token, a_condition, a_truth', a_number', a_variableOf', a_atPart', a_trail', a_here', a_bound', a_named', a_used', a_weight', a_left', a_ends', a_seen', a_sum', a_some', a_letter, a_follow, a_firstOf, a_lastOf, a_nullable, a_spelled, a_visited, a_front, a_next) v') (nI L, nI P, yf_pending, nI m, yf_spelled, yf_depth, yf_used, yf_weight, yf_found, yf_lightest, yf_some, yf_sum, ya_labels, ya_properties, ya_from, ya_to, ya_types, ya_weights, a_variable, a_labels, ya_among, a_direction, a_low, a_high, ya_tokens, a_condition, ya_expression, ya_stack, ya_part, ya_steps, ya_place, ya_choice, ya_bound, ya_took, ya_nodeOf, ya_chosen, ya_far) v1 := by
    intro n hn e nm r hr1 hr2
    subst e
    unfold wpY_total
    refine yw (fun a b => br_f (by decide) (y_isNamed (q := q) hP (by omega) hv5 (fun _ => br_f (by decide) (y_search YC' hn fun ya_part' ya_steps' ya_place' ya_choice' ya_bound' ya_took' yf_found' yf_lightest' yf_some' yf_sum' ya_chosen' yf_depth' yf_used' yf_weight' ya_stack' ya_nodeOf' B => ?_)) (fun y => absurd nm y))) (fun y => absurd (rg_iff (b := 3) (by omega) (by omega)) y)
    rw [B.1]
    by_cases z : 1000 < ((se_M a_state q P c m).take 1001).length
    · exact br_t (nI_lt (a := 1000) z (by omega)) ⟨(hr1 z).symm, by rw [← B.1]; exact R1 _ _ _ _ _ _ _ _ _ _ _ _ _ _ _ _⟩
    · have h2 := hr2 z
      refine br_f (nI_nlt (a := 1000) (by omega) (by omega)) ?_
      have b3 := B.2.2.1
      have b4 := B.2.2.2.1
      cases y : se_so a_state n ((se_M a_state q P c m).take 1001) with
      | false =>
        rw [y] at b3 h2
        exact br_t (by rw [b3]; rfl) ⟨h2.symm, by rw [← B.1]; exact R1 _ _ _ _ _ _ _ _ _ _ _ _ _ _ _ _⟩
      | true =>
        rw [y] at b3 h2
        exact br_f (by rw [b3]; decide) ⟨by rw [b4]; exact h2.symm, by rw [← B.1]; exact R1 _ _ _ _ _ _ _ _ _ _ _ _ _ _ _ _⟩
  by_cases z : 1000 < ((se_M a_state q P c m).take 1001).length
  · refine br_t (by rw [A1]; exact nI_lt (a := 1000) z (by omega)) ?_
    by_cases nm : ∃ n, n < 4 ∧ v1 = nI n ∧ ∃ p, p < P ∧ q 5 p = n
    · obtain ⟨n, n1, n2, n3⟩ := nm
      exact yyes n n1 n2 n3 _ (fun _ => rfl) (fun y => absurd z y)
    · exact yno _ rfl nm
  · refine br_f (by rw [A1]; exact nI_nlt (a := 1000) (by omega) (by omega)) (x_isNamed (q := q) hP hv5 (fun nm => br_f (by decide) ?_) (fun nm => br_t rfl (yno _ rfl nm)))
    obtain ⟨n, n1, n2, n3⟩ := nm
    subst n2
    have cn : (nI n).toNatClampNeg = n := nI_clamp (by omega)
    refine ⟨vp_in_nI n1 (by omega), ?_⟩
    rw [cn, A6 n n1, A5 n n1]
    cases y : se_so a_state n ((se_M a_state q P c m).take 1001) with
    | false => exact br_t rfl (yyes n n1 rfl n3 _ (fun w => absurd w z) (fun _ => by rw [y]; rfl))
    | true => exact br_f (by decide) ⟨vp_in_nI n1 (by omega), yyes n n1 rfl n3 _ (fun w => absurd w z) (fun _ => by rw [y]; rfl)⟩
end
section
/-! row -/
theorem ni_m1 {D : Nat} (h : 0 < D) : nI D - 1 = nI (D - 1) := pk_sub (a := D) (b := 1) (by omega)
theorem cq_s (f : Nat → Bool) (i : Nat) : cq f (i + 1) = cq f i + (if f i = true then 1 else 0) := rfl
theorem i_vc_row {k : Nat} {u : SX} {v : SY} (I : i_Rel k u v) (hk : k + 7 ≤ 3584) (v1 : Int32) (v2 : Int32) : wpX_row (fun r u' => wpY_row (fun r' v' => r' = r ∧ i_Rel (k + 7) u' v') v v1 v2) u v1 v2 := by
  refine el_R (R := fun u v => wpX_row (fun r u' => wpY_row (fun r' v' => r' = r ∧ i_Rel (k + 7) u' v') v v1 v2) u v1 v2) ?_ I
  intro f_level f_indexed f_parts f_highs f_tokens f_conditionLength f_conditionNames f_depth f_found f_testAt f_count f_different f_cheapest f_positions f_starts f_accepts f_empty f_written f_target f_steps a_state a_old a_kept a_leaving a_coming a_ofType a_withLabels a_kind a_types a_direction a_low a_high a_variable a_labels a_token a_condition a_truth a_number a_variableOf a_atPart a_trail a_here a_bound a_named a_used a_weight a_left a_ends a_seen a_sum a_some a_letter a_follow a_firstOf a_lastOf a_nullable a_spelled a_visited a_front a_next yf_level yf_parts yf_pending yf_conditions yf_spelled yf_depth yf_used yf_weight yf_found yf_lightest yf_some yf_sum ya_labels ya_properties ya_from ya_to ya_types ya_weights ya_variable ya_wanted ya_among ya_direction ya_low ya_high ya_tokens ya_condition ya_expression ya_stack ya_part ya_steps ya_place ya_choice ya_bound ya_took ya_nodeOf ya_chosen ya_far P q c m CN hG hI hT hS hQ hC hF
  have QQ := hQ
  obtain ⟨⟨rfl, rfl, rfl⟩, ⟨q1, q2, q3, q4, q5'⟩, XQ', YQ'⟩ := QQ
  obtain rfl := q1.symm
  obtain rfl := q2.symm
  obtain rfl := q3.symm
  obtain rfl := q4.symm
  obtain rfl := q5'.symm
  have CC := hC
  obtain ⟨⟨rfl, rfl, q7, rfl⟩, CO', cn16, cn1, cn2⟩ := CC
  obtain rfl := q7.symm
  have GG := hG
  obtain ⟨L, T, hL, rfl, rfl, SS, G, H⟩ := GG
  have hP := XQ'.1
  have YC' : YC P q c m a_state ya_labels ya_properties ya_from ya_to ya_types ya_weights a_variable a_labels ya_among a_direction a_low a_high a_condition := ⟨YQ', G.1, G.2.1, G.2.2, CO', fun k hk h4 => cn2 _ (cn1 k hk h4)⟩
  have hv5 : ∀ p, p < P → a_variable p = nI (q 5 p) ∧ q 5 p < 4 := fun p hp => ⟨(XQ'.2.2 p hp).1.2.1, (XQ'.2.2 p hp).1.2.2.1⟩
  unfold wpX_row
  refine x_search (q := q) (c := c) XQ' G.1 hI CO' cn16 cn1 cn2 hF fun ix a_leaving' a_coming' a_ofType' a_withLabels' ta f_depth' a_truth' a_number' a_variableOf' a_atPart' a_trail' a_here' a_bound' a_named' a_used' a_weight' a_left' a_ends' f_count' f_different' f_cheapest' a_seen' a_sum' a_some' RI' A => ?_
  have R1 : ∀ (ya_part' ya_steps' ya_place' ya_choice' ya_bound' ya_took' : Nat → Int32) (yf_found' yf_lightest' yf_some' : Int32) (yf_sum' : Int64) (ya_chosen' : Nat → Int32) (yf_depth' yf_used' yf_weight' : Int32) (ya_stack' ya_nodeOf' : Nat → Int32), i_Rel (k + 7) (nI L, ix, nI P, nI (qH q P), f_tokens, nI m, nI CN, f_depth', 1, ta, f_count', f_different', f_cheapest', f_positions, f_starts, f_accepts, f_empty, f_written, f_target, f_steps, a_state, a_old, a_kept, a_leaving', a_coming', a_ofType', a_withLabels', a_kind, a_types, a_direction, a_low, a_high, a_variable, a_labels, a_token, a_condition, a_truth', a_number', a_variableOf', a_atPart', a_trail', a_here', a_bound', a_named', a_used', a_weight', a_left', a_ends', a_seen', a_sum', a_some', a_letter, a_follow, a_firstOf, a_lastOf, a_nullable, a_spelled, a_visited, a_front, a_next) (nI L, nI P, yf_pending, nI m, yf_spelled, yf_depth', yf_used', yf_weight', yf_found', yf_lightest', yf_some', yf_sum', ya_labels, ya_properties, ya_from, ya_to, ya_types, ya_weights, a_variable, a_labels, ya_among, a_direction, a_low, a_high, ya_tokens, a_condition, ya_expression, ya_stack', ya_part', ya_steps', ya_place', ya_choice', ya_bound', ya_took', ya_nodeOf', ya_chosen', ya_far) := fun ya_part' ya_steps' ya_place' ya_choice' ya_bound' ya_took' yf_found' yf_lightest' yf_some' yf_sum' ya_chosen' yf_depth' yf_used' yf_weight' ya_stack' ya_nodeOf' => mk_R hG RI' hT hS hQ hC (Or.inr ⟨rfl, A⟩)
  have R0 : i_Rel (k + 7) (nI L, ix, nI P, nI (qH q P), f_tokens, nI m, nI CN, f_depth', 1, ta, f_count', f_different', f_cheapest', f_positions, f_starts, f_accepts, f_empty, f_written, f_target, f_steps, a_state, a_old, a_kept, a_leaving', a_coming', a_ofType', a_withLabels', a_kind, a_types, a_direction, a_low, a_high, a_variable, a_labels, a_token, a_condition, a_truth', a_number', a_variableOf', a_atPart', a_trail', a_here', a_bound', a_named', a_used', a_weight', a_left', a_ends', a_seen', a_sum', a_some', a_letter, a_follow, a_firstOf, a_lastOf, a_nullable, a_spelled, a_visited, a_front, a_next) (nI L, nI P, yf_pending, nI m, yf_spelled, yf_depth, yf_used, yf_weight, yf_found, yf_lightest, yf_some, yf_sum, ya_labels, ya_properties, ya_from, ya_to, ya_types, ya_weights, a_variable, a_labels, ya_among, a_direction, a_low, a_high, ya_tokens, a_condition, ya_expression, ya_stack, ya_part, ya_steps, ya_place, ya_choice, ya_bound, ya_took, ya_nodeOf, ya_chosen, ya_far) := mk_R hG RI' hT hS hQ hC (Or.inr ⟨rfl, A⟩)
  have A1 := A.1
  have l1 : ((se_M a_state q P c m).take 1001).length ≤ 1001 := by rw [List.length_take]; omega
  have A2 := A.2.1
  have A4 := A.2.2.2.1
  have c4096 := cq_le (se_in ((se_M a_state q P c m).take 1001)) 4096
  have yno : ∀ r : Int32, r = -1 → (1000 < ((se_M a_state q P c m).take 1001).length ∨ ¬ (∃ j, j < cq (se_in ((se_M a_state q P c m).take 1001)) 4096 ∧ v1 = nI j) ∨ ¬ (∃ n, n < 4 ∧ v2 = nI n ∧ ∃ p, p < P ∧ q 5 p = n)) → wpY_row (fun r' v' => r' = r ∧ i_Rel (k + 7) (nI L, ix, nI P, nI (qH q P), f_tokens, nI m, nI CN, f_depth', 1, ta, f_count', f_different', f_cheapest', f_positions, f_starts, f_accepts, f_empty, f_written, f_target, f_steps, a_state, a_old, a_kept, a_leaving', a_coming', a_ofType', a_withLabels', a_kind, a_types, a_direction, a_low, a_high, a_variable, a_labels, a_token, a_condition, a_truth', a_number', a_variableOf', a_atPart', a_trail', a_here', a_bound', a_named', a_used', a_weight', a_left', a_ends', a_seen', a_sum', a_some', a_letter, a_follow, a_firstOf, a_lastOf, a_nullable, a_spelled, a_visited, a_front, a_next) v') (nI L, nI P, yf_pending, nI m, yf_spelled, yf_depth, yf_used, yf_weight, yf_found, yf_lightest, yf_some, yf_sum, ya_labels, ya_properties, ya_from, ya_to, ya_types, ya_weights, a_variable, a_labels, ya_among, a_direction, a_low, a_high, ya_tokens, a_condition, ya_expression, ya_stack, ya_part, ya_steps, ya_place, ya_choice, ya_bound, ya_took, ya_nodeOf, ya_chosen, ya_far) v1 v2 := by
    intro r hr no
    unfold wpY_row
    refine br_c (fun _ => ⟨hr.symm, R0⟩) (fun v0 => yw (fun a b => br_f (by decide) ?_) (fun _ => br_t rfl ⟨hr.symm, R0⟩))
    obtain ⟨n, hn, rfl⟩ := rg_of (b := 3) (by omega) a b
    obtain ⟨j, hj, rfl⟩ := nI_of v0
    refine y_isNamed (q := q) hP (by omega) hv5 (fun nm => br_f (by decide) (y_search (v := 0) YC' (by omega) fun ya_part' ya_steps' ya_place' ya_choice' ya_bound' ya_took' yf_found' yf_lightest' yf_some' yf_sum' ya_chosen' yf_depth' yf_used' yf_weight' ya_stack' ya_nodeOf' B => ?_)) (fun _ => br_t rfl ⟨hr.symm, R0⟩)
    rw [B.1]
    by_cases z : ((se_M a_state q P c m).take 1001).length ≤ 1000
    · refine br_t (nI_le (b := 1000) z (by omega)) ?_
      have jn : ¬ j < cq (se_in ((se_M a_state q P c m).take 1001)) 4096 := by
        intro y
        rcases no with no | no | no
        · omega
        · exact no ⟨j, y, rfl⟩
        · exact no ⟨n, by omega, rfl, nm⟩
      have key : ∀ kk i, i + kk = 4096 → wY_row_45 (fun r' v' => r' = r ∧ i_Rel (k + 7) (nI L, ix, nI P, nI (qH q P), f_tokens, nI m, nI CN, f_depth', 1, ta, f_count', f_different', f_cheapest', f_positions, f_starts, f_accepts, f_empty, f_written, f_target, f_steps, a_state, a_old, a_kept, a_leaving', a_coming', a_ofType', a_withLabels', a_kind, a_types, a_direction, a_low, a_high, a_variable, a_labels, a_token, a_condition, a_truth', a_number', a_variableOf', a_atPart', a_trail', a_here', a_bound', a_named', a_used', a_weight', a_left', a_ends', a_seen', a_sum', a_some', a_letter, a_follow, a_firstOf, a_lastOf, a_nullable, a_spelled, a_visited, a_front, a_next) v') (nI j) (nI n) (nI L) (nI P) yf_pending (nI m) yf_spelled yf_depth' yf_used' yf_weight' (nI ((se_M a_state q P c m).take 1001).length) yf_lightest' yf_some' yf_sum' ya_labels ya_properties ya_from ya_to ya_types ya_weights a_variable a_labels ya_among a_direction a_low a_high ya_tokens a_condition ya_expression ya_stack' ya_part' ya_steps' ya_place' ya_choice' ya_bound' ya_took' ya_nodeOf' ya_chosen' ya_far (kk + 1) (nI (cq (se_in ((se_M a_state q P c m).take 1001)) i)) (nI i) := by
        intro kk
        induction kk with
        | zero =>
          intro i e
          have : i = 4096 := e
          subst this
          exact br_t (nI_le (b := 4096) (Nat.le_refl _) (by omega)) ⟨hr.symm, by rw [← B.1]; exact R1 _ _ _ _ _ _ _ _ _ _ _ _ _ _ _ _⟩
        | succ kk ih =>
          intro i e
          have nxt := ih (i + 1) (by omega)
          rw [cq_s] at nxt
          refine br_f (nI_ge (b := 4096) (by omega) (by omega)) ⟨vp_in_nI (by omega) (by omega), ?_⟩
          rw [nI_clamp (by omega), B.2.2.2.2 i (by omega)]
          cases z : se_in ((se_M a_state q P c m).take 1001) i with
          | false =>
            rw [z] at nxt
            exact br_t rfl (nm_r (nI_1 i) nxt)
          | true =>
            rw [z] at nxt
            have mm := cq_mono (se_in ((se_M a_state q P c m).take 1001)) (m := i + 1) 4096 (by omega)
            rw [cq_s, z, if_pos rfl] at mm
            refine br_f (by decide) (br_f (fun y => ?_) (nm_r (nI_1 _) (nm_r (nI_1 i) nxt)))
            have := (nI_eq (by omega) hj).mp y
            omega
      have fin := key 4096 0 (by omega)
      rw [show cq (se_in ((se_M a_state q P c m).take 1001)) 0 = 0 from rfl, nI_0] at fin
      exact ⟨_, fin⟩
    · exact br_f (nI_ge (a := 1000) (by omega) (by omega)) ⟨hr.symm, by rw [← B.1]; exact R1 _ _ _ _ _ _ _ _ _ _ _ _ _ _ _ _⟩
  by_cases z : 1000 < ((se_M a_state q P c m).take 1001).length
  · exact br_t (by rw [A1]; exact nI_lt (a := 1000) z (by omega)) (yno _ rfl (Or.inl z))
  · refine br_f (by rw [A1]; exact nI_nlt (a := 1000) (by omega) (by omega)) (xo (fun a b => br_t rfl ?_) (fun a => br_f (by decide) (yno _ rfl (Or.inr (Or.inl fun ⟨j, j1, j2⟩ => a ?_)))))
    · rw [A2] at b
      have hj : ∃ j, j < cq (se_in ((se_M a_state q P c m).take 1001)) 4096 ∧ v1 = nI j := by
        rcases Nat.eq_zero_or_pos (cq (se_in ((se_M a_state q P c m).take 1001)) 4096) with d0 | d0
        · rw [d0] at b
          have := Int32.le_trans a b
          exact absurd this (by decide)
        · rw [ni_m1 d0] at b
          obtain ⟨j, j1, j2⟩ := rg_of (by omega) a b
          exact ⟨j, by omega, j2⟩
      obtain ⟨j, j1, rfl⟩ := hj
      refine x_isNamed (q := q) hP hv5 (fun nm => br_f (by decide) ?_) (fun nm => br_t rfl (yno _ rfl (Or.inr (Or.inr nm))))
      obtain ⟨n, n1, rfl, nm⟩ := nm
      obtain ⟨ky, k1, k2, k3⟩ := cq_pick 4096 j1
      -- the reference comes to the same key
      have yyes : ∀ r : Int32, r = (nI ky >>> ((9 - 3 * nI n) &&& 31)) &&& 7 → wpY_row (fun r' v' => r' = r ∧ i_Rel (k + 7) (nI L, ix, nI P, nI (qH q P), f_tokens, nI m, nI CN, f_depth', 1, ta, f_count', f_different', f_cheapest', f_positions, f_starts, f_accepts, f_empty, f_written, f_target, f_steps, a_state, a_old, a_kept, a_leaving', a_coming', a_ofType', a_withLabels', a_kind, a_types, a_direction, a_low, a_high, a_variable, a_labels, a_token, a_condition, a_truth', a_number', a_variableOf', a_atPart', a_trail', a_here', a_bound', a_named', a_used', a_weight', a_left', a_ends', a_seen', a_sum', a_some', a_letter, a_follow, a_firstOf, a_lastOf, a_nullable, a_spelled, a_visited, a_front, a_next) v') (nI L, nI P, yf_pending, nI m, yf_spelled, yf_depth, yf_used, yf_weight, yf_found, yf_lightest, yf_some, yf_sum, ya_labels, ya_properties, ya_from, ya_to, ya_types, ya_weights, a_variable, a_labels, ya_among, a_direction, a_low, a_high, ya_tokens, a_condition, ya_expression, ya_stack, ya_part, ya_steps, ya_place, ya_choice, ya_bound, ya_took, ya_nodeOf, ya_chosen, ya_far) (nI j) (nI n) := by
        intro r hr
        unfold wpY_row
        refine br_f (nI_pos (by omega)) (yw (fun _ _ => br_f (by decide) (y_isNamed (q := q) hP (by omega) hv5 (fun _ => br_f (by decide) (y_search (v := 0) YC' (by omega) fun ya_part' ya_steps' ya_place' ya_choice' ya_bound' ya_took' yf_found' yf_lightest' yf_some' yf_sum' ya_chosen' yf_depth' yf_used' yf_weight' ya_stack' ya_nodeOf' B => ?_)) (fun y => absurd nm y))) (fun y => absurd (rg_iff (b := 3) (by omega) (by omega)) y))
        rw [B.1]
        refine br_t (nI_le (b := 1000) (by omega) (by omega)) ?_
        have key : ∀ kk i, i + kk = ky → wY_row_45 (fun r' v' => r' = r ∧ i_Rel (k + 7) (nI L, ix, nI P, nI (qH q P), f_tokens, nI m, nI CN, f_depth', 1, ta, f_count', f_different', f_cheapest', f_positions, f_starts, f_accepts, f_empty, f_written, f_target, f_steps, a_state, a_old, a_kept, a_leaving', a_coming', a_ofType', a_withLabels', a_kind, a_types, a_direction, a_low, a_high, a_variable, a_labels, a_token, a_condition, a_truth', a_number', a_variableOf', a_atPart', a_trail', a_here', a_bound', a_named', a_used', a_weight', a_left', a_ends', a_seen', a_sum', a_some', a_letter, a_follow, a_firstOf, a_lastOf, a_nullable, a_spelled, a_visited, a_front, a_next) v') (nI j) (nI n) (nI L) (nI P) yf_pending (nI m) yf_spelled yf_depth' yf_used' yf_weight' (nI ((se_M a_state q P c m).take 1001).length) yf_lightest' yf_some' yf_sum' ya_labels ya_properties ya_from ya_to ya_types ya_weights a_variable a_labels ya_among a_direction a_low a_high ya_tokens a_condition ya_expression ya_stack' ya_part' ya_steps' ya_place' ya_choice' ya_bound' ya_took' ya_nodeOf' ya_chosen' ya_far (kk + 1) (nI (cq (se_in ((se_M a_state q P c m).take 1001)) i)) (nI i) := by
          intro kk
          induction kk with
          | zero =>
            intro i e
            have : i = ky := e
            subst this
            refine br_f (nI_ge (b := 4096) k1 (by omega)) ⟨vp_in_nI k1 (by omega), ?_⟩
            rw [nI_clamp (by omega), B.2.2.2.2 i k1, k2]
            exact br_f (by decide) (br_t (congrArg nI k3) ⟨hr.symm, by rw [← B.1]; exact R1 _ _ _ _ _ _ _ _ _ _ _ _ _ _ _ _⟩)
          | succ kk ih =>
            intro i e
            have nxt := ih (i + 1) (by omega)
            rw [cq_s] at nxt
            refine br_f (nI_ge (b := 4096) (by omega) (by omega)) ⟨vp_in_nI (by omega) (by omega), ?_⟩
            rw [nI_clamp (by omega), B.2.2.2.2 i (by omega)]
            cases z : se_in ((se_M a_state q P c m).take 1001) i with
            | false =>
              rw [z] at nxt
              exact br_t rfl (nm_r (nI_1 i) nxt)
            | true =>
              rw [z] at nxt
              have mm := cq_mono (se_in ((se_M a_state q P c m).take 1001)) (m := i + 1) ky (by omega)
              rw [cq_s, z, if_pos rfl] at mm
              refine br_f (by decide) (br_f (fun y => ?_) (nm_r (nI_1 _) (nm_r (nI_1 i) nxt)))
              have := (nI_eq (by omega) (by omega)).mp y
              omega
        have fin := key ky 0 (by omega)
        rw [show cq (se_in ((se_M a_state q P c m).take 1001)) 0 = 0 from rfl, nI_0] at fin
        exact ⟨_, fin⟩
      have key : ∀ kk i, i + kk = ky + 1 → (i = ky + 1 → cq (se_in ((se_M a_state q P c m).take 1001)) i = j + 1) → wX_row_43 (fun r u' => wpY_row (fun r' v' => r' = r ∧ i_Rel (k + 7) u' v') (nI L, nI P, yf_pending, nI m, yf_spelled, yf_depth, yf_used, yf_weight, yf_found, yf_lightest, yf_some, yf_sum, ya_labels, ya_properties, ya_from, ya_to, ya_types, ya_weights, a_variable, a_labels, ya_among, a_direction, a_low, a_high, ya_tokens, a_condition, ya_expression, ya_stack, ya_part, ya_steps, ya_place, ya_choice, ya_bound, ya_took, ya_nodeOf, ya_chosen, ya_far) (nI j) (nI n)) (nI j) (nI n) (nI L) ix (nI P) (nI (qH q P)) f_tokens (nI m) (nI CN) f_depth' 1 ta f_count' f_different' f_cheapest' f_positions f_starts f_accepts f_empty f_written f_target f_steps a_state a_old a_kept a_leaving' a_coming' a_ofType' a_withLabels' a_kind a_types a_direction a_low a_high a_variable a_labels a_token a_condition a_truth' a_number' a_variableOf' a_atPart' a_trail' a_here' a_bound' a_named' a_used' a_weight' a_left' a_ends' a_seen' a_sum' a_some' a_letter a_follow a_firstOf a_lastOf a_nullable a_spelled a_visited a_front a_next (kk + 1) (dn i) (dn (cq (se_in ((se_M a_state q P c m).take 1001)) i)) := by
        intro kk
        induction kk with
        | zero =>
          intro i e hi
          have : i = ky + 1 := e
          subst this
          rw [hi rfl, dn_s, dn_s]
          exact br_t (nI_le (Nat.le_refl _) (by omega)) (yyes _ rfl)
        | succ kk ih =>
          intro i e _
          have ile := cq_mono (se_in ((se_M a_state q P c m).take 1001)) (m := i) ky (by omega)
          have nlt : ¬ nI j ≤ dn (cq (se_in ((se_M a_state q P c m).take 1001)) i) := by
            rcases Nat.eq_zero_or_pos (cq (se_in ((se_M a_state q P c m).take 1001)) i) with d0 | d0
            · rw [d0]
              intro y
              have := Int32.le_trans (nI_pos' (n := j) (by omega)) y
              exact absurd this (by decide)
            · obtain ⟨b, hb⟩ : ∃ b, cq (se_in ((se_M a_state q P c m).take 1001)) i = b + 1 := ⟨_ - 1, (Nat.sub_add_cancel d0).symm⟩
              rw [hb, dn_s]
              exact nI_ge (by omega) (by omega)
          have s1 : ∀ x, dn x + 1 = nI x := by
            intro x
            cases x with
            | zero => decide
            | succ x => rw [dn_s, nI_1]
          have k6 : nI i >>> ((6 : Int32) &&& 31) = nI (i / 64) := pk_shrN (by omega) _ 6 (by decide)
          have k63 : nI i &&& 63 = nI (i % 64) := pk_andN (by omega) 6 (by decide)
          have m64 : i % 64 < 64 := Nat.mod_lt _ (by decide)
          have bit := ts_bit (w := a_seen' (i / 64)) (s := (nI (i % 64)).toInt64.toUInt64 &&& Int64.toUInt64 63) (j := i % 64) m64 (by rw [wb_cu _ m64]; exact u_tn (by omega))
          have old : (a_seen' (i / 64)).toBitVec.getLsbD (i % 64) = se_in ((se_M a_state q P c m).take 1001) i := A4 _ (by omega)
          have nxt := ih (i + 1) (by omega) (fun y => by
            have : i = ky := by omega
            subst this
            rw [cq_s, k2, if_pos rfl, k3])
          rw [cq_s] at nxt
          refine br_f nlt (nm_r (e' := dn (i + 1)) (s1 i) ?_)
          rw [dn_s, k6, k63, nI_clamp (n := i / 64) (by omega)]
          refine ⟨vp_in_nI (by omega) (by omega), ?_⟩
          cases z : se_in ((se_M a_state q P c m).take 1001) i with
          | false =>
            rw [z] at old nxt
            exact br_t (bit.mpr old) nxt
          | true =>
            rw [z] at old nxt
            refine br_f (fun y => ?_) (nm_r (e' := dn (cq (se_in ((se_M a_state q P c m).take 1001)) i + 1)) (s1 _) nxt)
            rw [bit.mp y] at old
            exact absurd old (by decide)
      have fin := key (ky + 1) 0 (by omega) (fun y => by omega)
      rw [show cq (se_in ((se_M a_state q P c m).take 1001)) 0 = 0 from rfl] at fin
      exact ⟨_, fin⟩
    · rw [A2, j2]
      rw [ni_m1 (by omega)]
      exact rg_iff (by omega) (by omega)
end
section
/-! walks -/
theorem gsu_p {g : Nat → Int64} (V : VG g) {t i j : Nat} (h : gsu g 12 t i j) : ¬ g j = 0 := by
  obtain ⟨e, he, hz, ⟨_, _, h⟩ | ⟨_, _, h⟩⟩ := h
  · rw [← h]; exact (V.2 e he hz).1.2
  · rw [← h]; exact (V.2 e he hz).1.1
theorem wk_present {g : Nat → Int64} {fo : Nat → Int32} {le : Nat → Nat} {d F L : Nat} {nul : Bool} {A : WW → WW} (V : VG g) (E : gl_E fo le 0 d F L nul A) {i j n : Nat} (hi : ¬ g i = 0) (h : A (gsu g 12) i j n) : ¬ g j = 0 := by
  rcases (E.2 _ _ _ _).mp h with ⟨_, e, _⟩ | ⟨k, p, _, _, hR⟩
  · rw [← e]; exact hi
  · cases k with
    | zero => exact gsu_p V hR.2
    | succ k => obtain ⟨_, _, _, _, z⟩ := hR; exact gsu_p V z
theorem go_far {D : Nat → Prop} {l d : Nat} {s : Int32} (hl : l < 10000) (h : go_S D l s) (all : ∀ n, D n → ∃ n', n' ≤ l ∧ D n') (hd : d ≤ 1000000) (hD : ∀ n, n < 1000000 → (d ≤ n ↔ ∃ n', n' ≤ n ∧ D n')) : (d = 1000000 ∧ s = -1) ∨ (d < 1000000 ∧ s = nI d) := by
  rcases h with ⟨h1, h2⟩ | ⟨n, h1, h2, h3, h4⟩
  · refine Or.inl ⟨?_, h1⟩
    rcases Nat.lt_or_ge d 1000000 with y | y
    · obtain ⟨n', _, z⟩ := (hD d y).mp (Nat.le_refl _)
      obtain ⟨n'', z1, z2⟩ := all n' z
      exact absurd z2 (h2 n'' z1)
    · omega
  · have a : d ≤ n := (hD n (by omega)).mpr ⟨n, Nat.le_refl _, h3⟩
    have b : n ≤ d := by
      rcases Nat.lt_or_ge d n with y | y
      · obtain ⟨n', z1, z2⟩ := (hD d (by omega)).mp (Nat.le_refl _)
        exact absurd z2 (h4 n' (by omega))
      · exact y
    have : d = n := Nat.le_antisymm a b
    exact Or.inr ⟨by omega, by rw [this]; exact h2⟩
theorem i_vc_walk {k : Nat} {u : SX} {v : SY} (I : i_Rel k u v) (hk : k + 7 ≤ 3584) (v1 : Int32) (v2 : Int32) : wpX_walk (fun r u' => wpY_walk (fun r' v' => r' = r ∧ i_Rel (k + 7) u' v') v v1 v2) u v1 v2 := by
  refine el_R (R := fun u v => wpX_walk (fun r u' => wpY_walk (fun r' v' => r' = r ∧ i_Rel (k + 7) u' v') v v1 v2) u v1 v2) ?_ I
  intro f_level f_indexed f_parts f_highs f_tokens f_conditionLength f_conditionNames f_depth f_found f_testAt f_count f_different f_cheapest f_positions f_starts f_accepts f_empty f_written f_target f_steps a_state a_old a_kept a_leaving a_coming a_ofType a_withLabels a_kind a_types a_direction a_low a_high a_variable a_labels a_token a_condition a_truth a_number a_variableOf a_atPart a_trail a_here a_bound a_named a_used a_weight a_left a_ends a_seen a_sum a_some a_letter a_follow a_firstOf a_lastOf a_nullable a_spelled a_visited a_front a_next yf_level yf_parts yf_pending yf_conditions yf_spelled yf_depth yf_used yf_weight yf_found yf_lightest yf_some yf_sum ya_labels ya_properties ya_from ya_to ya_types ya_weights ya_variable ya_wanted ya_among ya_direction ya_low ya_high ya_tokens ya_condition ya_expression ya_stack ya_part ya_steps ya_place ya_choice ya_bound ya_took ya_nodeOf ya_chosen ya_far P q c m CN hG hI hT hS hQ hC hF
  have GG := hG
  obtain ⟨L, T, hL, rfl, rfl, SS, G, H⟩ := GG
  have R0 : i_Rel (k + 7) (nI L, f_indexed, f_parts, f_highs, f_tokens, f_conditionLength, f_conditionNames, f_depth, f_found, f_testAt, f_count, f_different, f_cheapest, f_positions, f_starts, f_accepts, f_empty, f_written, f_target, f_steps, a_state, a_old, a_kept, a_leaving, a_coming, a_ofType, a_withLabels, a_kind, a_types, a_direction, a_low, a_high, a_variable, a_labels, a_token, a_condition, a_truth, a_number, a_variableOf, a_atPart, a_trail, a_here, a_bound, a_named, a_used, a_weight, a_left, a_ends, a_seen, a_sum, a_some, a_letter, a_follow, a_firstOf, a_lastOf, a_nullable, a_spelled, a_visited, a_front, a_next) (nI L, yf_parts, yf_pending, yf_conditions, yf_spelled, yf_depth, yf_used, yf_weight, yf_found, yf_lightest, yf_some, yf_sum, ya_labels, ya_properties, ya_from, ya_to, ya_types, ya_weights, ya_variable, ya_wanted, ya_among, ya_direction, ya_low, ya_high, ya_tokens, ya_condition, ya_expression, ya_stack, ya_part, ya_steps, ya_place, ya_choice, ya_bound, ya_took, ya_nodeOf, ya_chosen, ya_far) := mk_R hG hI hT hS hQ hC hF
  have noY : ∀ r : Int32, r = -1 → (¬ isN a_state v1 ∨ ¬ isN a_state v2 ∨ yf_spelled = 0) → wpY_walk (fun r' v' => r' = r ∧ i_Rel (k + 7) (nI L, f_indexed, f_parts, f_highs, f_tokens, f_conditionLength, f_conditionNames, f_depth, f_found, f_testAt, f_count, f_different, f_cheapest, f_positions, f_starts, f_accepts, f_empty, f_written, f_target, f_steps, a_state, a_old, a_kept, a_leaving, a_coming, a_ofType, a_withLabels, a_kind, a_types, a_direction, a_low, a_high, a_variable, a_labels, a_token, a_condition, a_truth, a_number, a_variableOf, a_atPart, a_trail, a_here, a_bound, a_named, a_used, a_weight, a_left, a_ends, a_seen, a_sum, a_some, a_letter, a_follow, a_firstOf, a_lastOf, a_nullable, a_spelled, a_visited, a_front, a_next) v') (nI L, yf_parts, yf_pending, yf_conditions, yf_spelled, yf_depth, yf_used, yf_weight, yf_found, yf_lightest, yf_some, yf_sum, ya_labels, ya_properties, ya_from, ya_to, ya_types, ya_weights, ya_variable, ya_wanted, ya_among, ya_direction, ya_low, ya_high, ya_tokens, ya_condition, ya_expression, ya_stack, ya_part, ya_steps, ya_place, ya_choice, ya_bound, ya_took, ya_nodeOf, ya_chosen, ya_far) v1 v2 := by
    intro r hr z
    unfold wpY_walk
    refine y_isNode G.2.1 (fun y1 => br_f (by decide) (y_isNode G.2.1 (fun y2 => br_f (by decide) ?_) (fun _ => br_t rfl ⟨hr.symm, R0⟩))) (fun _ => br_t rfl ⟨hr.symm, R0⟩)
    rcases z with z | z | z
    · exact absurd y1 z
    · exact absurd y2 z
    · exact br_t z ⟨hr.symm, R0⟩
  unfold wpX_walk
  have SSp := hS
  rcases SSp with ⟨rfl, e0⟩ | ⟨rfl, nt, c', op, d, F, L', le, nul, EP, ⟨nt0, nt10⟩, ⟨rfl, ex⟩, ⟨d10, F10, L10⟩, ⟨rfl, rfl, rfl, rfl⟩, okf, E, SP⟩
  · exact br_t rfl (noY _ rfl (Or.inr (Or.inr e0)))
  refine br_f (by decide) (x_isNode (fun z1 => br_f (by decide) (x_isNode (fun z2 => br_f (by decide) ?_) (fun z => br_t rfl (noY _ rfl (Or.inr (Or.inl z)))))) (fun z => br_t rfl (noY _ rfl (Or.inl z))))
  have Z1 := z1
  have Z2 := z2
  obtain ⟨s, hs, rfl, gs⟩ := z1
  obtain ⟨t, ht, rfl, gt⟩ := z2
  refine x_go G.1 hI d10 okf E SP F10 L10 hs ht fun MT st a_leaving' a_coming' a_ofType' a_withLabels' a_visited' a_front' a_next' I _ _ fin => ?_
  obtain ⟨l, l1, l2, l3⟩ := fin
  show wpY_walk _ (nI L, yf_parts, yf_pending, yf_conditions, nI nt, yf_depth, yf_used, yf_weight, yf_found, yf_lightest, yf_some, yf_sum, ya_labels, ya_properties, ya_from, ya_to, ya_types, ya_weights, ya_variable, ya_wanted, ya_among, ya_direction, ya_low, ya_high, ya_tokens, ya_condition, ya_expression, ya_stack, ya_part, ya_steps, ya_place, ya_choice, ya_bound, ya_took, ya_nodeOf, ya_chosen, ya_far) (nI s) (nI t)
  unfold wpY_walk
  refine y_isNode G.2.1 (fun _ => br_f (by decide) (y_isNode G.2.1 (fun _ => br_f (by decide) (br_f (nI_ne0 nt0 (by omega)) (y_spellOut G.1 G.2.2 EP nt10 nt0 ex fun far D TT M _ => ?_))) (fun y => absurd Z2 y))) (fun y => absurd Z1 y)
  have ix : (8 : Int32) * nI s + nI t = nI (8 * s + t) := by
    have : (8 : Int32) * nI s = nI (8 * s) := pk_mul 8 s
    rw [this, nI_add]
  have fv : far (8 * s + t) = nI (D (8 * s + t)) := by
    have := (TT (8 * s + t) (by omega)).1
    rw [Nat.zero_add] at this
    exact this
  have R1 : i_Rel (k + 7) (nI L, 1, f_parts, f_highs, f_tokens, f_conditionLength, f_conditionNames, f_depth, f_found, f_testAt, f_count, f_different, f_cheapest, nI d, nI F, nI L', bi nul, 1, nI t, st, a_state, a_old, a_kept, a_leaving', a_coming', a_ofType', a_withLabels', a_kind, a_types, a_direction, a_low, a_high, a_variable, a_labels, a_token, a_condition, a_truth, a_number, a_variableOf, a_atPart, a_trail, a_here, a_bound, a_named, a_used, a_weight, a_left, a_ends, a_seen, a_sum, a_some, a_letter, a_follow, a_firstOf, a_lastOf, a_nullable, a_spelled, a_visited', a_front', a_next') (nI L, yf_parts, yf_pending, yf_conditions, nI nt, yf_depth, yf_used, yf_weight, yf_found, yf_lightest, yf_some, yf_sum, ya_labels, ya_properties, ya_from, ya_to, ya_types, ya_weights, ya_variable, ya_wanted, ya_among, ya_direction, ya_low, ya_high, ya_tokens, ya_condition, ya_expression, ya_stack, ya_part, ya_steps, ya_place, ya_choice, ya_bound, ya_took, ya_nodeOf, ya_chosen, far) := mk_R hG (Or.inr ⟨rfl, I⟩) hT hS hQ hC hF
  have m12 := M s t hs ht
  dsimp only at m12
  obtain ⟨m1, m2⟩ := m12
  have gf := go_far l1 l2 (fun n => l3 t n) m1 m2
  have cix : ((8 : Int32) * nI s + nI t).toNatClampNeg = 8 * s + t := by rw [ix, nI_clamp (by omega)]
  have vix : vp_in ((8 : Int32) * nI s + nI t) 704 := by rw [ix]; exact vp_in_nI (by omega) (by omega)
  refine ⟨vix, ?_⟩
  rw [cix, fv]
  rcases gf with ⟨a, b⟩ | ⟨a, b⟩
  · exact br_t (nI_le (a := 1000000) (by omega) (by omega)) ⟨b.symm, R1⟩
  · exact br_f (nI_ge (b := 1000000) a (by omega)) ⟨vix, b.symm, R1⟩
theorem i_vc_reach {k : Nat} {u : SX} {v : SY} (I : i_Rel k u v) (hk : k + 7 ≤ 3584) (v1 : Int32) : wpX_reach (fun r u' => wpY_reach (fun r' v' => r' = r ∧ i_Rel (k + 7) u' v') v v1) u v1 := by
  refine el_R (R := fun u v => wpX_reach (fun r u' => wpY_reach (fun r' v' => r' = r ∧ i_Rel (k + 7) u' v') v v1) u v1) ?_ I
  intro f_level f_indexed f_parts f_highs f_tokens f_conditionLength f_conditionNames f_depth f_found f_testAt f_count f_different f_cheapest f_positions f_starts f_accepts f_empty f_written f_target f_steps a_state a_old a_kept a_leaving a_coming a_ofType a_withLabels a_kind a_types a_direction a_low a_high a_variable a_labels a_token a_condition a_truth a_number a_variableOf a_atPart a_trail a_here a_bound a_named a_used a_weight a_left a_ends a_seen a_sum a_some a_letter a_follow a_firstOf a_lastOf a_nullable a_spelled a_visited a_front a_next yf_level yf_parts yf_pending yf_conditions yf_spelled yf_depth yf_used yf_weight yf_found yf_lightest yf_some yf_sum ya_labels ya_properties ya_from ya_to ya_types ya_weights ya_variable ya_wanted ya_among ya_direction ya_low ya_high ya_tokens ya_condition ya_expression ya_stack ya_part ya_steps ya_place ya_choice ya_bound ya_took ya_nodeOf ya_chosen ya_far P q c m CN hG hI hT hS hQ hC hF
  have GG := hG
  obtain ⟨L, T, hL, rfl, rfl, SS, G, H⟩ := GG
  have R0 : i_Rel (k + 7) (nI L, f_indexed, f_parts, f_highs, f_tokens, f_conditionLength, f_conditionNames, f_depth, f_found, f_testAt, f_count, f_different, f_cheapest, f_positions, f_starts, f_accepts, f_empty, f_written, f_target, f_steps, a_state, a_old, a_kept, a_leaving, a_coming, a_ofType, a_withLabels, a_kind, a_types, a_direction, a_low, a_high, a_variable, a_labels, a_token, a_condition, a_truth, a_number, a_variableOf, a_atPart, a_trail, a_here, a_bound, a_named, a_used, a_weight, a_left, a_ends, a_seen, a_sum, a_some, a_letter, a_follow, a_firstOf, a_lastOf, a_nullable, a_spelled, a_visited, a_front, a_next) (nI L, yf_parts, yf_pending, yf_conditions, yf_spelled, yf_depth, yf_used, yf_weight, yf_found, yf_lightest, yf_some, yf_sum, ya_labels, ya_properties, ya_from, ya_to, ya_types, ya_weights, ya_variable, ya_wanted, ya_among, ya_direction, ya_low, ya_high, ya_tokens, ya_condition, ya_expression, ya_stack, ya_part, ya_steps, ya_place, ya_choice, ya_bound, ya_took, ya_nodeOf, ya_chosen, ya_far) := mk_R hG hI hT hS hQ hC hF
  have noY : ∀ r : Int32, r = 0 → (¬ isN a_state v1 ∨ yf_spelled = 0) → wpY_reach (fun r' v' => r' = r ∧ i_Rel (k + 7) (nI L, f_indexed, f_parts, f_highs, f_tokens, f_conditionLength, f_conditionNames, f_depth, f_found, f_testAt, f_count, f_different, f_cheapest, f_positions, f_starts, f_accepts, f_empty, f_written, f_target, f_steps, a_state, a_old, a_kept, a_leaving, a_coming, a_ofType, a_withLabels, a_kind, a_types, a_direction, a_low, a_high, a_variable, a_labels, a_token, a_condition, a_truth, a_number, a_variableOf, a_atPart, a_trail, a_here, a_bound, a_named, a_used, a_weight, a_left, a_ends, a_seen, a_sum, a_some, a_letter, a_follow, a_firstOf, a_lastOf, a_nullable, a_spelled, a_visited, a_front, a_next) v') (nI L, yf_parts, yf_pending, yf_conditions, yf_spelled, yf_depth, yf_used, yf_weight, yf_found, yf_lightest, yf_some, yf_sum, ya_labels, ya_properties, ya_from, ya_to, ya_types, ya_weights, ya_variable, ya_wanted, ya_among, ya_direction, ya_low, ya_high, ya_tokens, ya_condition, ya_expression, ya_stack, ya_part, ya_steps, ya_place, ya_choice, ya_bound, ya_took, ya_nodeOf, ya_chosen, ya_far) v1 := by
    intro r hr z
    unfold wpY_reach
    refine y_isNode G.2.1 (fun y1 => br_f (by decide) ?_) (fun _ => br_t rfl ⟨hr.symm, R0⟩)
    rcases z with z | z
    · exact absurd y1 z
    · exact br_t z ⟨hr.symm, R0⟩
  unfold wpX_reach
  have SSp := hS
  rcases SSp with ⟨rfl, e0⟩ | ⟨rfl, nt, c', op, d, F, L', le, nul, EP, ⟨nt0, nt10⟩, ⟨rfl, ex⟩, ⟨d10, F10, L10⟩, ⟨rfl, rfl, rfl, rfl⟩, okf, E, SP⟩
  · exact br_t rfl (noY _ rfl (Or.inr e0))
  refine br_f (by decide) (x_isNode (fun z1 => br_f (by decide) ?_) (fun z => br_t rfl (noY _ rfl (Or.inl z))))
  have Z1 := z1
  obtain ⟨s, hs, rfl, gs⟩ := z1
  refine x_go G.1 hI d10 okf E SP F10 L10 hs hs fun MT st a_leaving' a_coming' a_ofType' a_withLabels' a_visited' a_front' a_next' I mt8 mtb fin => ?_
  obtain ⟨l, l1, _, l3⟩ := fin
  show wpY_reach _ (nI L, yf_parts, yf_pending, yf_conditions, nI nt, yf_depth, yf_used, yf_weight, yf_found, yf_lightest, yf_some, yf_sum, ya_labels, ya_properties, ya_from, ya_to, ya_types, ya_weights, ya_variable, ya_wanted, ya_among, ya_direction, ya_low, ya_high, ya_tokens, ya_condition, ya_expression, ya_stack, ya_part, ya_steps, ya_place, ya_choice, ya_bound, ya_took, ya_nodeOf, ya_chosen, ya_far) (nI s)
  unfold wpY_reach
  refine y_isNode G.2.1 (fun _ => br_f (by decide) (br_f (nI_ne0 nt0 (by omega)) (y_spellOut G.1 G.2.2 EP nt10 nt0 ex fun far D TT M _ => ⟨9, ?_⟩))) (fun y => absurd Z1 y)
  have R1 : i_Rel (k + 7) (nI L, 1, f_parts, f_highs, f_tokens, f_conditionLength, f_conditionNames, f_depth, f_found, f_testAt, f_count, f_different, f_cheapest, nI d, nI F, nI L', bi nul, 1, nI s, st, a_state, a_old, a_kept, a_leaving', a_coming', a_ofType', a_withLabels', a_kind, a_types, a_direction, a_low, a_high, a_variable, a_labels, a_token, a_condition, a_truth, a_number, a_variableOf, a_atPart, a_trail, a_here, a_bound, a_named, a_used, a_weight, a_left, a_ends, a_seen, a_sum, a_some, a_letter, a_follow, a_firstOf, a_lastOf, a_nullable, a_spelled, a_visited', a_front', a_next') (nI L, yf_parts, yf_pending, yf_conditions, nI nt, yf_depth, yf_used, yf_weight, yf_found, yf_lightest, yf_some, yf_sum, ya_labels, ya_properties, ya_from, ya_to, ya_types, ya_weights, ya_variable, ya_wanted, ya_among, ya_direction, ya_low, ya_high, ya_tokens, ya_condition, ya_expression, ya_stack, ya_part, ya_steps, ya_place, ya_choice, ya_bound, ya_took, ya_nodeOf, ya_chosen, far) := mk_R hG (Or.inr ⟨rfl, I⟩) hT hS hQ hC hF
  have bit : ∀ x, x < 8 → (MT.testBit x = true ↔ ¬ a_state x = 0 ∧ D (8 * s + x) < 1000000) := by
    intro x hx
    have m12 := M s x hs hx
    dsimp only at m12
    obtain ⟨m1, m2⟩ := m12
    rw [mtb]
    constructor
    · rintro ⟨_, n, z⟩
      refine ⟨wk_present G.1 E gs z, ?_⟩
      obtain ⟨n', z1, z2⟩ := l3 x n z
      have := (m2 n' (by omega)).mpr ⟨n', Nat.le_refl _, z2⟩
      omega
    · rintro ⟨_, z⟩
      obtain ⟨n', _, z2⟩ := (m2 _ z).mp (Nat.le_refl _)
      exact ⟨hx, n', z2⟩
  have key : ∀ kk i S, i + kk = 8 → S < 2 ^ 8 → (∀ x, S.testBit x = true ↔ x < i ∧ MT.testBit x = true) → wY_reach_25 (fun r' v' => r' = nI MT ∧ i_Rel (k + 7) (nI L, 1, f_parts, f_highs, f_tokens, f_conditionLength, f_conditionNames, f_depth, f_found, f_testAt, f_count, f_different, f_cheapest, nI d, nI F, nI L', bi nul, 1, nI s, st, a_state, a_old, a_kept, a_leaving', a_coming', a_ofType', a_withLabels', a_kind, a_types, a_direction, a_low, a_high, a_variable, a_labels, a_token, a_condition, a_truth, a_number, a_variableOf, a_atPart, a_trail, a_here, a_bound, a_named, a_used, a_weight, a_left, a_ends, a_seen, a_sum, a_some, a_letter, a_follow, a_firstOf, a_lastOf, a_nullable, a_spelled, a_visited', a_front', a_next') v') (nI s) (nI L) yf_parts yf_pending yf_conditions (nI nt) yf_depth yf_used yf_weight yf_found yf_lightest yf_some yf_sum ya_labels ya_properties ya_from ya_to ya_types ya_weights ya_variable ya_wanted ya_among ya_direction ya_low ya_high ya_tokens ya_condition ya_expression ya_stack ya_part ya_steps ya_place ya_choice ya_bound ya_took ya_nodeOf ya_chosen far (kk + 1) (nI S) (nI i) := by
    intro kk
    induction kk with
    | zero =>
      intro i S e hS' hb
      have : i = 8 := e
      subst this
      have : S = MT := by
        apply Nat.eq_of_testBit_eq
        intro x
        have h1 := hb x
        cases a : MT.testBit x with
        | true =>
          have h8 := ((mtb x).mp a).1
          exact h1.mpr ⟨h8, a⟩
        | false =>
          refine ts_nt fun y => ?_
          have := (h1.mp y).2
          rw [a] at this
          exact absurd this (by decide)
      exact br_t (nI_le (b := 8) (Nat.le_refl _) (by omega)) ⟨congrArg nI this, R1⟩
    | succ kk ih =>
      intro i S e hS' hb
      have hi : i < 8 := by omega
      have ix : (8 : Int32) * nI s + nI i = nI (8 * s + i) := by
        have : (8 : Int32) * nI s = nI (8 * s) := pk_mul 8 s
        rw [this, nI_add]
      have fv : far (8 * s + i) = nI (D (8 * s + i)) := by
        have := (TT (8 * s + i) (by omega)).1
        rw [Nat.zero_add] at this
        exact this
      have dl := (TT (8 * s + i) (by omega)).2
      have skip : MT.testBit i = false → ∀ x, x = nI i + 1 → wY_reach_25 (fun r' v' => r' = nI MT ∧ i_Rel (k + 7) (nI L, 1, f_parts, f_highs, f_tokens, f_conditionLength, f_conditionNames, f_depth, f_found, f_testAt, f_count, f_different, f_cheapest, nI d, nI F, nI L', bi nul, 1, nI s, st, a_state, a_old, a_kept, a_leaving', a_coming', a_ofType', a_withLabels', a_kind, a_types, a_direction, a_low, a_high, a_variable, a_labels, a_token, a_condition, a_truth, a_number, a_variableOf, a_atPart, a_trail, a_here, a_bound, a_named, a_used, a_weight, a_left, a_ends, a_seen, a_sum, a_some, a_letter, a_follow, a_firstOf, a_lastOf, a_nullable, a_spelled, a_visited', a_front', a_next') v') (nI s) (nI L) yf_parts yf_pending yf_conditions (nI nt) yf_depth yf_used yf_weight yf_found yf_lightest yf_some yf_sum ya_labels ya_properties ya_from ya_to ya_types ya_weights ya_variable ya_wanted ya_among ya_direction ya_low ya_high ya_tokens ya_condition ya_expression ya_stack ya_part ya_steps ya_place ya_choice ya_bound ya_took ya_nodeOf ya_chosen far (kk + 1) (nI S) x := by
        intro z
        refine nm_r (nI_1 i) (ih (i + 1) S (by omega) hS' fun x => ?_)
        rw [hb]
        constructor
        · rintro ⟨a, b⟩; exact ⟨by omega, b⟩
        · rintro ⟨a, b⟩
          by_cases y : x = i
          · subst y; rw [z] at b; exact absurd b (by decide)
          · exact ⟨by omega, b⟩
      refine br_f (nI_ge (b := 8) hi (by omega)) (y_isNode G.2.1 (fun z => br_f (by decide) ?_) (fun z => br_t rfl (skip (ts_nt fun y => z ⟨i, hi, rfl, ((bit i hi).mp y).1⟩))))
      obtain ⟨i', i1, i2, gi⟩ := z
      have : i = i' := (nI_eq (by omega) (by omega)).mp i2
      subst this
      rw [ix, nI_clamp (by omega), fv]
      refine ⟨vp_in_nI (by omega) (by omega), ?_⟩
      by_cases w : 1000000 ≤ D (8 * s + i)
      · refine br_t (nI_le (a := 1000000) w (by omega)) (skip (ts_nt fun y => ?_))
        have := ((bit i hi).mp y).2
        omega
      · have mb : MT.testBit i = true := (bit i hi).mpr ⟨gi, by omega⟩
        refine br_f (nI_ge (b := 1000000) (by omega) (by omega)) (nm_r (e' := nI (S ||| 2 ^ i)) (by rw [bb_1shl (by omega), bb_or]) (nm_r (nI_1 i) (ih (i + 1) _ (by omega) (bb_or2_lt hS' hi) fun x => ?_)))
        rw [bb_or2, Bool.or_eq_true, decide_eq_true_eq, hb]
        constructor
        · rintro (⟨a, b⟩ | rfl)
          · exact ⟨by omega, b⟩
          · exact ⟨by omega, mb⟩
        · rintro ⟨a, b⟩
          by_cases y : x = i
          · exact Or.inr y.symm
          · exact Or.inl ⟨by omega, b⟩
  exact key 8 0 0 (by omega) (by decide) (fun x => ⟨fun z => by rw [Nat.zero_testBit] at z; exact absurd z (by decide), fun z => absurd z.1 (Nat.not_lt_zero x)⟩)
end
section
/-! the beginning -/
theorem y_init {post : SY → Prop} (h : ∀ lb pr to, (∀ n, n < 40 → lb n = -1) → (∀ n, n < 60 → to n = -1) → post (0, 0, 0, 0, 0, 0, 0, 0, 0, 0, 0, 0, lb, pr, (fun _ => 0), to, (fun _ => 0), (fun _ => 0), (fun _ => 0), (fun _ => 0), (fun _ => 0), (fun _ => 0), (fun _ => 0), (fun _ => 0), (fun _ => 0), (fun _ => 0), (fun _ => 0), (fun _ => 0), (fun _ => 0), (fun _ => 0), (fun _ => 0), (fun _ => 0), (fun _ => 0), (fun _ => 0), (fun _ => 0), (fun _ => 0), (fun _ => 0))) : wpY_init post := by
  have k237 : ∀ lb pr, (∀ n, n < 40 → lb n = -1) → ∀ n i to, i ≤ 60 → 60 - i < n → (∀ x, x < i → to x = -1) → wY_init_237 post 0 0 0 0 0 0 0 0 0 0 0 0 n (nI i) lb pr (fun _ => 0) to (fun _ => 0) (fun _ => 0) (fun _ => 0) (fun _ => 0) (fun _ => 0) (fun _ => 0) (fun _ => 0) (fun _ => 0) (fun _ => 0) (fun _ => 0) (fun _ => 0) (fun _ => 0) (fun _ => 0) (fun _ => 0) (fun _ => 0) (fun _ => 0) (fun _ => 0) (fun _ => 0) (fun _ => 0) (fun _ => 0) (fun _ => 0) := by
    intro lb pr hlb n
    induction n with
    | zero => intro i to _ hn; omega
    | succ n ih =>
      intro i to hi hn J
      by_cases e : i = 60
      · subst e
        exact br_t (nI_le (b := 60) (Nat.le_refl _) (by omega)) (h lb pr to hlb J)
      · refine br_f (nI_ge (b := 60) (by omega) (by omega)) ⟨vp_in_nI (by omega) (by omega), nm_r (e' := upd to i (-1)) (by rw [nI_clamp (by omega)]) (nm_r (nI_1 i) (ih (i + 1) _ (by omega) (by omega) fun x hx => ?_))⟩
        by_cases y : x = i
        · subst y; exact pk_us
        · rw [pk_un y]; exact J x (by omega)
  have k207 : ∀ n i lb pr, i ≤ 40 → 40 - i < n → (∀ x, x < i → lb x = -1) → wY_init_207 post 0 0 0 0 0 0 0 0 0 0 0 0 n (nI i) lb pr (fun _ => 0) (fun _ => 0) (fun _ => 0) (fun _ => 0) (fun _ => 0) (fun _ => 0) (fun _ => 0) (fun _ => 0) (fun _ => 0) (fun _ => 0) (fun _ => 0) (fun _ => 0) (fun _ => 0) (fun _ => 0) (fun _ => 0) (fun _ => 0) (fun _ => 0) (fun _ => 0) (fun _ => 0) (fun _ => 0) (fun _ => 0) (fun _ => 0) (fun _ => 0) := by
    intro n
    induction n with
    | zero => intro i lb pr _ hn; omega
    | succ n ih =>
      intro i lb pr hi hn J
      by_cases e : i = 40
      · subst e
        exact br_t (nI_le (b := 40) (Nat.le_refl _) (by omega)) ⟨61, k237 lb pr J 61 0 _ (by omega) (by omega) (fun x hx => absurd hx (Nat.not_lt_zero x))⟩
      · have ci : (nI i).toNatClampNeg = i := nI_clamp (by omega)
        refine br_f (nI_ge (b := 40) (by omega) (by omega)) ⟨vp_in_nI (by omega) (by omega), nm_r (e' := upd lb i (-1)) (by rw [ci]) ⟨vp_in_nI (by omega) (by omega), nm_r (e' := vp_updL pr i 9000000000000000000) (by rw [ci]) (nm_r (nI_1 i) (ih (i + 1) _ _ (by omega) (by omega) fun x hx => ?_))⟩⟩
        by_cases y : x = i
        · subst y; exact pk_us
        · rw [pk_un y]; exact J x (by omega)
  unfold wpY_init
  exact ⟨41, k207 41 0 _ _ (by omega) (by omega) (fun x hx => absurd hx (Nat.not_lt_zero x))⟩
theorem i_vc0 : wpX_init (fun u => wpY_init (fun v => i_Rel 0 u v)) := by
  unfold wpX_init
  refine y_init fun lb pr to hlb hto => ?_
  refine mk_R (P := 0) (q := fun _ _ => 0) (c := fun _ => 0) (m := 0) (CN := 0) ⟨0, fun _ _ => 0, by omega, rfl, rfl, fun l hl => absurd hl (Nat.not_lt_zero l), ⟨⟨fun n _ z => absurd rfl z, fun e _ z => absurd rfl z⟩, fun n hn => Or.inl ⟨rfl, hlb _ (by omega)⟩, fun e he => Or.inl ⟨rfl, hto _ (by omega)⟩⟩, fun l hl => absurd hl (Nat.not_lt_zero l)⟩ (Or.inl rfl) ⟨rfl, 0, fun _ => 0, by omega, rfl, rfl, fun k hk => absurd hk (Nat.not_lt_zero k)⟩ (Or.inl ⟨rfl, rfl⟩) ⟨⟨rfl, rfl, rfl⟩, ⟨rfl, rfl, rfl, rfl, rfl⟩, ⟨by omega, Nat.zero_le 5, fun p hp => absurd hp (Nat.not_lt_zero p)⟩, ⟨by omega, Nat.zero_le 5, fun p hp => absurd hp (Nat.not_lt_zero p)⟩⟩ ⟨⟨rfl, rfl, rfl, rfl⟩, ⟨by omega, fun k hk => absurd hk (Nat.not_lt_zero k), fun h => absurd h (Nat.lt_irrefl 0)⟩, by decide, fun k hk => absurd hk (Nat.not_lt_zero k), fun v hv => by rw [Nat.zero_testBit] at hv; exact absurd hv (by decide)⟩ (Or.inl rfl)
end
