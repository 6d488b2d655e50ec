section
/-! pure rows to paste: stores, nI and lN arithmetic, masks, shifts, narrowing, branches by naturals (pk_le, pk_lt, pk_eq), loops (lp1 .. lp16: the measure of the state; rp1 ..: recursion), negatives. Take what you need -/
theorem pk_us {f : Nat → Int32} {k : Nat} {x : Int32} : upd f k x k = x := if_pos rfl
theorem pk_un {f : Nat → Int32} {k j : Nat} {x : Int32} (h : j ≠ k) : upd f k x j = f j := if_neg h
theorem pk_uLs {f : Nat → Int64} {k : Nat} {x : Int64} : vp_updL f k x k = x := if_pos rfl
theorem pk_uLn {f : Nat → Int64} {k j : Nat} {x : Int64} (h : j ≠ k) : vp_updL f k x j = f j := if_neg h
theorem pk_sub {a b : Nat} (h : b ≤ a) : nI a - nI b = nI (a - b) := by
  obtain ⟨c, rfl⟩ : ∃ c, a = c + b := ⟨a - b, by omega⟩
  rw [← nI_add, Int32.add_sub_cancel, Nat.add_sub_cancel]
theorem pk_m1 (n : Nat) : nI (n + 1) + (-1) = nI n := by
  rw [← nI_1, Int32.add_assoc, show (1 : Int32) + (-1) = 0 from rfl, Int32.add_zero]
theorem pk_mul (a b : Nat) : nI a * nI b = nI (a * b) := (Int32.ofNat_mul a b).symm
theorem pk_div {a d : Nat} (ha : a < 2 ^ 31) (h0 : 0 < d) (hd : d < 2 ^ 31) : nI a / nI d = nI (a / d) := by
  apply Int32.toInt_inj.mp
  rw [lg_idiv_nonneg (by rw [nI_toInt ha]; omega) (by rw [nI_toInt hd]; omega), nI_toInt ha, nI_toInt hd, nI_toInt (Nat.lt_of_le_of_lt (Nat.div_le_self a d) ha)]
  first | rfl | exact (Int.natCast_ediv _ _).symm
theorem pk_rem {a d : Nat} (ha : a < 2 ^ 31) (h0 : 0 < d) (hd : d < 2 ^ 31) : nI a - nI a / nI d * nI d = nI (a % d) := by
  rw [pk_div ha h0 hd, pk_mul, pk_sub (Nat.div_mul_le_self a d)]
  exact congrArg nI (by have := Nat.div_add_mod' a d; omega)
theorem pk_sub_toInt {a b : Nat} (ha : a < 2 ^ 30) (hb : b < 2 ^ 30) : (nI a - nI b).toInt = (a : Int) - b := by
  rw [Int32.toInt_sub, nI_toInt (by omega), nI_toInt (by omega)]
  exact Int.bmod_eq_of_le (by omega) (by omega)
theorem pk_sneg {a b : Nat} (hb : b < 2 ^ 30) (h : a < b) : nI a - nI b < 0 := by
  rw [Int32.lt_iff_toInt_lt, pk_sub_toInt (by omega) hb, show (0 : Int32).toInt = 0 from by decide]
  omega
theorem pk_ix (x : Int32) {n : Nat} (hn : n < 2 ^ 31) : x < 0 ∨ nI n ≤ x ∨ ∃ j : Nat, j < n ∧ x = nI j := by
  by_cases h : x < 0
  · exact Or.inl h
  · obtain ⟨j, hj, rfl⟩ := nI_of h
    by_cases h2 : j < n
    · exact Or.inr (Or.inr ⟨j, h2, rfl⟩)
    · exact Or.inr (Or.inl (nI_le (by omega) hj))
theorem pk_le {x y : Int32} {A B : Prop} (a b : Nat) (f : a ≤ b → A) (g : b < a → B) (hx : x = nI a := by rfl) (hy : y = nI b := by rfl) (ha : a < 2 ^ 31 := by omega) (hb : b < 2 ^ 31 := by omega) : (x ≤ y → A) ∧ (¬ x ≤ y → B) := by
  subst hx hy
  rw [nI_leI ha hb]
  exact ⟨f, fun z => g (by omega)⟩
theorem pk_lt {x y : Int32} {A B : Prop} (a b : Nat) (f : a < b → A) (g : b ≤ a → B) (hx : x = nI a := by rfl) (hy : y = nI b := by rfl) (ha : a < 2 ^ 31 := by omega) (hb : b < 2 ^ 31 := by omega) : (x < y → A) ∧ (¬ x < y → B) := by
  subst hx hy
  rw [nI_ltI ha hb]
  exact ⟨f, fun z => g (by omega)⟩
theorem pk_eq {x y : Int32} {A B : Prop} (a b : Nat) (f : a = b → A) (g : a ≠ b → B) (hx : x = nI a := by rfl) (hy : y = nI b := by rfl) (ha : a < 2 ^ 31 := by omega) (hb : b < 2 ^ 31 := by omega) : (x = y → A) ∧ (¬ x = y → B) := by
  subst hx hy
  rw [nI_eq ha hb]
  exact ⟨f, g⟩
theorem pk_in {x : Int32} (n N : Nat) (h : n < N) (hx : x = nI n := by rfl) (hN : N < 2 ^ 31 := by omega) : vp_in x N := by
  subst hx
  exact vp_in_nI h hN
theorem pk_cl {x : Int32} (n : Nat) (hx : x = nI n := by rfl) (h : n < 2 ^ 31 := by omega) : x.toNatClampNeg = n := by
  subst hx
  exact nI_clamp h
theorem pk_tn {n : Nat} (h : n < 2 ^ 32) : (nI n).toBitVec.toNat = n := Nat.mod_eq_of_lt h
theorem pk_and (x : Int32) {m : Int32} (k : Nat) (hm : m.toBitVec.toNat = 2 ^ k - 1) : x &&& m = nI (x.toBitVec.toNat % 2 ^ k) := by
  apply Int32.toBitVec_inj.mp
  apply BitVec.eq_of_toNat_eq
  rw [Int32.toBitVec_and, BitVec.toNat_and, hm, Nat.and_two_pow_sub_one_eq_mod]
  show _ = (BitVec.ofNat 32 _).toNat
  rw [BitVec.toNat_ofNat]
  exact (Nat.mod_eq_of_lt (Nat.lt_of_le_of_lt (Nat.mod_le _ _) x.toBitVec.isLt)).symm
theorem pk_andN {n : Nat} (h : n < 2 ^ 32) {m : Int32} (k : Nat) (hm : m.toBitVec.toNat = 2 ^ k - 1) : nI n &&& m = nI (n % 2 ^ k) := by
  rw [pk_and _ k hm, pk_tn h]
theorem pk_andE (x : Int32) {m : Int32} (k : Nat) (hm : m.toBitVec.toNat = 2 ^ k - 1) : ∃ j : Nat, j < 2 ^ k ∧ x &&& m = nI j := ⟨_, Nat.mod_lt _ (Nat.two_pow_pos k), pk_and x k hm⟩
theorem pk_andIn (x : Int32) {m : Int32} (k : Nat) (hm : m.toBitVec.toNat = 2 ^ k - 1) (hk : k ≤ 30) : vp_in (x &&& m) (2 ^ k) := by
  obtain ⟨j, hj, e⟩ := pk_andE x k hm
  rw [e]
  exact vp_in_nI hj (Nat.lt_of_le_of_lt (Nat.pow_le_pow_right (by decide) hk) (by decide))
theorem pk_shl (a s : Int32) (k : Nat) (hs : (s.toBitVec.smod 32).toNat = k) : (a <<< s).toBitVec.toNat = a.toBitVec.toNat * 2 ^ k % 2 ^ 32 := by
  show (a.toBitVec <<< (s.toBitVec.smod 32).toNat).toNat = _
  rw [hs, BitVec.toNat_shiftLeft, Nat.shiftLeft_eq]
theorem pk_shlN {n : Nat} (s : Int32) (k : Nat) (hs : (s.toBitVec.smod 32).toNat = k) (h : n * 2 ^ k < 2 ^ 32) : nI n <<< s = nI (n * 2 ^ k) := by
  apply Int32.toBitVec_inj.mp
  apply BitVec.eq_of_toNat_eq
  have hn : n < 2 ^ 32 := Nat.lt_of_le_of_lt (Nat.le_mul_of_pos_right n (Nat.two_pow_pos k)) h
  rw [pk_shl _ _ k hs, pk_tn hn, pk_tn h, Nat.mod_eq_of_lt h]
theorem pk_shr (a s : Int32) (k : Nat) (hs : (s.toBitVec.smod 32).toNat = k) : (a >>> s).toInt = a.toInt >>> k := by
  show (a.toBitVec.sshiftRight (s.toBitVec.smod 32).toNat).toInt = _
  rw [hs, BitVec.toInt_sshiftRight]
  rfl
theorem pk_shrN {n : Nat} (h : n < 2 ^ 31) (s : Int32) (k : Nat) (hs : (s.toBitVec.smod 32).toNat = k) : nI n >>> s = nI (n / 2 ^ k) := by
  apply Int32.toInt_inj.mp
  have h2 : n / 2 ^ k ≤ n := Nat.div_le_self _ _
  rw [pk_shr _ _ k hs, nI_toInt h, nI_toInt (by omega), Int.shiftRight_eq_div_pow]
  rfl
theorem pk_ushr (x s : Int32) (k : Nat) (hs : ((s.toUInt32 &&& Int32.toUInt32 31).toBitVec % 32).toNat = k) : (x.toUInt32 >>> (s.toUInt32 &&& Int32.toUInt32 31)).toInt32.toBitVec.toNat = x.toBitVec.toNat / 2 ^ k := by
  have e : (x.toUInt32 >>> (s.toUInt32 &&& Int32.toUInt32 31)).toInt32.toBitVec = x.toBitVec >>> k := by
    rw [← hs]
    exact UInt32.toBitVec_shiftRight _ _
  rw [e, BitVec.toNat_ushiftRight, Nat.shiftRight_eq_div_pow]
theorem pk_ushrN {n : Nat} (hn : n < 2 ^ 32) (s : Int32) (k : Nat) (hs : ((s.toUInt32 &&& Int32.toUInt32 31).toBitVec % 32).toNat = k) : ((nI n).toUInt32 >>> (s.toUInt32 &&& Int32.toUInt32 31)).toInt32 = nI (n / 2 ^ k) := by
  apply Int32.toBitVec_inj.mp
  apply BitVec.eq_of_toNat_eq
  rw [pk_ushr _ s k hs, pk_tn hn, pk_tn (Nat.lt_of_le_of_lt (Nat.div_le_self _ _) hn)]
theorem pk_nb (z : Int32) : narrow .byte (.int z.toInt8.toInt32) = .int z.toInt8.toInt32 := congrArg Value.int (by simp)
theorem pk_ns (z : Int32) : narrow .short (.int z.toInt16.toInt32) = .int z.toInt16.toInt32 := congrArg Value.int (by simp)
theorem pk_fb (r : Int32) : fits .byte (.int r.toInt8.toInt32) = true := by
  have ⟨a, b⟩ := lg_i2b_range r
  have h1 : (-128 : Int32).toInt = -128 := by decide
  have h2 : (127 : Int32).toInt = 127 := by decide
  simp only [fits, Bool.and_eq_true, decide_eq_true_eq, Int32.le_iff_toInt_le, h1, h2]
  omega
theorem pk_fs (r : Int32) : fits .short (.int r.toInt16.toInt32) = true := by
  have ⟨a, b⟩ := lg_i2s_range r
  have h1 : (-32768 : Int32).toInt = -32768 := by decide
  have h2 : (32767 : Int32).toInt = 32767 := by decide
  simp only [fits, Bool.and_eq_true, decide_eq_true_eq, Int32.le_iff_toInt_le, h1, h2]
  omega
theorem pk_charN {q : Nat} (hq : q < 65536) : narrow .char (.int (nI q)) = .int (nI q) ∧ fits .char (.int (nI q)) = true := by
  constructor
  · have e : (nI q).toUInt32.toUInt16.toUInt32.toInt32 = nI q := by
      apply Int32.toBitVec_inj.mp
      apply BitVec.eq_of_toNat_eq
      show (nI q).toUInt32.toUInt16.toUInt32.toNat = q % 2 ^ 32
      rw [UInt16.toNat_toUInt32, UInt32.toNat_toUInt16, show (nI q).toUInt32.toNat = q % 2 ^ 32 from rfl]
      omega
    exact congrArg Value.int e
  · have a : (0 : Int32) ≤ nI q := nI_pos' (by omega)
    have b : nI q ≤ 65535 := nI_le (b := 65535) (by omega) (by decide)
    show (decide ((0 : Int32) ≤ nI q) && decide (nI q ≤ 65535)) = true
    rw [decide_eq_true a, decide_eq_true b]
    rfl
theorem pk_char (x : Int32) : (x.toUInt32 % 65536).toInt32 = nI (x.toBitVec.toNat % 65536) := by
  apply Int32.toBitVec_inj.mp
  apply BitVec.eq_of_toNat_eq
  rw [pk_tn (by omega)]
  show (x.toUInt32 % 65536).toNat = _
  rw [UInt32.toNat_mod]
  rfl
theorem pk_nc (x : Int32) : narrow .char (.int (x.toUInt32 % 65536).toInt32) = .int (x.toUInt32 % 65536).toInt32 := by
  rw [pk_char]
  exact (pk_charN (Nat.mod_lt _ (by decide))).1
theorem pk_fc (x : Int32) : fits .char (.int (x.toUInt32 % 65536).toInt32) = true := by
  rw [pk_char]
  exact (pk_charN (Nat.mod_lt _ (by decide))).2
theorem pk_vb (z : Int32) : vp_nar .byte z.toInt8.toInt32 = z.toInt8.toInt32 := by rw [vp_nar_byte]; simp
theorem pk_vs (z : Int32) : vp_nar .short z.toInt16.toInt32 = z.toInt16.toInt32 := by rw [vp_nar_short]; simp
theorem pk_vc (z : Int32) : vp_nar .char (z.toUInt32 % 65536).toInt32 = (z.toUInt32 % 65536).toInt32 := Value.int.inj (pk_nc z)
theorem pk_lT {n : Nat} (h : n < 2 ^ 63) : (lN n).toInt = (n : Int) := lg_ofNat_toInt h
theorem pk_lLT {a b : Nat} (ha : a < 2 ^ 63) (hb : b < 2 ^ 63) : lN a < lN b ↔ a < b := by
  rw [Int64.lt_iff_toInt_lt, pk_lT ha, pk_lT hb]; omega
theorem pk_lLE {a b : Nat} (ha : a < 2 ^ 63) (hb : b < 2 ^ 63) : lN a ≤ lN b ↔ a ≤ b := by
  rw [Int64.le_iff_toInt_le, pk_lT ha, pk_lT hb]; omega
theorem pk_lEQ {a b : Nat} (ha : a < 2 ^ 63) (hb : b < 2 ^ 63) : lN a = lN b ↔ a = b := by
  rw [← Int64.toInt_inj, pk_lT ha, pk_lT hb]; omega
theorem pk_lOf {x : Int64} (h : ¬ x < 0) : ∃ k : Nat, k < 2 ^ 63 ∧ x = lN k := by
  rw [Int64.lt_iff_toInt_lt] at h
  have h0 : (0 : Int64).toInt = 0 := by decide
  have hx := Int64.toInt_lt x
  refine ⟨x.toInt.toNat, by omega, Int64.toInt_inj.mp ?_⟩
  rw [pk_lT (by omega)]
  omega
theorem pk_lDiv {a b : Nat} (ha : a < 2 ^ 63) (h0 : 0 < b) (hb : b < 2 ^ 63) : lN a / lN b = lN (a / b) := by
  apply Int64.toInt_inj.mp
  rw [lg_ldiv_nonneg (by rw [pk_lT ha]; omega) (by rw [pk_lT hb]; omega), pk_lT ha, pk_lT hb, pk_lT (Nat.lt_of_le_of_lt (Nat.div_le_self a b) ha)]
  rfl
theorem pk_lRem {a b : Nat} (ha : a < 2 ^ 63) (h0 : 0 < b) (hb : b < 2 ^ 63) : lN a - lN a / lN b * lN b = lN (a % b) := by
  rw [pk_lDiv ha h0 hb, lN_mul, lN_sub (Nat.div_mul_le_self a b)]
  exact congrArg lN (by have := Nat.div_add_mod' a b; omega)
theorem pk_loop {σ : Type} (W : Nat → Nat → σ → Prop) (I : Nat → σ → Prop) (e i0 : Nat) (s : σ) (hi : i0 ≤ e) (h0 : I i0 s) (hx : ∀ n s, I e s → W (n + 1) e s)
    (hs : ∀ n i s, i < e → I i s → (∀ s', I (i + 1) s' → W n (i + 1) s') → W (n + 1) i s) : ∃ n, W n i0 s :=
  ⟨e + 1, loop_i W I e hx hs (e + 1) i0 s hi (by omega) h0⟩
theorem pk_loopD {σ : Type} (W : Nat → Nat → σ → Prop) (I : Nat → σ → Prop) (hx : ∀ n s, I 0 s → W (n + 1) 0 s)
    (hs : ∀ n i s, I (i + 1) s → (∀ s', I i s' → W n i s') → W (n + 1) (i + 1) s) : ∀ (e : Nat) (s : σ), I e s → W (e + 1) e s := by
  intro e
  induction e with
  | zero => exact fun s h => hx 0 s h
  | succ e ih => exact fun s h => hs (e + 1) e s h (fun s' h' => ih s' h')
theorem lp1 {A1 : Type} (W : Nat → A1 → Prop) (I : A1 → Prop) (μ : A1 → Nat) (hs : ∀ (n : Nat) (a1 : A1), I a1 → (∀ (b1 : A1), I b1 → μ b1 < μ a1 → W n b1) → W (n + 1) a1) (a1 : A1) (h : I a1) : ∃ n, W n a1 :=
  loop_m (σ := A1) (fun n s => W n s) (fun s => I s) (fun s => μ s) (fun n s hI hk => hs n s hI (fun b1 h9 hm => hk b1 h9 hm)) a1 h
theorem lp2 {A1 A2 : Type} (W : Nat → A1 → A2 → Prop) (I : A1 → A2 → Prop) (μ : A1 → A2 → Nat) (hs : ∀ (n : Nat) (a1 : A1) (a2 : A2), I a1 a2 → (∀ (b1 : A1) (b2 : A2), I b1 b2 → μ b1 b2 < μ a1 a2 → W n b1 b2) → W (n + 1) a1 a2) (a1 : A1) (a2 : A2) (h : I a1 a2) : ∃ n, W n a1 a2 :=
  loop_m (σ := A1 × A2) (fun n s => W n s.1 s.2) (fun s => I s.1 s.2) (fun s => μ s.1 s.2) (fun n s hI hk => hs n s.1 s.2 hI (fun b1 b2 h9 hm => hk (b1, b2) h9 hm)) (a1, a2) h
theorem lp3 {A1 A2 A3 : Type} (W : Nat → A1 → A2 → A3 → Prop) (I : A1 → A2 → A3 → Prop) (μ : A1 → A2 → A3 → Nat) (hs : ∀ (n : Nat) (a1 : A1) (a2 : A2) (a3 : A3), I a1 a2 a3 → (∀ (b1 : A1) (b2 : A2) (b3 : A3), I b1 b2 b3 → μ b1 b2 b3 < μ a1 a2 a3 → W n b1 b2 b3) → W (n + 1) a1 a2 a3) (a1 : A1) (a2 : A2) (a3 : A3) (h : I a1 a2 a3) : ∃ n, W n a1 a2 a3 :=
  loop_m (σ := A1 × A2 × A3) (fun n s => W n s.1 s.2.1 s.2.2) (fun s => I s.1 s.2.1 s.2.2) (fun s => μ s.1 s.2.1 s.2.2) (fun n s hI hk => hs n s.1 s.2.1 s.2.2 hI (fun b1 b2 b3 h9 hm => hk (b1, b2, b3) h9 hm)) (a1, a2, a3) h
theorem lp4 {A1 A2 A3 A4 : Type} (W : Nat → A1 → A2 → A3 → A4 → Prop) (I : A1 → A2 → A3 → A4 → Prop) (μ : A1 → A2 → A3 → A4 → Nat) (hs : ∀ (n : Nat) (a1 : A1) (a2 : A2) (a3 : A3) (a4 : A4), I a1 a2 a3 a4 → (∀ (b1 : A1) (b2 : A2) (b3 : A3) (b4 : A4), I b1 b2 b3 b4 → μ b1 b2 b3 b4 < μ a1 a2 a3 a4 → W n b1 b2 b3 b4) → W (n + 1) a1 a2 a3 a4) (a1 : A1) (a2 : A2) (a3 : A3) (a4 : A4) (h : I a1 a2 a3 a4) : ∃ n, W n a1 a2 a3 a4 :=
  loop_m (σ := A1 × A2 × A3 × A4) (fun n s => W n s.1 s.2.1 s.2.2.1 s.2.2.2) (fun s => I s.1 s.2.1 s.2.2.1 s.2.2.2) (fun s => μ s.1 s.2.1 s.2.2.1 s.2.2.2) (fun n s hI hk => hs n s.1 s.2.1 s.2.2.1 s.2.2.2 hI (fun b1 b2 b3 b4 h9 hm => hk (b1, b2, b3, b4) h9 hm)) (a1, a2, a3, a4) h
theorem lp5 {A1 A2 A3 A4 A5 : Type} (W : Nat → A1 → A2 → A3 → A4 → A5 → Prop) (I : A1 → A2 → A3 → A4 → A5 → Prop) (μ : A1 → A2 → A3 → A4 → A5 → Nat) (hs : ∀ (n : Nat) (a1 : A1) (a2 : A2) (a3 : A3) (a4 : A4) (a5 : A5), I a1 a2 a3 a4 a5 → (∀ (b1 : A1) (b2 : A2) (b3 : A3) (b4 : A4) (b5 : A5), I b1 b2 b3 b4 b5 → μ b1 b2 b3 b4 b5 < μ a1 a2 a3 a4 a5 → W n b1 b2 b3 b4 b5) → W (n + 1) a1 a2 a3 a4 a5) (a1 : A1) (a2 : A2) (a3 : A3) (a4 : A4) (a5 : A5) (h : I a1 a2 a3 a4 a5) : ∃ n, W n a1 a2 a3 a4 a5 :=
  loop_m (σ := A1 × A2 × A3 × A4 × A5) (fun n s => W n s.1 s.2.1 s.2.2.1 s.2.2.2.1 s.2.2.2.2) (fun s => I s.1 s.2.1 s.2.2.1 s.2.2.2.1 s.2.2.2.2) (fun s => μ s.1 s.2.1 s.2.2.1 s.2.2.2.1 s.2.2.2.2) (fun n s hI hk => hs n s.1 s.2.1 s.2.2.1 s.2.2.2.1 s.2.2.2.2 hI (fun b1 b2 b3 b4 b5 h9 hm => hk (b1, b2, b3, b4, b5) h9 hm)) (a1, a2, a3, a4, a5) h
theorem lp6 {A1 A2 A3 A4 A5 A6 : Type} (W : Nat → A1 → A2 → A3 → A4 → A5 → A6 → Prop) (I : A1 → A2 → A3 → A4 → A5 → A6 → Prop) (μ : A1 → A2 → A3 → A4 → A5 → A6 → Nat) (hs : ∀ (n : Nat) (a1 : A1) (a2 : A2) (a3 : A3) (a4 : A4) (a5 : A5) (a6 : A6), I a1 a2 a3 a4 a5 a6 → (∀ (b1 : A1) (b2 : A2) (b3 : A3) (b4 : A4) (b5 : A5) (b6 : A6), I b1 b2 b3 b4 b5 b6 → μ b1 b2 b3 b4 b5 b6 < μ a1 a2 a3 a4 a5 a6 → W n b1 b2 b3 b4 b5 b6) → W (n + 1) a1 a2 a3 a4 a5 a6) (a1 : A1) (a2 : A2) (a3 : A3) (a4 : A4) (a5 : A5) (a6 : A6) (h : I a1 a2 a3 a4 a5 a6) : ∃ n, W n a1 a2 a3 a4 a5 a6 :=
  loop_m (σ := A1 × A2 × A3 × A4 × A5 × A6) (fun n s => W n s.1 s.2.1 s.2.2.1 s.2.2.2.1 s.2.2.2.2.1 s.2.2.2.2.2) (fun s => I s.1 s.2.1 s.2.2.1 s.2.2.2.1 s.2.2.2.2.1 s.2.2.2.2.2) (fun s => μ s.1 s.2.1 s.2.2.1 s.2.2.2.1 s.2.2.2.2.1 s.2.2.2.2.2) (fun n s hI hk => hs n s.1 s.2.1 s.2.2.1 s.2.2.2.1 s.2.2.2.2.1 s.2.2.2.2.2 hI (fun b1 b2 b3 b4 b5 b6 h9 hm => hk (b1, b2, b3, b4, b5, b6) h9 hm)) (a1, a2, a3, a4, a5, a6) h
theorem lp7 {A1 A2 A3 A4 A5 A6 A7 : Type} (W : Nat → A1 → A2 → A3 → A4 → A5 → A6 → A7 → Prop) (I : A1 → A2 → A3 → A4 → A5 → A6 → A7 → Prop) (μ : A1 → A2 → A3 → A4 → A5 → A6 → A7 → Nat) (hs : ∀ (n : Nat) (a1 : A1) (a2 : A2) (a3 : A3) (a4 : A4) (a5 : A5) (a6 : A6) (a7 : A7), I a1 a2 a3 a4 a5 a6 a7 → (∀ (b1 : A1) (b2 : A2) (b3 : A3) (b4 : A4) (b5 : A5) (b6 : A6) (b7 : A7), I b1 b2 b3 b4 b5 b6 b7 → μ b1 b2 b3 b4 b5 b6 b7 < μ a1 a2 a3 a4 a5 a6 a7 → W n b1 b2 b3 b4 b5 b6 b7) → W (n + 1) a1 a2 a3 a4 a5 a6 a7) (a1 : A1) (a2 : A2) (a3 : A3) (a4 : A4) (a5 : A5) (a6 : A6) (a7 : A7) (h : I a1 a2 a3 a4 a5 a6 a7) : ∃ n, W n a1 a2 a3 a4 a5 a6 a7 :=
  loop_m (σ := A1 × A2 × A3 × A4 × A5 × A6 × A7) (fun n s => W n s.1 s.2.1 s.2.2.1 s.2.2.2.1 s.2.2.2.2.1 s.2.2.2.2.2.1 s.2.2.2.2.2.2) (fun s => I s.1 s.2.1 s.2.2.1 s.2.2.2.1 s.2.2.2.2.1 s.2.2.2.2.2.1 s.2.2.2.2.2.2) (fun s => μ s.1 s.2.1 s.2.2.1 s.2.2.2.1 s.2.2.2.2.1 s.2.2.2.2.2.1 s.2.2.2.2.2.2) (fun n s hI hk => hs n s.1 s.2.1 s.2.2.1 s.2.2.2.1 s.2.2.2.2.1 s.2.2.2.2.2.1 s.2.2.2.2.2.2 hI (fun b1 b2 b3 b4 b5 b6 b7 h9 hm => hk (b1, b2, b3, b4, b5, b6, b7) h9 hm)) (a1, a2, a3, a4, a5, a6, a7) h
theorem lp8 {A1 A2 A3 A4 A5 A6 A7 A8 : Type} (W : Nat → A1 → A2 → A3 → A4 → A5 → A6 → A7 → A8 → Prop) (I : A1 → A2 → A3 → A4 → A5 → A6 → A7 → A8 → Prop) (μ : A1 → A2 → A3 → A4 → A5 → A6 → A7 → A8 → Nat) (hs : ∀ (n : Nat) (a1 : A1) (a2 : A2) (a3 : A3) (a4 : A4) (a5 : A5) (a6 : A6) (a7 : A7) (a8 : A8), I a1 a2 a3 a4 a5 a6 a7 a8 → (∀ (b1 : A1) (b2 : A2) (b3 : A3) (b4 : A4) (b5 : A5) (b6 : A6) (b7 : A7) (b8 : A8), I b1 b2 b3 b4 b5 b6 b7 b8 → μ b1 b2 b3 b4 b5 b6 b7 b8 < μ a1 a2 a3 a4 a5 a6 a7 a8 → W n b1 b2 b3 b4 b5 b6 b7 b8) → W (n + 1) a1 a2 a3 a4 a5 a6 a7 a8) (a1 : A1) (a2 : A2) (a3 : A3) (a4 : A4) (a5 : A5) (a6 : A6) (a7 : A7) (a8 : A8) (h : I a1 a2 a3 a4 a5 a6 a7 a8) : ∃ n, W n a1 a2 a3 a4 a5 a6 a7 a8 :=
  loop_m (σ := A1 × A2 × A3 × A4 × A5 × A6 × A7 × A8) (fun n s => W n s.1 s.2.1 s.2.2.1 s.2.2.2.1 s.2.2.2.2.1 s.2.2.2.2.2.1 s.2.2.2.2.2.2.1 s.2.2.2.2.2.2.2) (fun s => I s.1 s.2.1 s.2.2.1 s.2.2.2.1 s.2.2.2.2.1 s.2.2.2.2.2.1 s.2.2.2.2.2.2.1 s.2.2.2.2.2.2.2) (fun s => μ s.1 s.2.1 s.2.2.1 s.2.2.2.1 s.2.2.2.2.1 s.2.2.2.2.2.1 s.2.2.2.2.2.2.1 s.2.2.2.2.2.2.2) (fun n s hI hk => hs n s.1 s.2.1 s.2.2.1 s.2.2.2.1 s.2.2.2.2.1 s.2.2.2.2.2.1 s.2.2.2.2.2.2.1 s.2.2.2.2.2.2.2 hI (fun b1 b2 b3 b4 b5 b6 b7 b8 h9 hm => hk (b1, b2, b3, b4, b5, b6, b7, b8) h9 hm)) (a1, a2, a3, a4, a5, a6, a7, a8) h
theorem lp9 {A1 A2 A3 A4 A5 A6 A7 A8 A9 : Type} (W : Nat → A1 → A2 → A3 → A4 → A5 → A6 → A7 → A8 → A9 → Prop) (I : A1 → A2 → A3 → A4 → A5 → A6 → A7 → A8 → A9 → Prop) (μ : A1 → A2 → A3 → A4 → A5 → A6 → A7 → A8 → A9 → Nat) (hs : ∀ (n : Nat) (a1 : A1) (a2 : A2) (a3 : A3) (a4 : A4) (a5 : A5) (a6 : A6) (a7 : A7) (a8 : A8) (a9 : A9), I a1 a2 a3 a4 a5 a6 a7 a8 a9 → (∀ (b1 : A1) (b2 : A2) (b3 : A3) (b4 : A4) (b5 : A5) (b6 : A6) (b7 : A7) (b8 : A8) (b9 : A9), I b1 b2 b3 b4 b5 b6 b7 b8 b9 → μ b1 b2 b3 b4 b5 b6 b7 b8 b9 < μ a1 a2 a3 a4 a5 a6 a7 a8 a9 → W n b1 b2 b3 b4 b5 b6 b7 b8 b9) → W (n + 1) a1 a2 a3 a4 a5 a6 a7 a8 a9) (a1 : A1) (a2 : A2) (a3 : A3) (a4 : A4) (a5 : A5) (a6 : A6) (a7 : A7) (a8 : A8) (a9 : A9) (h : I a1 a2 a3 a4 a5 a6 a7 a8 a9) : ∃ n, W n a1 a2 a3 a4 a5 a6 a7 a8 a9 :=
  loop_m (σ := A1 × A2 × A3 × A4 × A5 × A6 × A7 × A8 × A9) (fun n s => W n s.1 s.2.1 s.2.2.1 s.2.2.2.1 s.2.2.2.2.1 s.2.2.2.2.2.1 s.2.2.2.2.2.2.1 s.2.2.2.2.2.2.2.1 s.2.2.2.2.2.2.2.2) (fun s => I s.1 s.2.1 s.2.2.1 s.2.2.2.1 s.2.2.2.2.1 s.2.2.2.2.2.1 s.2.2.2.2.2.2.1 s.2.2.2.2.2.2.2.1 s.2.2.2.2.2.2.2.2) (fun s => μ s.1 s.2.1 s.2.2.1 s.2.2.2.1 s.2.2.2.2.1 s.2.2.2.2.2.1 s.2.2.2.2.2.2.1 s.2.2.2.2.2.2.2.1 s.2.2.2.2.2.2.2.2) (fun n s hI hk => hs n s.1 s.2.1 s.2.2.1 s.2.2.2.1 s.2.2.2.2.1 s.2.2.2.2.2.1 s.2.2.2.2.2.2.1 s.2.2.2.2.2.2.2.1 s.2.2.2.2.2.2.2.2 hI (fun b1 b2 b3 b4 b5 b6 b7 b8 b9 h9 hm => hk (b1, b2, b3, b4, b5, b6, b7, b8, b9) h9 hm)) (a1, a2, a3, a4, a5, a6, a7, a8, a9) h
theorem lp10 {A1 A2 A3 A4 A5 A6 A7 A8 A9 A10 : Type} (W : Nat → A1 → A2 → A3 → A4 → A5 → A6 → A7 → A8 → A9 → A10 → Prop) (I : A1 → A2 → A3 → A4 → A5 → A6 → A7 → A8 → A9 → A10 → Prop) (μ : A1 → A2 → A3 → A4 → A5 → A6 → A7 → A8 → A9 → A10 → Nat) (hs : ∀ (n : Nat) (a1 : A1) (a2 : A2) (a3 : A3) (a4 : A4) (a5 : A5) (a6 : A6) (a7 : A7) (a8 : A8) (a9 : A9) (a10 : A10), I a1 a2 a3 a4 a5 a6 a7 a8 a9 a10 → (∀ (b1 : A1) (b2 : A2) (b3 : A3) (b4 : A4) (b5 : A5) (b6 : A6) (b7 : A7) (b8 : A8) (b9 : A9) (b10 : A10), I b1 b2 b3 b4 b5 b6 b7 b8 b9 b10 → μ b1 b2 b3 b4 b5 b6 b7 b8 b9 b10 < μ a1 a2 a3 a4 a5 a6 a7 a8 a9 a10 → W n b1 b2 b3 b4 b5 b6 b7 b8 b9 b10) → W (n + 1) a1 a2 a3 a4 a5 a6 a7 a8 a9 a10) (a1 : A1) (a2 : A2) (a3 : A3) (a4 : A4) (a5 : A5) (a6 : A6) (a7 : A7) (a8 : A8) (a9 : A9) (a10 : A10) (h : I a1 a2 a3 a4 a5 a6 a7 a8 a9 a10) : ∃ n, W n a1 a2 a3 a4 a5 a6 a7 a8 a9 a10 :=
  loop_m (σ := A1 × A2 × A3 × A4 × A5 × A6 × A7 × A8 × A9 × A10) (fun n s => W n s.1 s.2.1 s.2.2.1 s.2.2.2.1 s.2.2.2.2.1 s.2.2.2.2.2.1 s.2.2.2.2.2.2.1 s.2.2.2.2.2.2.2.1 s.2.2.2.2.2.2.2.2.1 s.2.2.2.2.2.2.2.2.2) (fun s => I s.1 s.2.1 s.2.2.1 s.2.2.2.1 s.2.2.2.2.1 s.2.2.2.2.2.1 s.2.2.2.2.2.2.1 s.2.2.2.2.2.2.2.1 s.2.2.2.2.2.2.2.2.1 s.2.2.2.2.2.2.2.2.2) (fun s => μ s.1 s.2.1 s.2.2.1 s.2.2.2.1 s.2.2.2.2.1 s.2.2.2.2.2.1 s.2.2.2.2.2.2.1 s.2.2.2.2.2.2.2.1 s.2.2.2.2.2.2.2.2.1 s.2.2.2.2.2.2.2.2.2) (fun n s hI hk => hs n s.1 s.2.1 s.2.2.1 s.2.2.2.1 s.2.2.2.2.1 s.2.2.2.2.2.1 s.2.2.2.2.2.2.1 s.2.2.2.2.2.2.2.1 s.2.2.2.2.2.2.2.2.1 s.2.2.2.2.2.2.2.2.2 hI (fun b1 b2 b3 b4 b5 b6 b7 b8 b9 b10 h9 hm => hk (b1, b2, b3, b4, b5, b6, b7, b8, b9, b10) h9 hm)) (a1, a2, a3, a4, a5, a6, a7, a8, a9, a10) h
theorem lp11 {A1 A2 A3 A4 A5 A6 A7 A8 A9 A10 A11 : Type} (W : Nat → A1 → A2 → A3 → A4 → A5 → A6 → A7 → A8 → A9 → A10 → A11 → Prop) (I : A1 → A2 → A3 → A4 → A5 → A6 → A7 → A8 → A9 → A10 → A11 → Prop) (μ : A1 → A2 → A3 → A4 → A5 → A6 → A7 → A8 → A9 → A10 → A11 → Nat) (hs : ∀ (n : Nat) (a1 : A1) (a2 : A2) (a3 : A3) (a4 : A4) (a5 : A5) (a6 : A6) (a7 : A7) (a8 : A8) (a9 : A9) (a10 : A10) (a11 : A11), I a1 a2 a3 a4 a5 a6 a7 a8 a9 a10 a11 → (∀ (b1 : A1) (b2 : A2) (b3 : A3) (b4 : A4) (b5 : A5) (b6 : A6) (b7 : A7) (b8 : A8) (b9 : A9) (b10 : A10) (b11 : A11), I b1 b2 b3 b4 b5 b6 b7 b8 b9 b10 b11 → μ b1 b2 b3 b4 b5 b6 b7 b8 b9 b10 b11 < μ a1 a2 a3 a4 a5 a6 a7 a8 a9 a10 a11 → W n b1 b2 b3 b4 b5 b6 b7 b8 b9 b10 b11) → W (n + 1) a1 a2 a3 a4 a5 a6 a7 a8 a9 a10 a11) (a1 : A1) (a2 : A2) (a3 : A3) (a4 : A4) (a5 : A5) (a6 : A6) (a7 : A7) (a8 : A8) (a9 : A9) (a10 : A10) (a11 : A11) (h : I a1 a2 a3 a4 a5 a6 a7 a8 a9 a10 a11) : ∃ n, W n a1 a2 a3 a4 a5 a6 a7 a8 a9 a10 a11 :=
  loop_m (σ := A1 × A2 × A3 × A4 × A5 × A6 × A7 × A8 × A9 × A10 × A11) (fun n s => W n s.1 s.2.1 s.2.2.1 s.2.2.2.1 s.2.2.2.2.1 s.2.2.2.2.2.1 s.2.2.2.2.2.2.1 s.2.2.2.2.2.2.2.1 s.2.2.2.2.2.2.2.2.1 s.2.2.2.2.2.2.2.2.2.1 s.2.2.2.2.2.2.2.2.2.2) (fun s => I s.1 s.2.1 s.2.2.1 s.2.2.2.1 s.2.2.2.2.1 s.2.2.2.2.2.1 s.2.2.2.2.2.2.1 s.2.2.2.2.2.2.2.1 s.2.2.2.2.2.2.2.2.1 s.2.2.2.2.2.2.2.2.2.1 s.2.2.2.2.2.2.2.2.2.2) (fun s => μ s.1 s.2.1 s.2.2.1 s.2.2.2.1 s.2.2.2.2.1 s.2.2.2.2.2.1 s.2.2.2.2.2.2.1 s.2.2.2.2.2.2.2.1 s.2.2.2.2.2.2.2.2.1 s.2.2.2.2.2.2.2.2.2.1 s.2.2.2.2.2.2.2.2.2.2) (fun n s hI hk => hs n s.1 s.2.1 s.2.2.1 s.2.2.2.1 s.2.2.2.2.1 s.2.2.2.2.2.1 s.2.2.2.2.2.2.1 s.2.2.2.2.2.2.2.1 s.2.2.2.2.2.2.2.2.1 s.2.2.2.2.2.2.2.2.2.1 s.2.2.2.2.2.2.2.2.2.2 hI (fun b1 b2 b3 b4 b5 b6 b7 b8 b9 b10 b11 h9 hm => hk (b1, b2, b3, b4, b5, b6, b7, b8, b9, b10, b11) h9 hm)) (a1, a2, a3, a4, a5, a6, a7, a8, a9, a10, a11) h
theorem lp12 {A1 A2 A3 A4 A5 A6 A7 A8 A9 A10 A11 A12 : Type} (W : Nat → A1 → A2 → A3 → A4 → A5 → A6 → A7 → A8 → A9 → A10 → A11 → A12 → Prop) (I : A1 → A2 → A3 → A4 → A5 → A6 → A7 → A8 → A9 → A10 → A11 → A12 → Prop) (μ : A1 → A2 → A3 → A4 → A5 → A6 → A7 → A8 → A9 → A10 → A11 → A12 → Nat) (hs : ∀ (n : Nat) (a1 : A1) (a2 : A2) (a3 : A3) (a4 : A4) (a5 : A5) (a6 : A6) (a7 : A7) (a8 : A8) (a9 : A9) (a10 : A10) (a11 : A11) (a12 : A12), I a1 a2 a3 a4 a5 a6 a7 a8 a9 a10 a11 a12 → (∀ (b1 : A1) (b2 : A2) (b3 : A3) (b4 : A4) (b5 : A5) (b6 : A6) (b7 : A7) (b8 : A8) (b9 : A9) (b10 : A10) (b11 : A11) (b12 : A12), I b1 b2 b3 b4 b5 b6 b7 b8 b9 b10 b11 b12 → μ b1 b2 b3 b4 b5 b6 b7 b8 b9 b10 b11 b12 < μ a1 a2 a3 a4 a5 a6 a7 a8 a9 a10 a11 a12 → W n b1 b2 b3 b4 b5 b6 b7 b8 b9 b10 b11 b12) → W (n + 1) a1 a2 a3 a4 a5 a6 a7 a8 a9 a10 a11 a12) (a1 : A1) (a2 : A2) (a3 : A3) (a4 : A4) (a5 : A5) (a6 : A6) (a7 : A7) (a8 : A8) (a9 : A9) (a10 : A10) (a11 : A11) (a12 : A12) (h : I a1 a2 a3 a4 a5 a6 a7 a8 a9 a10 a11 a12) : ∃ n, W n a1 a2 a3 a4 a5 a6 a7 a8 a9 a10 a11 a12 :=
  loop_m (σ := A1 × A2 × A3 × A4 × A5 × A6 × A7 × A8 × A9 × A10 × A11 × A12) (fun n s => W n s.1 s.2.1 s.2.2.1 s.2.2.2.1 s.2.2.2.2.1 s.2.2.2.2.2.1 s.2.2.2.2.2.2.1 s.2.2.2.2.2.2.2.1 s.2.2.2.2.2.2.2.2.1 s.2.2.2.2.2.2.2.2.2.1 s.2.2.2.2.2.2.2.2.2.2.1 s.2.2.2.2.2.2.2.2.2.2.2) (fun s => I s.1 s.2.1 s.2.2.1 s.2.2.2.1 s.2.2.2.2.1 s.2.2.2.2.2.1 s.2.2.2.2.2.2.1 s.2.2.2.2.2.2.2.1 s.2.2.2.2.2.2.2.2.1 s.2.2.2.2.2.2.2.2.2.1 s.2.2.2.2.2.2.2.2.2.2.1 s.2.2.2.2.2.2.2.2.2.2.2) (fun s => μ s.1 s.2.1 s.2.2.1 s.2.2.2.1 s.2.2.2.2.1 s.2.2.2.2.2.1 s.2.2.2.2.2.2.1 s.2.2.2.2.2.2.2.1 s.2.2.2.2.2.2.2.2.1 s.2.2.2.2.2.2.2.2.2.1 s.2.2.2.2.2.2.2.2.2.2.1 s.2.2.2.2.2.2.2.2.2.2.2) (fun n s hI hk => hs n s.1 s.2.1 s.2.2.1 s.2.2.2.1 s.2.2.2.2.1 s.2.2.2.2.2.1 s.2.2.2.2.2.2.1 s.2.2.2.2.2.2.2.1 s.2.2.2.2.2.2.2.2.1 s.2.2.2.2.2.2.2.2.2.1 s.2.2.2.2.2.2.2.2.2.2.1 s.2.2.2.2.2.2.2.2.2.2.2 hI (fun b1 b2 b3 b4 b5 b6 b7 b8 b9 b10 b11 b12 h9 hm => hk (b1, b2, b3, b4, b5, b6, b7, b8, b9, b10, b11, b12) h9 hm)) (a1, a2, a3, a4, a5, a6, a7, a8, a9, a10, a11, a12) h
theorem lp13 {A1 A2 A3 A4 A5 A6 A7 A8 A9 A10 A11 A12 A13 : Type} (W : Nat → A1 → A2 → A3 → A4 → A5 → A6 → A7 → A8 → A9 → A10 → A11 → A12 → A13 → Prop) (I : A1 → A2 → A3 → A4 → A5 → A6 → A7 → A8 → A9 → A10 → A11 → A12 → A13 → Prop) (μ : A1 → A2 → A3 → A4 → A5 → A6 → A7 → A8 → A9 → A10 → A11 → A12 → A13 → Nat) (hs : ∀ (n : Nat) (a1 : A1) (a2 : A2) (a3 : A3) (a4 : A4) (a5 : A5) (a6 : A6) (a7 : A7) (a8 : A8) (a9 : A9) (a10 : A10) (a11 : A11) (a12 : A12) (a13 : A13), I a1 a2 a3 a4 a5 a6 a7 a8 a9 a10 a11 a12 a13 → (∀ (b1 : A1) (b2 : A2) (b3 : A3) (b4 : A4) (b5 : A5) (b6 : A6) (b7 : A7) (b8 : A8) (b9 : A9) (b10 : A10) (b11 : A11) (b12 : A12) (b13 : A13), I b1 b2 b3 b4 b5 b6 b7 b8 b9 b10 b11 b12 b13 → μ b1 b2 b3 b4 b5 b6 b7 b8 b9 b10 b11 b12 b13 < μ a1 a2 a3 a4 a5 a6 a7 a8 a9 a10 a11 a12 a13 → W n b1 b2 b3 b4 b5 b6 b7 b8 b9 b10 b11 b12 b13) → W (n + 1) a1 a2 a3 a4 a5 a6 a7 a8 a9 a10 a11 a12 a13) (a1 : A1) (a2 : A2) (a3 : A3) (a4 : A4) (a5 : A5) (a6 : A6) (a7 : A7) (a8 : A8) (a9 : A9) (a10 : A10) (a11 : A11) (a12 : A12) (a13 : A13) (h : I a1 a2 a3 a4 a5 a6 a7 a8 a9 a10 a11 a12 a13) : ∃ n, W n a1 a2 a3 a4 a5 a6 a7 a8 a9 a10 a11 a12 a13 :=
  loop_m (σ := A1 × A2 × A3 × A4 × A5 × A6 × A7 × A8 × A9 × A10 × A11 × A12 × A13) (fun n s => W n s.1 s.2.1 s.2.2.1 s.2.2.2.1 s.2.2.2.2.1 s.2.2.2.2.2.1 s.2.2.2.2.2.2.1 s.2.2.2.2.2.2.2.1 s.2.2.2.2.2.2.2.2.1 s.2.2.2.2.2.2.2.2.2.1 s.2.2.2.2.2.2.2.2.2.2.1 s.2.2.2.2.2.2.2.2.2.2.2.1 s.2.2.2.2.2.2.2.2.2.2.2.2) (fun s => I s.1 s.2.1 s.2.2.1 s.2.2.2.1 s.2.2.2.2.1 s.2.2.2.2.2.1 s.2.2.2.2.2.2.1 s.2.2.2.2.2.2.2.1 s.2.2.2.2.2.2.2.2.1 s.2.2.2.2.2.2.2.2.2.1 s.2.2.2.2.2.2.2.2.2.2.1 s.2.2.2.2.2.2.2.2.2.2.2.1 s.2.2.2.2.2.2.2.2.2.2.2.2) (fun s => μ s.1 s.2.1 s.2.2.1 s.2.2.2.1 s.2.2.2.2.1 s.2.2.2.2.2.1 s.2.2.2.2.2.2.1 s.2.2.2.2.2.2.2.1 s.2.2.2.2.2.2.2.2.1 s.2.2.2.2.2.2.2.2.2.1 s.2.2.2.2.2.2.2.2.2.2.1 s.2.2.2.2.2.2.2.2.2.2.2.1 s.2.2.2.2.2.2.2.2.2.2.2.2) (fun n s hI hk => hs n s.1 s.2.1 s.2.2.1 s.2.2.2.1 s.2.2.2.2.1 s.2.2.2.2.2.1 s.2.2.2.2.2.2.1 s.2.2.2.2.2.2.2.1 s.2.2.2.2.2.2.2.2.1 s.2.2.2.2.2.2.2.2.2.1 s.2.2.2.2.2.2.2.2.2.2.1 s.2.2.2.2.2.2.2.2.2.2.2.1 s.2.2.2.2.2.2.2.2.2.2.2.2 hI (fun b1 b2 b3 b4 b5 b6 b7 b8 b9 b10 b11 b12 b13 h9 hm => hk (b1, b2, b3, b4, b5, b6, b7, b8, b9, b10, b11, b12, b13) h9 hm)) (a1, a2, a3, a4, a5, a6, a7, a8, a9, a10, a11, a12, a13) h
theorem lp14 {A1 A2 A3 A4 A5 A6 A7 A8 A9 A10 A11 A12 A13 A14 : Type} (W : Nat → A1 → A2 → A3 → A4 → A5 → A6 → A7 → A8 → A9 → A10 → A11 → A12 → A13 → A14 → Prop) (I : A1 → A2 → A3 → A4 → A5 → A6 → A7 → A8 → A9 → A10 → A11 → A12 → A13 → A14 → Prop) (μ : A1 → A2 → A3 → A4 → A5 → A6 → A7 → A8 → A9 → A10 → A11 → A12 → A13 → A14 → Nat) (hs : ∀ (n : Nat) (a1 : A1) (a2 : A2) (a3 : A3) (a4 : A4) (a5 : A5) (a6 : A6) (a7 : A7) (a8 : A8) (a9 : A9) (a10 : A10) (a11 : A11) (a12 : A12) (a13 : A13) (a14 : A14), I a1 a2 a3 a4 a5 a6 a7 a8 a9 a10 a11 a12 a13 a14 → (∀ (b1 : A1) (b2 : A2) (b3 : A3) (b4 : A4) (b5 : A5) (b6 : A6) (b7 : A7) (b8 : A8) (b9 : A9) (b10 : A10) (b11 : A11) (b12 : A12) (b13 : A13) (b14 : A14), I b1 b2 b3 b4 b5 b6 b7 b8 b9 b10 b11 b12 b13 b14 → μ b1 b2 b3 b4 b5 b6 b7 b8 b9 b10 b11 b12 b13 b14 < μ a1 a2 a3 a4 a5 a6 a7 a8 a9 a10 a11 a12 a13 a14 → W n b1 b2 b3 b4 b5 b6 b7 b8 b9 b10 b11 b12 b13 b14) → W (n + 1) a1 a2 a3 a4 a5 a6 a7 a8 a9 a10 a11 a12 a13 a14) (a1 : A1) (a2 : A2) (a3 : A3) (a4 : A4) (a5 : A5) (a6 : A6) (a7 : A7) (a8 : A8) (a9 : A9) (a10 : A10) (a11 : A11) (a12 : A12) (a13 : A13) (a14 : A14) (h : I a1 a2 a3 a4 a5 a6 a7 a8 a9 a10 a11 a12 a13 a14) : ∃ n, W n a1 a2 a3 a4 a5 a6 a7 a8 a9 a10 a11 a12 a13 a14 :=
  loop_m (σ := A1 × A2 × A3 × A4 × A5 × A6 × A7 × A8 × A9 × A10 × A11 × A12 × A13 × A14) (fun n s => W n s.1 s.2.1 s.2.2.1 s.2.2.2.1 s.2.2.2.2.1 s.2.2.2.2.2.1 s.2.2.2.2.2.2.1 s.2.2.2.2.2.2.2.1 s.2.2.2.2.2.2.2.2.1 s.2.2.2.2.2.2.2.2.2.1 s.2.2.2.2.2.2.2.2.2.2.1 s.2.2.2.2.2.2.2.2.2.2.2.1 s.2.2.2.2.2.2.2.2.2.2.2.2.1 s.2.2.2.2.2.2.2.2.2.2.2.2.2) (fun s => I s.1 s.2.1 s.2.2.1 s.2.2.2.1 s.2.2.2.2.1 s.2.2.2.2.2.1 s.2.2.2.2.2.2.1 s.2.2.2.2.2.2.2.1 s.2.2.2.2.2.2.2.2.1 s.2.2.2.2.2.2.2.2.2.1 s.2.2.2.2.2.2.2.2.2.2.1 s.2.2.2.2.2.2.2.2.2.2.2.1 s.2.2.2.2.2.2.2.2.2.2.2.2.1 s.2.2.2.2.2.2.2.2.2.2.2.2.2) (fun s => μ s.1 s.2.1 s.2.2.1 s.2.2.2.1 s.2.2.2.2.1 s.2.2.2.2.2.1 s.2.2.2.2.2.2.1 s.2.2.2.2.2.2.2.1 s.2.2.2.2.2.2.2.2.1 s.2.2.2.2.2.2.2.2.2.1 s.2.2.2.2.2.2.2.2.2.2.1 s.2.2.2.2.2.2.2.2.2.2.2.1 s.2.2.2.2.2.2.2.2.2.2.2.2.1 s.2.2.2.2.2.2.2.2.2.2.2.2.2) (fun n s hI hk => hs n s.1 s.2.1 s.2.2.1 s.2.2.2.1 s.2.2.2.2.1 s.2.2.2.2.2.1 s.2.2.2.2.2.2.1 s.2.2.2.2.2.2.2.1 s.2.2.2.2.2.2.2.2.1 s.2.2.2.2.2.2.2.2.2.1 s.2.2.2.2.2.2.2.2.2.2.1 s.2.2.2.2.2.2.2.2.2.2.2.1 s.2.2.2.2.2.2.2.2.2.2.2.2.1 s.2.2.2.2.2.2.2.2.2.2.2.2.2 hI (fun b1 b2 b3 b4 b5 b6 b7 b8 b9 b10 b11 b12 b13 b14 h9 hm => hk (b1, b2, b3, b4, b5, b6, b7, b8, b9, b10, b11, b12, b13, b14) h9 hm)) (a1, a2, a3, a4, a5, a6, a7, a8, a9, a10, a11, a12, a13, a14) h
theorem lp15 {A1 A2 A3 A4 A5 A6 A7 A8 A9 A10 A11 A12 A13 A14 A15 : Type} (W : Nat → A1 → A2 → A3 → A4 → A5 → A6 → A7 → A8 → A9 → A10 → A11 → A12 → A13 → A14 → A15 → Prop) (I : A1 → A2 → A3 → A4 → A5 → A6 → A7 → A8 → A9 → A10 → A11 → A12 → A13 → A14 → A15 → Prop) (μ : A1 → A2 → A3 → A4 → A5 → A6 → A7 → A8 → A9 → A10 → A11 → A12 → A13 → A14 → A15 → Nat) (hs : ∀ (n : Nat) (a1 : A1) (a2 : A2) (a3 : A3) (a4 : A4) (a5 : A5) (a6 : A6) (a7 : A7) (a8 : A8) (a9 : A9) (a10 : A10) (a11 : A11) (a12 : A12) (a13 : A13) (a14 : A14) (a15 : A15), I a1 a2 a3 a4 a5 a6 a7 a8 a9 a10 a11 a12 a13 a14 a15 → (∀ (b1 : A1) (b2 : A2) (b3 : A3) (b4 : A4) (b5 : A5) (b6 : A6) (b7 : A7) (b8 : A8) (b9 : A9) (b10 : A10) (b11 : A11) (b12 : A12) (b13 : A13) (b14 : A14) (b15 : A15), I b1 b2 b3 b4 b5 b6 b7 b8 b9 b10 b11 b12 b13 b14 b15 → μ b1 b2 b3 b4 b5 b6 b7 b8 b9 b10 b11 b12 b13 b14 b15 < μ a1 a2 a3 a4 a5 a6 a7 a8 a9 a10 a11 a12 a13 a14 a15 → W n b1 b2 b3 b4 b5 b6 b7 b8 b9 b10 b11 b12 b13 b14 b15) → W (n + 1) a1 a2 a3 a4 a5 a6 a7 a8 a9 a10 a11 a12 a13 a14 a15) (a1 : A1) (a2 : A2) (a3 : A3) (a4 : A4) (a5 : A5) (a6 : A6) (a7 : A7) (a8 : A8) (a9 : A9) (a10 : A10) (a11 : A11) (a12 : A12) (a13 : A13) (a14 : A14) (a15 : A15) (h : I a1 a2 a3 a4 a5 a6 a7 a8 a9 a10 a11 a12 a13 a14 a15) : ∃ n, W n a1 a2 a3 a4 a5 a6 a7 a8 a9 a10 a11 a12 a13 a14 a15 :=
  loop_m (σ := A1 × A2 × A3 × A4 × A5 × A6 × A7 × A8 × A9 × A10 × A11 × A12 × A13 × A14 × A15) (fun n s => W n s.1 s.2.1 s.2.2.1 s.2.2.2.1 s.2.2.2.2.1 s.2.2.2.2.2.1 s.2.2.2.2.2.2.1 s.2.2.2.2.2.2.2.1 s.2.2.2.2.2.2.2.2.1 s.2.2.2.2.2.2.2.2.2.1 s.2.2.2.2.2.2.2.2.2.2.1 s.2.2.2.2.2.2.2.2.2.2.2.1 s.2.2.2.2.2.2.2.2.2.2.2.2.1 s.2.2.2.2.2.2.2.2.2.2.2.2.2.1 s.2.2.2.2.2.2.2.2.2.2.2.2.2.2) (fun s => I s.1 s.2.1 s.2.2.1 s.2.2.2.1 s.2.2.2.2.1 s.2.2.2.2.2.1 s.2.2.2.2.2.2.1 s.2.2.2.2.2.2.2.1 s.2.2.2.2.2.2.2.2.1 s.2.2.2.2.2.2.2.2.2.1 s.2.2.2.2.2.2.2.2.2.2.1 s.2.2.2.2.2.2.2.2.2.2.2.1 s.2.2.2.2.2.2.2.2.2.2.2.2.1 s.2.2.2.2.2.2.2.2.2.2.2.2.2.1 s.2.2.2.2.2.2.2.2.2.2.2.2.2.2) (fun s => μ s.1 s.2.1 s.2.2.1 s.2.2.2.1 s.2.2.2.2.1 s.2.2.2.2.2.1 s.2.2.2.2.2.2.1 s.2.2.2.2.2.2.2.1 s.2.2.2.2.2.2.2.2.1 s.2.2.2.2.2.2.2.2.2.1 s.2.2.2.2.2.2.2.2.2.2.1 s.2.2.2.2.2.2.2.2.2.2.2.1 s.2.2.2.2.2.2.2.2.2.2.2.2.1 s.2.2.2.2.2.2.2.2.2.2.2.2.2.1 s.2.2.2.2.2.2.2.2.2.2.2.2.2.2) (fun n s hI hk => hs n s.1 s.2.1 s.2.2.1 s.2.2.2.1 s.2.2.2.2.1 s.2.2.2.2.2.1 s.2.2.2.2.2.2.1 s.2.2.2.2.2.2.2.1 s.2.2.2.2.2.2.2.2.1 s.2.2.2.2.2.2.2.2.2.1 s.2.2.2.2.2.2.2.2.2.2.1 s.2.2.2.2.2.2.2.2.2.2.2.1 s.2.2.2.2.2.2.2.2.2.2.2.2.1 s.2.2.2.2.2.2.2.2.2.2.2.2.2.1 s.2.2.2.2.2.2.2.2.2.2.2.2.2.2 hI (fun b1 b2 b3 b4 b5 b6 b7 b8 b9 b10 b11 b12 b13 b14 b15 h9 hm => hk (b1, b2, b3, b4, b5, b6, b7, b8, b9, b10, b11, b12, b13, b14, b15) h9 hm)) (a1, a2, a3, a4, a5, a6, a7, a8, a9, a10, a11, a12, a13, a14, a15) h
theorem lp16 {A1 A2 A3 A4 A5 A6 A7 A8 A9 A10 A11 A12 A13 A14 A15 A16 : Type} (W : Nat → A1 → A2 → A3 → A4 → A5 → A6 → A7 → A8 → A9 → A10 → A11 → A12 → A13 → A14 → A15 → A16 → Prop) (I : A1 → A2 → A3 → A4 → A5 → A6 → A7 → A8 → A9 → A10 → A11 → A12 → A13 → A14 → A15 → A16 → Prop) (μ : A1 → A2 → A3 → A4 → A5 → A6 → A7 → A8 → A9 → A10 → A11 → A12 → A13 → A14 → A15 → A16 → Nat) (hs : ∀ (n : Nat) (a1 : A1) (a2 : A2) (a3 : A3) (a4 : A4) (a5 : A5) (a6 : A6) (a7 : A7) (a8 : A8) (a9 : A9) (a10 : A10) (a11 : A11) (a12 : A12) (a13 : A13) (a14 : A14) (a15 : A15) (a16 : A16), I a1 a2 a3 a4 a5 a6 a7 a8 a9 a10 a11 a12 a13 a14 a15 a16 → (∀ (b1 : A1) (b2 : A2) (b3 : A3) (b4 : A4) (b5 : A5) (b6 : A6) (b7 : A7) (b8 : A8) (b9 : A9) (b10 : A10) (b11 : A11) (b12 : A12) (b13 : A13) (b14 : A14) (b15 : A15) (b16 : A16), I b1 b2 b3 b4 b5 b6 b7 b8 b9 b10 b11 b12 b13 b14 b15 b16 → μ b1 b2 b3 b4 b5 b6 b7 b8 b9 b10 b11 b12 b13 b14 b15 b16 < μ a1 a2 a3 a4 a5 a6 a7 a8 a9 a10 a11 a12 a13 a14 a15 a16 → W n b1 b2 b3 b4 b5 b6 b7 b8 b9 b10 b11 b12 b13 b14 b15 b16) → W (n + 1) a1 a2 a3 a4 a5 a6 a7 a8 a9 a10 a11 a12 a13 a14 a15 a16) (a1 : A1) (a2 : A2) (a3 : A3) (a4 : A4) (a5 : A5) (a6 : A6) (a7 : A7) (a8 : A8) (a9 : A9) (a10 : A10) (a11 : A11) (a12 : A12) (a13 : A13) (a14 : A14) (a15 : A15) (a16 : A16) (h : I a1 a2 a3 a4 a5 a6 a7 a8 a9 a10 a11 a12 a13 a14 a15 a16) : ∃ n, W n a1 a2 a3 a4 a5 a6 a7 a8 a9 a10 a11 a12 a13 a14 a15 a16 :=
  loop_m (σ := A1 × A2 × A3 × A4 × A5 × A6 × A7 × A8 × A9 × A10 × A11 × A12 × A13 × A14 × A15 × A16) (fun n s => W n s.1 s.2.1 s.2.2.1 s.2.2.2.1 s.2.2.2.2.1 s.2.2.2.2.2.1 s.2.2.2.2.2.2.1 s.2.2.2.2.2.2.2.1 s.2.2.2.2.2.2.2.2.1 s.2.2.2.2.2.2.2.2.2.1 s.2.2.2.2.2.2.2.2.2.2.1 s.2.2.2.2.2.2.2.2.2.2.2.1 s.2.2.2.2.2.2.2.2.2.2.2.2.1 s.2.2.2.2.2.2.2.2.2.2.2.2.2.1 s.2.2.2.2.2.2.2.2.2.2.2.2.2.2.1 s.2.2.2.2.2.2.2.2.2.2.2.2.2.2.2) (fun s => I s.1 s.2.1 s.2.2.1 s.2.2.2.1 s.2.2.2.2.1 s.2.2.2.2.2.1 s.2.2.2.2.2.2.1 s.2.2.2.2.2.2.2.1 s.2.2.2.2.2.2.2.2.1 s.2.2.2.2.2.2.2.2.2.1 s.2.2.2.2.2.2.2.2.2.2.1 s.2.2.2.2.2.2.2.2.2.2.2.1 s.2.2.2.2.2.2.2.2.2.2.2.2.1 s.2.2.2.2.2.2.2.2.2.2.2.2.2.1 s.2.2.2.2.2.2.2.2.2.2.2.2.2.2.1 s.2.2.2.2.2.2.2.2.2.2.2.2.2.2.2) (fun s => μ s.1 s.2.1 s.2.2.1 s.2.2.2.1 s.2.2.2.2.1 s.2.2.2.2.2.1 s.2.2.2.2.2.2.1 s.2.2.2.2.2.2.2.1 s.2.2.2.2.2.2.2.2.1 s.2.2.2.2.2.2.2.2.2.1 s.2.2.2.2.2.2.2.2.2.2.1 s.2.2.2.2.2.2.2.2.2.2.2.1 s.2.2.2.2.2.2.2.2.2.2.2.2.1 s.2.2.2.2.2.2.2.2.2.2.2.2.2.1 s.2.2.2.2.2.2.2.2.2.2.2.2.2.2.1 s.2.2.2.2.2.2.2.2.2.2.2.2.2.2.2) (fun n s hI hk => hs n s.1 s.2.1 s.2.2.1 s.2.2.2.1 s.2.2.2.2.1 s.2.2.2.2.2.1 s.2.2.2.2.2.2.1 s.2.2.2.2.2.2.2.1 s.2.2.2.2.2.2.2.2.1 s.2.2.2.2.2.2.2.2.2.1 s.2.2.2.2.2.2.2.2.2.2.1 s.2.2.2.2.2.2.2.2.2.2.2.1 s.2.2.2.2.2.2.2.2.2.2.2.2.1 s.2.2.2.2.2.2.2.2.2.2.2.2.2.1 s.2.2.2.2.2.2.2.2.2.2.2.2.2.2.1 s.2.2.2.2.2.2.2.2.2.2.2.2.2.2.2 hI (fun b1 b2 b3 b4 b5 b6 b7 b8 b9 b10 b11 b12 b13 b14 b15 b16 h9 hm => hk (b1, b2, b3, b4, b5, b6, b7, b8, b9, b10, b11, b12, b13, b14, b15, b16) h9 hm)) (a1, a2, a3, a4, a5, a6, a7, a8, a9, a10, a11, a12, a13, a14, a15, a16) h
theorem pk_least (P : Nat → Prop) (h : ∃ k, P k) : ∃ k, P k ∧ ∀ j, j < k → ¬ P j := by
  obtain ⟨k, hk⟩ := h
  induction k using Nat.strongRecOn with
  | ind k ih =>
    by_cases e : ∃ j, j < k ∧ P j
    · obtain ⟨j, hj, pj⟩ := e
      exact ih j hj pj
    · exact ⟨k, hk, fun j hj pj => e ⟨j, hj, pj⟩⟩
theorem rp1 {ρ A1 : Type} (W : Nat → (ρ → Prop) → A1 → Prop) (ok : A1 → Prop) (μ : A1 → Nat) (val : A1 → ρ)
    (hs : ∀ (d : Nat) (post : ρ → Prop) (a1 : A1), ok a1 → post (val a1) → (∀ (post' : ρ → Prop) (b1 : A1), ok b1 → μ b1 < μ a1 → post' (val b1) → W d post' b1) → W (d + 1) post a1) :
    ∀ (d : Nat) (post : ρ → Prop) (a1 : A1), ok a1 → μ a1 < d → post (val a1) → W d post a1 := by
  intro d
  induction d with
  | zero => intro post a1 _ h; omega
  | succ d ih =>
    intro post a1 ho hm hp
    exact hs d post a1 ho hp (fun post' b1 ho' hm' hp' => ih post' b1 ho' (by omega) hp')
theorem rp2 {ρ A1 A2 : Type} (W : Nat → (ρ → Prop) → A1 → A2 → Prop) (ok : A1 → A2 → Prop) (μ : A1 → A2 → Nat) (val : A1 → A2 → ρ)
    (hs : ∀ (d : Nat) (post : ρ → Prop) (a1 : A1) (a2 : A2), ok a1 a2 → post (val a1 a2) → (∀ (post' : ρ → Prop) (b1 : A1) (b2 : A2), ok b1 b2 → μ b1 b2 < μ a1 a2 → post' (val b1 b2) → W d post' b1 b2) → W (d + 1) post a1 a2) :
    ∀ (d : Nat) (post : ρ → Prop) (a1 : A1) (a2 : A2), ok a1 a2 → μ a1 a2 < d → post (val a1 a2) → W d post a1 a2 := by
  intro d
  induction d with
  | zero => intro post a1 a2 _ h; omega
  | succ d ih =>
    intro post a1 a2 ho hm hp
    exact hs d post a1 a2 ho hp (fun post' b1 b2 ho' hm' hp' => ih post' b1 b2 ho' (by omega) hp')
theorem rp3 {ρ A1 A2 A3 : Type} (W : Nat → (ρ → Prop) → A1 → A2 → A3 → Prop) (ok : A1 → A2 → A3 → Prop) (μ : A1 → A2 → A3 → Nat) (val : A1 → A2 → A3 → ρ)
    (hs : ∀ (d : Nat) (post : ρ → Prop) (a1 : A1) (a2 : A2) (a3 : A3), ok a1 a2 a3 → post (val a1 a2 a3) → (∀ (post' : ρ → Prop) (b1 : A1) (b2 : A2) (b3 : A3), ok b1 b2 b3 → μ b1 b2 b3 < μ a1 a2 a3 → post' (val b1 b2 b3) → W d post' b1 b2 b3) → W (d + 1) post a1 a2 a3) :
    ∀ (d : Nat) (post : ρ → Prop) (a1 : A1) (a2 : A2) (a3 : A3), ok a1 a2 a3 → μ a1 a2 a3 < d → post (val a1 a2 a3) → W d post a1 a2 a3 := by
  intro d
  induction d with
  | zero => intro post a1 a2 a3 _ h; omega
  | succ d ih =>
    intro post a1 a2 a3 ho hm hp
    exact hs d post a1 a2 a3 ho hp (fun post' b1 b2 b3 ho' hm' hp' => ih post' b1 b2 b3 ho' (by omega) hp')
theorem rp4 {ρ A1 A2 A3 A4 : Type} (W : Nat → (ρ → Prop) → A1 → A2 → A3 → A4 → Prop) (ok : A1 → A2 → A3 → A4 → Prop) (μ : A1 → A2 → A3 → A4 → Nat) (val : A1 → A2 → A3 → A4 → ρ)
    (hs : ∀ (d : Nat) (post : ρ → Prop) (a1 : A1) (a2 : A2) (a3 : A3) (a4 : A4), ok a1 a2 a3 a4 → post (val a1 a2 a3 a4) → (∀ (post' : ρ → Prop) (b1 : A1) (b2 : A2) (b3 : A3) (b4 : A4), ok b1 b2 b3 b4 → μ b1 b2 b3 b4 < μ a1 a2 a3 a4 → post' (val b1 b2 b3 b4) → W d post' b1 b2 b3 b4) → W (d + 1) post a1 a2 a3 a4) :
    ∀ (d : Nat) (post : ρ → Prop) (a1 : A1) (a2 : A2) (a3 : A3) (a4 : A4), ok a1 a2 a3 a4 → μ a1 a2 a3 a4 < d → post (val a1 a2 a3 a4) → W d post a1 a2 a3 a4 := by
  intro d
  induction d with
  | zero => intro post a1 a2 a3 a4 _ h; omega
  | succ d ih =>
    intro post a1 a2 a3 a4 ho hm hp
    exact hs d post a1 a2 a3 a4 ho hp (fun post' b1 b2 b3 b4 ho' hm' hp' => ih post' b1 b2 b3 b4 ho' (by omega) hp')
theorem rp5 {ρ A1 A2 A3 A4 A5 : Type} (W : Nat → (ρ → Prop) → A1 → A2 → A3 → A4 → A5 → Prop) (ok : A1 → A2 → A3 → A4 → A5 → Prop) (μ : A1 → A2 → A3 → A4 → A5 → Nat) (val : A1 → A2 → A3 → A4 → A5 → ρ)
    (hs : ∀ (d : Nat) (post : ρ → Prop) (a1 : A1) (a2 : A2) (a3 : A3) (a4 : A4) (a5 : A5), ok a1 a2 a3 a4 a5 → post (val a1 a2 a3 a4 a5) → (∀ (post' : ρ → Prop) (b1 : A1) (b2 : A2) (b3 : A3) (b4 : A4) (b5 : A5), ok b1 b2 b3 b4 b5 → μ b1 b2 b3 b4 b5 < μ a1 a2 a3 a4 a5 → post' (val b1 b2 b3 b4 b5) → W d post' b1 b2 b3 b4 b5) → W (d + 1) post a1 a2 a3 a4 a5) :
    ∀ (d : Nat) (post : ρ → Prop) (a1 : A1) (a2 : A2) (a3 : A3) (a4 : A4) (a5 : A5), ok a1 a2 a3 a4 a5 → μ a1 a2 a3 a4 a5 < d → post (val a1 a2 a3 a4 a5) → W d post a1 a2 a3 a4 a5 := by
  intro d
  induction d with
  | zero => intro post a1 a2 a3 a4 a5 _ h; omega
  | succ d ih =>
    intro post a1 a2 a3 a4 a5 ho hm hp
    exact hs d post a1 a2 a3 a4 a5 ho hp (fun post' b1 b2 b3 b4 b5 ho' hm' hp' => ih post' b1 b2 b3 b4 b5 ho' (by omega) hp')
theorem rp6 {ρ A1 A2 A3 A4 A5 A6 : Type} (W : Nat → (ρ → Prop) → A1 → A2 → A3 → A4 → A5 → A6 → Prop) (ok : A1 → A2 → A3 → A4 → A5 → A6 → Prop) (μ : A1 → A2 → A3 → A4 → A5 → A6 → Nat) (val : A1 → A2 → A3 → A4 → A5 → A6 → ρ)
    (hs : ∀ (d : Nat) (post : ρ → Prop) (a1 : A1) (a2 : A2) (a3 : A3) (a4 : A4) (a5 : A5) (a6 : A6), ok a1 a2 a3 a4 a5 a6 → post (val a1 a2 a3 a4 a5 a6) → (∀ (post' : ρ → Prop) (b1 : A1) (b2 : A2) (b3 : A3) (b4 : A4) (b5 : A5) (b6 : A6), ok b1 b2 b3 b4 b5 b6 → μ b1 b2 b3 b4 b5 b6 < μ a1 a2 a3 a4 a5 a6 → post' (val b1 b2 b3 b4 b5 b6) → W d post' b1 b2 b3 b4 b5 b6) → W (d + 1) post a1 a2 a3 a4 a5 a6) :
    ∀ (d : Nat) (post : ρ → Prop) (a1 : A1) (a2 : A2) (a3 : A3) (a4 : A4) (a5 : A5) (a6 : A6), ok a1 a2 a3 a4 a5 a6 → μ a1 a2 a3 a4 a5 a6 < d → post (val a1 a2 a3 a4 a5 a6) → W d post a1 a2 a3 a4 a5 a6 := by
  intro d
  induction d with
  | zero => intro post a1 a2 a3 a4 a5 a6 _ h; omega
  | succ d ih =>
    intro post a1 a2 a3 a4 a5 a6 ho hm hp
    exact hs d post a1 a2 a3 a4 a5 a6 ho hp (fun post' b1 b2 b3 b4 b5 b6 ho' hm' hp' => ih post' b1 b2 b3 b4 b5 b6 ho' (by omega) hp')
theorem rec_p {σ ρ : Type} (W : Nat → (ρ → Prop) → σ → Prop) (ok : σ → Prop) (μ : σ → Nat) (val : σ → ρ)
    (hs : ∀ d s post, ok s → post (val s) → (∀ s' post', ok s' → μ s' < μ s → post' (val s') → W d post' s') → W (d + 1) post s) :
    ∀ d s post, ok s → μ s < d → post (val s) → W d post s := by
  intro d
  induction d with
  | zero => intro s post _ h; omega
  | succ d ih =>
    intro s post ho hm hp
    exact hs d s post ho hp (fun s' post' ho' hm' hp' => ih s' post' ho' (by omega) hp')
theorem rec_q {σ ρ : Type} (W : Nat → (ρ → Prop) → σ → Prop) (ok : σ → Prop) (μ : σ → Nat) (Q : σ → ρ → Prop)
    (hs : ∀ d s post, ok s → (∀ r, Q s r → post r) → (∀ s' post', ok s' → μ s' < μ s → (∀ r, Q s' r → post' r) → W d post' s') → W (d + 1) post s) :
    ∀ d s post, ok s → μ s < d → (∀ r, Q s r → post r) → W d post s := by
  intro d
  induction d with
  | zero => intro s post _ h; omega
  | succ d ih =>
    intro s post ho hm hp
    exact hs d s post ho hp (fun s' post' ho' hm' hp' => ih s' post' ho' (by omega) hp')
def bx_sum (f : Nat → Int32) : Nat → Int32
  | 0 => 0
  | n + 1 => bx_sum f n + f n
theorem ek_u {A : Prop} {B : Nat → Prop} {k N : Nat} (hk : k < N) (h : B k) : (some k = none → A) ∧ (∀ y : Nat, some k = some y → (y < N ∧ B y)) :=
  ⟨fun z => absurd z (Option.some_ne_none k), fun _ e => (by cases e; exact ⟨hk, h⟩)⟩
theorem ek_nu {A : Prop} {B : Nat → Prop} (h : A) : ((none : Option Nat) = none → A) ∧ (∀ y : Nat, (none : Option Nat) = some y → B y) :=
  ⟨fun _ => h, fun _ e => (by cases e)⟩
theorem ek_if {c d A B : Prop} (e : c ↔ d) (f : d → A) (g : ¬ d → B) : (c → A) ∧ (¬ c → B) :=
  ⟨fun z => f (e.mp z), fun z => g (fun y => z (e.mpr y))⟩
theorem ek_v {α : Sort _} {P : α → Prop} {a b : α} (e : a = b) (h : P b) : P a := e ▸ h
theorem co_some {x : Option Nat} {A : Prop} {B : Nat → Prop} (i : Nat) (h : B i) (hx : x = some i := by rfl) : (x = none → A) ∧ (∀ y : Nat, x = some y → B y) := by
  subst hx
  exact ⟨fun e => (nomatch e), fun y e => Option.some.inj e ▸ h⟩
theorem co_none {x : Option Nat} {A : Prop} {B : Nat → Prop} (h : A) (hx : x = none := by rfl) : (x = none → A) ∧ (∀ y : Nat, x = some y → B y) := by
  subst hx
  exact ⟨fun _ => h, fun y e => (nomatch e)⟩
theorem co_any {x : Option Nat} {A : Prop} {B : Nat → Prop} (hn : x = none → A) (hs : ∀ i : Nat, x = some i → B i) : (x = none → A) ∧ (∀ y : Nat, x = some y → B y) := ⟨hn, hs⟩
theorem co_2 {P : Nat → Prop} (h0 : P 0) (h1 : P 1) {i : Nat} (hi : i < 2) : P i :=
  match i, hi with
  | 0, _ => h0
  | 1, _ => h1
theorem co_3 {P : Nat → Prop} (h0 : P 0) (h1 : P 1) (h2 : P 2) {i : Nat} (hi : i < 3) : P i :=
  match i, hi with
  | 0, _ => h0
  | 1, _ => h1
  | 2, _ => h2
theorem co_4 {P : Nat → Prop} (h0 : P 0) (h1 : P 1) (h2 : P 2) (h3 : P 3) {i : Nat} (hi : i < 4) : P i :=
  match i, hi with
  | 0, _ => h0
  | 1, _ => h1
  | 2, _ => h2
  | 3, _ => h3
theorem co_dec {N : Nat} {P : Nat → Prop} [DecidablePred P] (h : (List.range N).all (fun i => decide (P i)) = true) {i : Nat} (hi : i < N) : P i := by
  have := List.all_eq_true.mp h i (List.mem_range.mpr hi)
  exact of_decide_eq_true this
theorem co_tab {α : Type} {l : List α} {d : α} {P : α → Prop} (h : ∀ a, a ∈ l → P a) {i : Nat} (hi : i < l.length) : P (l.getD i d) := by
  rw [List.getD_eq_getElem?_getD, List.getElem?_eq_getElem hi]
  exact h _ (List.getElem_mem hi)
theorem pk_mu {x : Int32} {L : Nat} (h0 : ¬ x < 0) (h : ¬ nI L ≤ x) (hL : L < 2 ^ 31) : ∃ j : Nat, j < L ∧ x = nI j ∧ x + 1 = nI (j + 1) ∧ x.toNatClampNeg = j ∧ L - (x + 1).toNatClampNeg < L - x.toNatClampNeg := by
  obtain ⟨j, hj, rfl⟩ := nI_of h0
  have hl : j < L := Nat.not_le.mp fun q => h (nI_le q hj)
  refine ⟨j, hl, rfl, nI_1 j, nI_clamp hj, ?_⟩
  rw [nI_1, nI_clamp (by omega), nI_clamp hj]
  omega
theorem op_s {α : Type} {r : Option α} {A : Prop} {B : α → Prop} {y : α} (h : r = some y) (b : B y) : (r = none → A) ∧ ∀ z, r = some z → B z :=
  ⟨fun e => (by rw [h] at e; cases e), fun z e => (by rw [h] at e; cases e; exact b)⟩
def l_holds {α : Type} (a : Nat → Option Nat) (LP : List Nat) (p : Nat → α) (c : Nat) (b : Nat → α) : Prop :=
  ∀ j, j < c → ∃ y, a j = some y ∧ y ∈ LP ∧ p y = b j
theorem l_holds_0 {α : Type} {a : Nat → Option Nat} {LP : List Nat} {p b : Nat → α} : l_holds a LP p 0 b := fun j h => absurd h (Nat.not_lt_zero j)
theorem l_in_new (LP : List Nat) (q : Nat) : q ∈ LP ++ [q] := List.mem_append.mpr (Or.inr (List.mem_singleton.mpr rfl))
def l_sum (b : Nat → Int32) : Nat → Int32
  | 0 => 0
  | k + 1 => l_sum b k + b k
theorem sb_shr0 (x : Int32) : x >>> ((0 : Int32) &&& 31) = x := by
  rw [show ((0 : Int32) &&& 31) = 0 by decide]
  simp
theorem sb_shl0 (x : Int32) : x <<< ((0 : Int32) &&& 31) = x := by
  rw [show ((0 : Int32) &&& 31) = 0 by decide]
  simp
theorem sb_cl0 : (0 : Int32).toNatClampNeg = 0 := by decide
theorem sb_m1 {p : Nat} (h : 0 < p) : nI p + (-1) = nI (p - 1) := by
  obtain ⟨q, rfl⟩ : ∃ q, p = q + 1 := ⟨p - 1, by omega⟩
  exact pk_m1 q
def sb_b (c : Nat) : Int32 := (nI c).toInt8.toInt32
theorem sb_byte : ∀ c, c < 256 → sb_b c &&& 255 = nI c ∧ ((nI c).toUInt32 % 65536).toInt32 = nI c ∧ nI c ≤ 255 := by decide +kernel
def sb_Fit (a : Nat → Int32) : Prop := ∀ j, fits .byte (.int (a j)) = true
def sb_Lat (t : Nat → Nat) (n : Nat) (a : Nat → Int32) : Prop := ∀ j, j < n → t j < 256 ∧ a j = sb_b (t j)
theorem sb_fitB (c : Nat) : fits .byte (.int (sb_b c)) = true := pk_fb _
theorem sb_fit0 : sb_Fit (fun _ => 0) := fun _ => by
  show fits .byte (.int 0) = true
  decide
theorem sb_fitU {a : Nat → Int32} {k : Nat} {x : Int32} (h : sb_Fit a) (hx : fits .byte (.int x) = true) : sb_Fit (upd a k x) := by
  intro j
  by_cases e : j = k
  · subst e
    rw [pk_us]
    exact hx
  · rw [pk_un e]
    exact h j
def sb_cat (t : Nat → Nat) (n : Nat) (s : Nat → Nat) : Nat → Nat := fun j => if j < n then t j else s (j - n)
theorem sb_cat_lo {t s : Nat → Nat} {n j : Nat} (h : j < n) : sb_cat t n s j = t j := if_pos h
theorem sb_cat_hi {t s : Nat → Nat} {n j : Nat} : sb_cat t n s (n + j) = s j := by
  show (if n + j < n then t (n + j) else s (n + j - n)) = s j
  rw [if_neg (by omega), Nat.add_sub_cancel_left]
theorem sb_latPut {t s : Nat → Nat} {n w : Nat} {a a' : Nat → Int32} (h : sb_Lat t n a) (hk : ∀ j, j < n → a' j = a j) (hs : ∀ i, i < w → s i < 256 ∧ a' (n + i) = sb_b (s i)) : sb_Lat (sb_cat t n s) (n + w) a' := by
  intro j hj
  by_cases e : j < n
  · rw [sb_cat_lo e, hk j e]
    exact h j e
  · obtain ⟨i, rfl⟩ : ∃ i, j = n + i := ⟨j - n, by omega⟩
    rw [sb_cat_hi]
    exact hs i (by omega)
theorem sb_latKeep {t : Nat → Nat} {n : Nat} {a a' : Nat → Int32} (h : sb_Lat t n a) (hk : ∀ j, j < n → a' j = a j) : sb_Lat t n a' := fun j hj => by
  rw [hk j hj]
  exact h j hj
def sb_cap (q m : Nat) : Nat := if q ≤ m then m else if 2 * m + 2 < q then q else 2 * m + 2
def sb_Room (q m mc ms : Nat) : Prop := q ≤ m ∨ (1 ≤ mc ∧ sb_cap q m ≤ ms ∧ sb_cap q m ≤ 65536)
theorem sb_cap_ge (q m : Nat) : q ≤ sb_cap q m := by
  unfold sb_cap
  split
  · omega
  · split <;> omega
theorem sb_cap_gem (q m : Nat) : m ≤ sb_cap q m := by
  unfold sb_cap
  split
  · omega
  · split <;> omega
theorem sb_cap_le {q m mc ms : Nat} (hm : m ≤ 65536) (hr : sb_Room q m mc ms) : sb_cap q m ≤ 65536 := by
  rcases hr with h | h
  · rw [sb_cap, if_pos h]
    exact hm
  · exact h.2.2
theorem sb_at {P : Int32 → Prop} {x y : Int32} (e : x = y) (h : P y) : P x := e ▸ h
def sb_dg (w : Nat) : Nat := if w < 10 then 1 else if w < 100 then 2 else if w < 1000 then 3 else if w < 10000 then 4 else if w < 100000 then 5 else if w < 1000000 then 6 else if w < 10000000 then 7 else if w < 100000000 then 8 else if w < 1000000000 then 9 else 10
def sb_dec (v : Nat) : Nat → Nat := fun i => 48 + v / 10 ^ (sb_dg v - 1 - i) % 10
theorem sb_dg_in (w : Nat) : 1 ≤ sb_dg w ∧ sb_dg w ≤ 10 := by
  unfold sb_dg
  constructor <;> (repeat' split) <;> omega
theorem sb_dg100 {w : Nat} (h : 100 ≤ w) (hw : w < 2 ^ 31) : sb_dg w = sb_dg (w / 100) + 2 := by
  rw [sb_dg, sb_dg, if_neg (show ¬ w < 10 by omega), if_neg (show ¬ w < 100 by omega)]
  by_cases h3 : w < 1000
  · rw [if_pos h3, if_pos (show w / 100 < 10 by omega)]
  rw [if_neg h3, if_neg (show ¬ w / 100 < 10 by omega)]
  by_cases h4 : w < 10000
  · rw [if_pos h4, if_pos (show w / 100 < 100 by omega)]
  rw [if_neg h4, if_neg (show ¬ w / 100 < 100 by omega)]
  by_cases h5 : w < 100000
  · rw [if_pos h5, if_pos (show w / 100 < 1000 by omega)]
  rw [if_neg h5, if_neg (show ¬ w / 100 < 1000 by omega)]
  by_cases h6 : w < 1000000
  · rw [if_pos h6, if_pos (show w / 100 < 10000 by omega)]
  rw [if_neg h6, if_neg (show ¬ w / 100 < 10000 by omega)]
  by_cases h7 : w < 10000000
  · rw [if_pos h7, if_pos (show w / 100 < 100000 by omega)]
  rw [if_neg h7, if_neg (show ¬ w / 100 < 100000 by omega)]
  by_cases h8 : w < 100000000
  · rw [if_pos h8, if_pos (show w / 100 < 1000000 by omega)]
  rw [if_neg h8, if_neg (show ¬ w / 100 < 1000000 by omega)]
  by_cases h9 : w < 1000000000
  · rw [if_pos h9, if_pos (show w / 100 < 10000000 by omega)]
  rw [if_neg h9, if_neg (show ¬ w / 100 < 10000000 by omega)]
  rw [if_pos (show w / 100 < 100000000 by omega)]
theorem sb_negT {w : Nat} (h : w < 2 ^ 31) : (-nI w).toInt = -(w : Int) := by
  rw [Int32.toInt_neg, nI_toInt h]
  exact Int.bmod_eq_of_le (by omega) (by omega)
theorem sb_nle {a b : Nat} (ha : a < 2 ^ 31) (hb : b < 2 ^ 31) : -nI a ≤ -nI b ↔ b ≤ a := by
  rw [Int32.le_iff_toInt_le, sb_negT ha, sb_negT hb]
  omega
theorem sb_nlt {a b : Nat} (ha : a < 2 ^ 31) (hb : b < 2 ^ 31) : -nI a < -nI b ↔ b < a := by
  rw [Int32.lt_iff_toInt_lt, sb_negT ha, sb_negT hb]
  omega
theorem sb_cmp {A B : Prop} {x : Int32} (v c : Nat) (f : c ≤ v → A) (g : v < c → B) (hv : v < 2 ^ 31) (hx : x = -nI c := by rfl) (hc : c < 2 ^ 31 := by omega) : (-nI v ≤ x → A) ∧ (¬ -nI v ≤ x → B) := by
  subst hx
  rw [sb_nle hv hc]
  exact ⟨f, fun z => g (by omega)⟩
theorem sb_ndiv {w : Nat} (hw : w < 2 ^ 31) : (-nI w) / 100 = -nI (w / 100) := by
  apply Int32.toInt_inj.mp
  have h100 : (100 : Int32).toInt = 100 := by decide
  rw [Int32.toInt_div, sb_negT hw, h100, sb_negT (by omega), Int.neg_tdiv, Int.tdiv_eq_ediv_of_nonneg (by omega), Int.bmod_eq_of_le (by omega) (by omega)]
  omega
theorem sb_nrem {w : Nat} (hw : w < 2 ^ 31) : (-nI (w / 100)) * 100 - (-nI w) = nI (w % 100) := by
  have h := pk_rem (a := w) (d := 100) hw (by decide) (by decide)
  rw [pk_div hw (by decide) (by decide)] at h
  rw [← h]
  show (-nI (w / 100)) * nI 100 - (-nI w) = nI w - nI (w / 100) * nI 100
  rw [Int32.neg_mul, Int32.sub_neg, Int32.add_comm, ← Int32.sub_eq_add_neg]
end
section
/-! rows on bits, shifts and unsigned numbers, to paste: each family out of a closed proof of our own, whole with what it rests on; each by itself clean at Lean in its own claim (generation 39, form 5). Take a family whole -/
/-! ===== Int32 by its bits: bt x i ===== -/
def bt (x : Int32) (i : Nat) : Bool := x.toBitVec.getLsbD i
theorem b_ext {x y : Int32} (h : ∀ i, i < 32 → bt x i = bt y i) : x = y := Int32.toBitVec_inj.mp (BitVec.eq_of_getLsbD_eq (fun i hi => h i hi))
theorem b_or (x y : Int32) (i : Nat) : bt (x ||| y) i = (bt x i || bt y i) := by unfold bt; rw [Int32.toBitVec_or, BitVec.getLsbD_or]
theorem b_and (x y : Int32) (i : Nat) : bt (x &&& y) i = (bt x i && bt y i) := by unfold bt; rw [Int32.toBitVec_and, BitVec.getLsbD_and]
theorem b_xor (x y : Int32) (i : Nat) : bt (x ^^^ y) i = (bt x i ^^ bt y i) := by unfold bt; rw [Int32.toBitVec_xor, BitVec.getLsbD_xor]
theorem b_big {x : Int32} {i : Nat} (h : 32 ≤ i) : bt x i = false := BitVec.getLsbD_of_ge _ _ h
theorem b_255 (i : Nat) : bt 255 i = decide (i < 8) := by
  rcases Nat.lt_or_ge i 32 with h | h
  · exact (by decide +kernel : ∀ i, i < 32 → bt 255 i = decide (i < 8)) i h
  · rw [b_big h, decide_eq_false (by omega)]
theorem b_65535 (i : Nat) : bt 65535 i = decide (i < 16) := by
  rcases Nat.lt_or_ge i 32 with h | h
  · exact (by decide +kernel : ∀ i, i < 32 → bt 65535 i = decide (i < 16)) i h
  · rw [b_big h, decide_eq_false (by omega)]
theorem b_m1 : ∀ i, i < 32 → bt (-1) i = true := by decide +kernel
theorem b_0 (i : Nat) : bt 0 i = false := BitVec.getLsbD_zero
theorem s_l : ∀ n, n < 32 → ((nI n &&& 31).toBitVec.smod 32).toNat = n := by decide +kernel
theorem s_u : ∀ n, n < 32 → (((nI n).toUInt32 &&& Int32.toUInt32 31).toBitVec % 32).toNat = n := by decide +kernel
theorem b_shl (n : Nat) (hn : n < 32) (x : Int32) {i : Nat} (hi : i < 32) : bt (x <<< (nI n &&& 31)) i = (decide (n ≤ i) && bt x (i - n)) := by
  unfold bt
  rw [Int32.toBitVec_shiftLeft]
  show (x.toBitVec <<< ((nI n &&& 31).toBitVec.smod 32).toNat).getLsbD i = _
  rw [s_l n hn, BitVec.getLsbD_shiftLeft]
  rcases Nat.lt_or_ge i n with h | h
  · simp [h, Nat.not_le.mpr h]
  · simp [hi, h, Nat.not_lt.mpr h]
theorem b_ushr (n : Nat) (hn : n < 32) (x : Int32) (i : Nat) : bt ((x.toUInt32 >>> ((nI n).toUInt32 &&& Int32.toUInt32 31)).toInt32) i = bt x (n + i) := by
  show (x.toUInt32 >>> ((nI n).toUInt32 &&& Int32.toUInt32 31)).toBitVec.getLsbD i = x.toUInt32.toBitVec.getLsbD (n + i)
  rw [UInt32.toBitVec_shiftRight]
  show (x.toUInt32.toBitVec >>> (((nI n).toUInt32 &&& Int32.toUInt32 31).toBitVec % 32).toNat).getLsbD i = _
  rw [s_u n hn, BitVec.getLsbD_ushiftRight]
theorem b_sshr (n : Nat) (hn : n < 32) (x : Int32) {i : Nat} (hi : i < 32) : bt (x >>> (nI n &&& 31)) i = if n + i < 32 then bt x (n + i) else bt x 31 := by
  unfold bt
  rw [Int32.toBitVec_shiftRight]
  show (x.toBitVec.sshiftRight ((nI n &&& 31).toBitVec.smod 32).toNat).getLsbD i = _
  rw [s_l n hn, BitVec.getLsbD_sshiftRight, BitVec.msb_eq_getLsbD_last]
  simp [hi]
theorem b_shl8 (x : Int32) {i : Nat} (hi : i < 32) : bt (x <<< ((8 : Int32) &&& 31)) i = (decide (8 ≤ i) && bt x (i - 8)) := b_shl 8 (by omega) x hi
theorem b_shl16 (x : Int32) {i : Nat} (hi : i < 32) : bt (x <<< ((16 : Int32) &&& 31)) i = (decide (16 ≤ i) && bt x (i - 16)) := b_shl 16 (by omega) x hi
theorem b_shl24 (x : Int32) {i : Nat} (hi : i < 32) : bt (x <<< ((24 : Int32) &&& 31)) i = (decide (24 ≤ i) && bt x (i - 24)) := b_shl 24 (by omega) x hi
theorem b_sshr8 (x : Int32) {i : Nat} (hi : i < 32) : bt (x >>> ((8 : Int32) &&& 31)) i = if 8 + i < 32 then bt x (8 + i) else bt x 31 := b_sshr 8 (by omega) x hi
/-! ===== nI under and, xor, >>>, one bit, 65535 ===== -/
theorem nx_and (a b : Nat) : nI a &&& nI b = nI (a &&& b) := by
  apply Int32.toBitVec_inj.1
  show BitVec.ofNat 32 a &&& BitVec.ofNat 32 b = BitVec.ofNat 32 (a &&& b)
  apply BitVec.eq_of_getLsbD_eq
  intro i hi
  simp [hi]
theorem nx_xor (a b : Nat) : nI a ^^^ nI b = nI (a ^^^ b) := by
  apply Int32.toBitVec_inj.1
  show BitVec.ofNat 32 a ^^^ BitVec.ofNat 32 b = BitVec.ofNat 32 (a ^^^ b)
  apply BitVec.eq_of_getLsbD_eq
  intro i hi
  simp [hi]
theorem nx_cnt : ∀ j : Fin 32, (UInt32.ofNat j.val &&& Int32.toUInt32 31).toNat % 32 = j.val := by decide +kernel
theorem nx_ush {k j : Nat} (hk : k < 65536) (hj : j < 32) : ((nI k).toUInt32 >>> ((nI j).toUInt32 &&& Int32.toUInt32 31)).toInt32 = nI (k >>> j) := by
  have hs : k >>> j ≤ k := by
    rw [Nat.shiftRight_eq_div_pow]
    exact Nat.div_le_self _ _
  have e2 : UInt32.ofNat k >>> (UInt32.ofNat j &&& Int32.toUInt32 31) = UInt32.ofNat (k >>> j) := by
    apply UInt32.toNat_inj.1
    have h1 : (UInt32.ofNat k).toNat = k := Nat.mod_eq_of_lt (by omega)
    have h2 : (UInt32.ofNat (k >>> j)).toNat = k >>> j := Nat.mod_eq_of_lt (by omega)
    rw [UInt32.toNat_shiftRight, nx_cnt ⟨j, hj⟩, h1, h2]
  show (UInt32.ofNat k >>> (UInt32.ofNat j &&& Int32.toUInt32 31)).toInt32 = _
  rw [e2]
  rfl
theorem nx_bit {k j : Nat} (hk : k < 65536) (hj : j < 16) : (((nI k).toUInt32 >>> ((nI j).toUInt32 &&& Int32.toUInt32 31)).toInt32 &&& 1) = 0 ↔ k.testBit j = false := by
  rw [nx_ush hk (by omega)]
  show nI (k >>> j) &&& nI 1 = 0 ↔ _
  rw [nx_and, Nat.and_one_is_mod, ← nI_0, nI_eq (by omega) (by omega), Nat.testBit_eq_decide_div_mod_eq, Nat.shiftRight_eq_div_pow, decide_eq_false_iff_not]
  generalize k / 2 ^ j = z
  omega
theorem nx_mod (k : Nat) : nI k &&& 65535 = nI (k % 65536) := by
  show nI k &&& nI 65535 = _
  rw [nx_and, show (65535 : Nat) = 2 ^ 16 - 1 from rfl, Nat.and_two_pow_sub_one_eq_mod]
theorem nx_m16 {k : Nat} (h : k < 65536) : nI k &&& 65535 = nI k := by rw [nx_mod, Nat.mod_eq_of_lt h]
theorem nx_mask (x : Int32) : ∃ k, k < 65536 ∧ x &&& 65535 = nI k := by
  have e : x = nI x.toBitVec.toNat := by
    apply Int32.toBitVec_inj.1
    show x.toBitVec = BitVec.ofNat 32 x.toBitVec.toNat
    simp
  refine ⟨x.toBitVec.toNat % 65536, Nat.mod_lt _ (by omega), ?_⟩
  rw [← nx_mod, ← e]
/-! ===== Int32 as a set of bits: test, set ===== -/
def nf_M (m : Int32) : Nat := 4294967296 - m.toBitVec.toNat
theorem nf_sh : ∀ l, l < 32 → ((1 : Int32) <<< (nI l &&& 31)).toBitVec = BitVec.twoPow 32 l := by decide +kernel
theorem nf_sl : ∀ l, l < 32 → (((nI l).toUInt32 &&& Int32.toUInt32 31).toBitVec % 32).toNat = l := by decide +kernel
theorem nf_tp : ∀ l, l < 32 → BitVec.twoPow 32 l ≠ 0#32 := by decide +kernel
theorem nf_bit (m : Int32) (l : Nat) (hl : l < 32) : ((m.toUInt32 >>> ((nI l).toUInt32 &&& Int32.toUInt32 31)).toInt32 &&& 1) = 0 ↔ (m &&& ((1 : Int32) <<< (nI l &&& 31))) = 0 := by
  have e : ((m.toUInt32 >>> ((nI l).toUInt32 &&& Int32.toUInt32 31)).toInt32).toBitVec = m.toBitVec >>> l := by
    show m.toBitVec >>> (((nI l).toUInt32 &&& Int32.toUInt32 31).toBitVec % 32) = m.toBitVec >>> l
    rw [BitVec.ushiftRight_eq', nf_sl l hl]
  rw [← Int32.toBitVec_inj, ← Int32.toBitVec_inj, Int32.toBitVec_and, Int32.toBitVec_and, nf_sh l hl, e, BitVec.and_twoPow]
  show (m.toBitVec >>> l &&& 1#32) = 0#32 ↔ _ = 0#32
  rw [BitVec.and_one_eq_setWidth_ofBool_getLsbD, BitVec.getLsbD_ushiftRight, Nat.add_zero]
  cases hb : m.toBitVec.getLsbD l
  · exact ⟨fun _ => by simp, fun _ => by decide⟩
  · exact ⟨fun z => absurd z (by decide), fun z => absurd ((if_pos rfl).symm.trans z) (nf_tp l hl)⟩
theorem nf_gr (m k : Int32) (h : m &&& k = 0) (hk : k ≠ 0) : nf_M (m ||| k) < nf_M m := by
  have hm := m.toBitVec.isLt
  have hm' := (m ||| k).toBitVec.isLt
  have h1 : m.toBitVec.toNat ≤ (m ||| k).toBitVec.toNat := by
    rw [Int32.toBitVec_or, BitVec.toNat_or]
    exact Nat.left_le_or
  have h2 : m.toBitVec.toNat ≠ (m ||| k).toBitVec.toNat := by
    intro e
    have e2 : m = m ||| k := Int32.toBitVec_inj.mp (BitVec.eq_of_toNat_eq e)
    apply hk
    apply Int32.toBitVec_inj.mp
    show k.toBitVec = 0#32
    apply BitVec.eq_of_getLsbD_eq
    intro i hi
    have a : m.toBitVec.getLsbD i = (m.toBitVec.getLsbD i || k.toBitVec.getLsbD i) := by rw [← BitVec.getLsbD_or, ← Int32.toBitVec_or, ← e2]
    have b : (m.toBitVec.getLsbD i && k.toBitVec.getLsbD i) = false := by
      rw [← BitVec.getLsbD_and, ← Int32.toBitVec_and, h]
      exact BitVec.getLsbD_zero
    rw [BitVec.getLsbD_zero]
    revert a b
    cases m.toBitVec.getLsbD i <;> cases k.toBitVec.getLsbD i <;> simp
  unfold nf_M
  omega
/-! ===== a byte read unsigned ===== -/
theorem bp_b (x : Int32) : x.toInt8.toInt32 &&& 255 = x &&& 255 := by
  apply Int32.toBitVec_inj.mp
  rw [Int32.toBitVec_and, Int32.toBitVec_and, Int8.toBitVec_toInt32, Int32.toBitVec_toInt8]
  apply BitVec.eq_of_getLsbD_eq
  intro i hi
  rw [BitVec.getLsbD_and, BitVec.getLsbD_and]
  have hm : ∀ i < 32, 8 ≤ i → (255 : Int32).toBitVec.getLsbD i = false := by decide
  rcases Nat.lt_or_ge i 8 with z | z
  · rw [BitVec.getLsbD_signExtend, BitVec.getLsbD_signExtend, if_pos z, if_pos hi]
    simp only [z, hi, decide_true, Bool.true_and]
  · rw [hm i hi z]; simp
/-! ===== the char cast and 65535 ===== -/
theorem em_w (v : Int32) : ∃ w : Nat, w < 65536 ∧ (v.toUInt32 % 65536).toInt32 = nI w ∧ v &&& 65535 = nI w := by
  have hr := lw_u16_r v
  have h0 : (0 : Int32).toInt = 0 := by decide
  obtain ⟨w, h1, h2⟩ := nI_of (x := lw_u16 v) (by rw [Int32.lt_iff_toInt_lt]; omega)
  have h3 : (v.toUInt32 % 65536).toInt32 = nI w := h2
  rw [h2, nI_toInt h1] at hr
  exact ⟨w, by omega, h3, by rw [← lg_i2c_mask, ← lg_i2c_nf, h3]⟩
/-! ===== Int64 as a set of bits: test, set, clear ===== -/
theorem ts_nf {x : Bool} (h : ¬ x = false) : x = true := by cases x <;> first | rfl | exact absurd rfl h
theorem ts_nt {x : Bool} (h : ¬ x = true) : x = false := by cases x <;> first | rfl | exact absurd rfl h
theorem ts_bit {w : Int64} {s : UInt64} {j : Nat} (hj : j < 64) (hs : s.toNat = j) : ((w.toUInt64 >>> s).toInt64 &&& 1) = 0 ↔ w.toBitVec.getLsbD j = false := by
  have e : (w.toUInt64 >>> s).toInt64.toBitVec = w.toBitVec >>> j := by
    apply BitVec.eq_of_toNat_eq
    show (w.toUInt64 >>> s).toNat = _
    rw [UInt64.toNat_shiftRight, hs, Nat.mod_eq_of_lt hj, BitVec.toNat_ushiftRight]
    rfl
  rw [← Int64.toBitVec_inj, Int64.toBitVec_and, e]
  show w.toBitVec >>> j &&& 1#64 = 0#64 ↔ _
  constructor
  · intro h
    have t := congrArg (fun x => x.getLsbD 0) h
    simpa using t
  · intro h
    apply BitVec.eq_of_getLsbD_eq
    intro i hi
    cases i with
    | zero => simp [h]
    | succ i => simp
theorem ts_or {w m : Int64} {j : Nat} (hj : j < 64) (hm : m.toBitVec = BitVec.twoPow 64 j) : (w ||| m) = w ↔ w.toBitVec.getLsbD j = true := by
  rw [← Int64.toBitVec_inj, Int64.toBitVec_or, hm]
  constructor
  · intro h
    have t := congrArg (fun x => x.getLsbD j) h
    simp only [BitVec.getLsbD_or, BitVec.getLsbD_twoPow] at t
    simpa [hj] using t.symm
  · intro h
    apply BitVec.eq_of_getLsbD_eq
    intro i hi
    rw [BitVec.getLsbD_or, BitVec.getLsbD_twoPow]
    by_cases e : j = i
    · subst e; rw [h, Bool.true_or]
    · simp [e]
theorem ts_and {w m : Int64} {j : Nat} (hj : j < 64) (hm : m.toBitVec = BitVec.twoPow 64 j) : (w &&& (m ^^^ (-1))) = w ↔ w.toBitVec.getLsbD j = false := by
  have ha : (-1 : Int64).toBitVec = BitVec.allOnes 64 := by decide
  rw [← Int64.toBitVec_inj, Int64.toBitVec_and, Int64.toBitVec_xor, hm, ha]
  constructor
  · intro h
    have t := congrArg (fun x => x.getLsbD j) h
    simp only [BitVec.getLsbD_and, BitVec.getLsbD_xor, BitVec.getLsbD_twoPow, BitVec.getLsbD_allOnes] at t
    simpa [hj] using t.symm
  · intro h
    apply BitVec.eq_of_getLsbD_eq
    intro i hi
    rw [BitVec.getLsbD_and, BitVec.getLsbD_xor, BitVec.getLsbD_twoPow, BitVec.getLsbD_allOnes]
    by_cases e : j = i
    · subst e; rw [h, Bool.false_and]
    · simp [e, hi]
/-! ===== lN n to 2^64: shifts, and, or, masks, one bit ===== -/
theorem wb_tb (n : Nat) : (lN n).toBitVec = BitVec.ofNat 64 n := rfl
theorem wb_inj {a b : Int64} (h : a.toBitVec = b.toBitVec) : a = b := Int64.toBitVec_inj.mp h
theorem wb_tn {n : Nat} (h : n < 2 ^ 64) : (lN n).toBitVec.toNat = n := by rw [wb_tb, BitVec.toNat_ofNat, Nat.mod_eq_of_lt h]
theorem wb_of (x : Int64) : ∃ n, n < 2 ^ 64 ∧ x = lN n := ⟨x.toBitVec.toNat, x.toBitVec.isLt, wb_inj (by rw [wb_tb]; simp)⟩
theorem wb_of32 (x : Int32) : ∃ n, n < 2 ^ 32 ∧ x = nI n := ⟨x.toBitVec.toNat, x.toBitVec.isLt, Int32.toBitVec_inj.mp (by show _ = BitVec.ofNat 32 _; simp)⟩
theorem wb_c : ∀ k, k < 64 → ((nI k).toInt64 &&& 63) = lN k := by decide +kernel
theorem wb_cu : ∀ k, k < 64 → ((nI k).toInt64.toUInt64 &&& Int64.toUInt64 63) = UInt64.ofNat k := by decide +kernel
theorem wb_sm : ∀ k, k < 64 → (BitVec.ofNat 64 k).smod 64 = BitVec.ofNat 64 k := by decide +kernel
theorem wb_pw {a b : Nat} (h : a ≤ b) : 2 ^ b = 2 ^ a * 2 ^ (b - a) := by rw [← Nat.pow_add]; congr 1; omega
theorem wb_lt2 {a b : Nat} (h : a < b) : 2 ^ a < 2 ^ b := Nat.pow_lt_pow_right (by decide) h
theorem wb_mod (n : Nat) : lN n = lN (n % 2 ^ 64) := wb_inj (by rw [wb_tb, wb_tb]; apply BitVec.eq_of_toNat_eq; rw [BitVec.toNat_ofNat, BitVec.toNat_ofNat, Nat.mod_mod])
theorem wb_shr {n k : Nat} (hn : n < 2 ^ 64) (hk : k < 64) : ((lN n).toUInt64 >>> ((nI k).toInt64.toUInt64 &&& Int64.toUInt64 63)).toInt64 = lN (n / 2 ^ k) := by
  rw [wb_cu k hk]
  apply wb_inj
  apply BitVec.eq_of_toNat_eq
  show ((lN n).toUInt64 >>> UInt64.ofNat k).toNat = (BitVec.ofNat 64 _).toNat
  have h1 : (UInt64.ofNat k).toNat = k := by
    show (BitVec.ofNat 64 k).toNat = k
    rw [BitVec.toNat_ofNat, Nat.mod_eq_of_lt (by omega)]
  have h2 : (lN n).toUInt64.toNat = n := wb_tn hn
  rw [UInt64.toNat_shiftRight, h1, h2, Nat.mod_eq_of_lt hk, Nat.shiftRight_eq_div_pow, BitVec.toNat_ofNat, Nat.mod_eq_of_lt (Nat.lt_of_le_of_lt (Nat.div_le_self _ _) hn)]
theorem wb_shl (n : Nat) {k : Nat} (hk : k < 64) : lN n <<< ((nI k).toInt64 &&& 63) = lN (n * 2 ^ k) := by
  rw [wb_c k hk]
  apply wb_inj
  rw [Int64.toBitVec_shiftLeft, wb_tb, wb_tb, wb_tb, wb_sm k hk]
  apply BitVec.eq_of_toNat_eq
  rw [BitVec.shiftLeft_eq', BitVec.toNat_shiftLeft, BitVec.toNat_ofNat, BitVec.toNat_ofNat, BitVec.toNat_ofNat, Nat.mod_eq_of_lt (show k < 2 ^ 64 by omega), Nat.shiftLeft_eq, Nat.mul_mod, Nat.mod_mod, ← Nat.mul_mod]
theorem wb_and {a b : Nat} (ha : a < 2 ^ 64) (hb : b < 2 ^ 64) : lN a &&& lN b = lN (a &&& b) := by
  apply wb_inj
  rw [Int64.toBitVec_and, wb_tb, wb_tb, wb_tb]
  apply BitVec.eq_of_toNat_eq
  rw [BitVec.toNat_and, BitVec.toNat_ofNat, BitVec.toNat_ofNat, BitVec.toNat_ofNat, Nat.mod_eq_of_lt ha, Nat.mod_eq_of_lt hb, Nat.mod_eq_of_lt (Nat.and_lt_two_pow _ hb)]
theorem wb_or {a b : Nat} (ha : a < 2 ^ 64) (hb : b < 2 ^ 64) : lN a ||| lN b = lN (a ||| b) := by
  apply wb_inj
  rw [Int64.toBitVec_or, wb_tb, wb_tb, wb_tb]
  apply BitVec.eq_of_toNat_eq
  rw [BitVec.toNat_or, BitVec.toNat_ofNat, BitVec.toNat_ofNat, BitVec.toNat_ofNat, Nat.mod_eq_of_lt ha, Nat.mod_eq_of_lt hb, Nat.mod_eq_of_lt (Nat.or_lt_two_pow ha hb)]
theorem wb_mask {n k : Nat} (hn : n < 2 ^ 64) (hk : k < 64) : lN n &&& lN (2 ^ k - 1) = lN (n % 2 ^ k) := by
  rw [wb_and hn (by have := wb_lt2 hk; omega), Nat.and_two_pow_sub_one_eq_mod]
theorem wb_a1 {n : Nat} (hn : n < 2 ^ 64) : lN n &&& 1 = lN (n % 2) := wb_mask (k := 1) hn (by decide)
theorem wb_bit {n k : Nat} (hn : n < 2 ^ 64) (hk : k < 64) : ((lN n).toUInt64 >>> ((nI k).toInt64.toUInt64 &&& Int64.toUInt64 63)).toInt64 &&& 1 = lN (n / 2 ^ k % 2) := by
  rw [wb_shr hn hk, wb_a1 (Nat.lt_of_le_of_lt (Nat.div_le_self _ _) hn)]
theorem wb_xor {q k : Nat} (hk : k < 63) (h : 2 ^ k ≤ q) (h2 : q < 2 ^ (k + 1)) : lN q ^^^ lN (2 ^ k) = lN (q - 2 ^ k) := by
  obtain ⟨r, rfl⟩ : ∃ r, q = 2 ^ k + r := ⟨q - 2 ^ k, by omega⟩
  have hr : r < 2 ^ k := by rw [Nat.pow_succ] at h2; omega
  have hx : (2 ^ k + r) ^^^ 2 ^ k = r := by
    apply Nat.eq_of_testBit_eq
    intro i
    rw [Nat.testBit_xor, Nat.testBit_two_pow]
    rcases Nat.lt_trichotomy i k with h | h | h
    · rw [Nat.testBit_two_pow_add_gt h]
      simp [show ¬ k = i by omega]
    · subst h
      rw [Nat.testBit_two_pow_add_eq]
      simp
    · have a1 : 2 ^ (k + 1) ≤ 2 ^ i := Nat.pow_le_pow_right (by decide) h
      rw [Nat.testBit_lt_two_pow (show 2 ^ k + r < 2 ^ i by omega), Nat.testBit_lt_two_pow (show r < 2 ^ i by omega)]
      simp [show ¬ k = i by omega]
  have b1 := wb_lt2 (show k + 1 < 64 by omega)
  have b2 := wb_lt2 (show k < 64 by omega)
  apply wb_inj
  rw [Int64.toBitVec_xor, wb_tb, wb_tb, wb_tb]
  apply BitVec.eq_of_toNat_eq
  rw [BitVec.toNat_xor, BitVec.toNat_ofNat, BitVec.toNat_ofNat, BitVec.toNat_ofNat, Nat.mod_eq_of_lt (by omega : 2 ^ k + r < 2 ^ 64), Nat.mod_eq_of_lt b2, hx, Nat.add_sub_cancel_left, Nat.mod_eq_of_lt (by omega)]
/-! ===== lN: masks, 'or' of parts that don't overlap is a sum ===== -/
theorem u_tn {n : Nat} (h : n < 2 ^ 64) : (UInt64.ofNat n).toNat = n := Nat.mod_eq_of_lt h
theorem g_and {a b c : Nat} (ha : a < 2 ^ 64) (hb : b < 2 ^ 64) (hc : a &&& b = c) : lN a &&& lN b = lN c := by
  subst hc
  have h : UInt64.ofNat a &&& UInt64.ofNat b = UInt64.ofNat (a &&& b) := UInt64.toNat_inj.mp (by rw [UInt64.toNat_and, u_tn ha, u_tn hb, u_tn (Nat.and_lt_two_pow a hb)])
  have h2 := congrArg UInt64.toInt64 h
  exact h2
theorem g_and1 {a : Nat} (ha : a < 2 ^ 64) : lN a &&& 1 = lN (a % 2) := g_and (b := 1) ha (by decide) (Nat.and_two_pow_sub_one_eq_mod a 1)
theorem g_mask {a s p : Nat} (hp : 2 ^ s = p) (hs : s < 64) (ha : a < 2 ^ 64) : lN a &&& lN (p - 1) = lN (a % p) := by
  subst hp
  have := Nat.pow_lt_pow_right (show 1 < 2 by decide) hs
  exact g_and ha (by omega) (Nat.and_two_pow_sub_one_eq_mod a s)
theorem g_or {k p a b : Nat} (hp : 2 ^ k = p) (ha : a < p) (h : b * p + a < 2 ^ 64) : lN (b * p) ||| lN a = lN (b * p + a) := by
  subst hp
  have h1 : b * 2 ^ k ||| a = b * 2 ^ k + a := by rw [← Nat.shiftLeft_eq, Nat.shiftLeft_add_eq_or_of_lt ha]
  have h3 : UInt64.ofNat (b * 2 ^ k) ||| UInt64.ofNat a = UInt64.ofNat (b * 2 ^ k + a) := UInt64.toNat_inj.mp (by rw [UInt64.toNat_or, u_tn (by omega), u_tn (by omega), u_tn h, h1])
  have h2 := congrArg UInt64.toInt64 h3
  exact h2
theorem g_or' {k p a b : Nat} (hp : 2 ^ k = p) (ha : a < p) (h : a + b * p < 2 ^ 64) : lN a ||| lN (b * p) = lN (a + b * p) := by
  rw [Int64.or_comm, g_or hp ha (by omega), Nat.add_comm]
theorem g_ushr {a k p : Nat} {y : UInt64} (hy : y = UInt64.ofNat k) (hk : k < 64) (hp : 2 ^ k = p) (ha : a < 2 ^ 64) : ((lN a).toUInt64 >>> y).toInt64 = lN (a / p) := by
  subst hy hp
  have h : UInt64.ofNat a >>> UInt64.ofNat k = UInt64.ofNat (a / 2 ^ k) := UInt64.toNat_inj.mp (by rw [UInt64.toNat_shiftRight, u_tn ha, u_tn (by omega), u_tn (Nat.lt_of_le_of_lt (Nat.div_le_self _ _) ha), Nat.mod_eq_of_lt hk, Nat.shiftRight_eq_div_pow])
  have h2 := congrArg UInt64.toInt64 h
  exact h2
theorem g_shl {a k p : Nat} {y : Int64} (hy : y.toBitVec.smod 64 = BitVec.ofNat 64 k) (hk : k < 64) (hp : 2 ^ k = p) (ha : a < 2 ^ 64) : lN a <<< y = lN (a * p) := by
  subst hp
  apply Int64.toBitVec_inj.mp
  rw [Int64.toBitVec_shiftLeft, hy]
  apply BitVec.eq_of_toNat_eq
  have hb : (lN a).toBitVec.toNat = a := Nat.mod_eq_of_lt ha
  have hk' : (BitVec.ofNat 64 k).toNat = k := Nat.mod_eq_of_lt (by omega)
  have h : ((lN a).toBitVec <<< BitVec.ofNat 64 k).toNat = (a * 2 ^ k) % 2 ^ 64 := by simp only [BitVec.shiftLeft_eq', BitVec.toNat_shiftLeft, hb, hk', Nat.shiftLeft_eq]
  exact h
/-! ===== lN to 2^62 under >> and >>> ===== -/
theorem pf_lI {a : Nat} (h : a < 2 ^ 63) : (lN a).toInt = (a : Int) := lg_ofNat_toInt h
theorem pf_shr {a d : Nat} {D : Int64} (hD : (D.toBitVec.smod 64).toNat = d) (h : a < 2 ^ 62) : lN a >>> D = lN (a / 2 ^ d) := by
  have hd : a / 2 ^ d ≤ a := Nat.div_le_self _ _
  apply Int64.toInt_inj.mp
  have e : (lN a >>> D).toInt = (lN a).toInt >>> d := by
    rw [← hD]
    exact BitVec.toInt_sshiftRight ..
  rw [e, Int.shiftRight_eq_div_pow, pf_lI (by omega), pf_lI (by omega)]
  rfl
theorem pf_ushr {a d : Nat} {D : UInt64} (hD : D.toNat % 64 = d) (h : a < 2 ^ 62) : ((lN a).toUInt64 >>> D).toInt64 = lN (a / 2 ^ d) := by
  have hd : a / 2 ^ d ≤ a := Nat.div_le_self _ _
  have e : (lN a).toUInt64 >>> D = UInt64.ofNat (a / 2 ^ d) := UInt64.toNat_inj.mp (by
    rw [UInt64.toNat_shiftRight, hD, Nat.shiftRight_eq_div_pow, UInt64.toNat_ofNat']
    show (UInt64.ofNat a).toNat / 2 ^ d = _
    rw [UInt64.toNat_ofNat', Nat.mod_eq_of_lt (by omega), Nat.mod_eq_of_lt (by omega)])
  rw [e]
  rfl
theorem pf_andw (x : Int64) : ∃ m, m < 2 ^ 32 ∧ x &&& 4294967295 = lN m := ⟨x.toBitVec.toNat % 2 ^ 32, Nat.mod_lt _ (by decide), Int64.toBitVec_inj.mp (BitVec.eq_of_toNat_eq (by
  show (x.toBitVec &&& 4294967295#64).toNat = (BitVec.ofNat 64 (x.toBitVec.toNat % 2 ^ 32)).toNat
  rw [BitVec.toNat_and, show (4294967295#64).toNat = 2 ^ 32 - 1 from by decide, Nat.and_two_pow_sub_one_eq_mod, BitVec.toNat_ofNat]
  omega))⟩
/-! ===== Int64 as an unsigned number: uN x ===== -/
def uN (x : Int64) : Nat := x.toUInt64.toNat
theorem uN_lt (x : Int64) : uN x < 18446744073709551616 := x.toUInt64.toNat_lt
theorem uN_inj {x y : Int64} (h : uN x = uN y) : x = y := congrArg UInt64.toInt64 (UInt64.toNat_inj.mp h)
theorem uN_add (x y : Int64) : uN (x + y) = (uN x + uN y) % 18446744073709551616 := by
  show (x.toUInt64 + y.toUInt64).toNat = _
  exact UInt64.toNat_add _ _
theorem uN_mul (x y : Int64) : uN (x * y) = (uN x * uN y) % 18446744073709551616 := by
  show (x.toUInt64 * y.toUInt64).toNat = _
  exact UInt64.toNat_mul _ _
theorem uN_shl (x : Int64) : uN (x <<< ((1 : Int32).toInt64 &&& 63)) = (2 * uN x) % 18446744073709551616 := by
  have h : (((1 : Int32).toInt64 &&& 63).toBitVec.smod 64).toNat = 1 := by decide
  show (x.toBitVec <<< (((1 : Int32).toInt64 &&& 63).toBitVec.smod 64).toNat).toNat = _
  rw [h, BitVec.toNat_shiftLeft, Nat.shiftLeft_eq, Nat.mul_comm]
  rfl
theorem uN_shr (x : Int64) (s : UInt64) : uN (x.toUInt64 >>> s).toInt64 = uN x / 2 ^ (s.toNat % 64) := by
  show (x.toUInt64 >>> s).toNat = _
  rw [UInt64.toNat_shiftRight, Nat.shiftRight_eq_div_pow]
  rfl
theorem uN_s32 (x : Int64) : uN (x.toUInt64 >>> ((32 : Int32).toInt64.toUInt64 &&& Int64.toUInt64 63)).toInt64 = uN x / 4294967296 := by
  have h : ((32 : Int32).toInt64.toUInt64 &&& Int64.toUInt64 63).toNat % 64 = 32 := by decide
  rw [uN_shr, h]
theorem uN_s63 (x : Int64) : uN (x.toUInt64 >>> ((63 : Int32).toInt64.toUInt64 &&& Int64.toUInt64 63)).toInt64 = uN x / 9223372036854775808 := by
  have h : ((63 : Int32).toInt64.toUInt64 &&& Int64.toUInt64 63).toNat % 64 = 63 := by decide
  rw [uN_shr, h]
theorem uN_lo (x : Int64) : uN (x &&& 4294967295) = uN x % 4294967296 := by
  show (x.toUInt64 &&& Int64.toUInt64 4294967295).toNat = _
  rw [UInt64.toNat_and]
  exact Nat.and_two_pow_sub_one_eq_mod _ 32
theorem uN_bit (x : Int64) : (x &&& 1) = 0 ↔ uN x % 2 = 0 := by
  have h : uN (x &&& 1) = uN x % 2 := by
    show (x.toUInt64 &&& Int64.toUInt64 1).toNat = _
    rw [UInt64.toNat_and]
    exact Nat.and_two_pow_sub_one_eq_mod _ 1
  rw [← h]
  exact ⟨fun z => by rw [z]; rfl, fun z => uN_inj (z.trans rfl)⟩
theorem uN_or {x y : Int64} (hy : uN y < 2) : uN ((x <<< ((1 : Int32).toInt64 &&& 63)) ||| y) = (2 * uN x) % 18446744073709551616 + uN y := by
  have h1 : uN ((x <<< ((1 : Int32).toInt64 &&& 63)) ||| y) = uN (x <<< ((1 : Int32).toInt64 &&& 63)) ||| uN y := UInt64.toNat_or _ _
  have h2 : (2 * uN x) % 18446744073709551616 = 2 ^ 1 * (uN x % 9223372036854775808) := by omega
  rw [h1, uN_shl, h2]
  exact (Nat.two_pow_add_eq_or_of_lt (i := 1) hy _).symm
theorem nat_xor {a : Nat} (h : a < 18446744073709551616) : a ^^^ 2 ^ 63 = (a + 9223372036854775808) % 18446744073709551616 := by
  have h1 : (a ^^^ 2 ^ 63) % 2 ^ 63 = a % 2 ^ 63 := by rw [Nat.xor_mod_two_pow, Nat.mod_self, Nat.xor_zero]
  have h2 : (a ^^^ 2 ^ 63) / 2 ^ 63 = (a / 2 ^ 63) ^^^ 1 := by rw [Nat.xor_div_two_pow, Nat.div_self (Nat.two_pow_pos 63)]
  have h3 : a / 2 ^ 63 = 0 ∨ a / 2 ^ 63 = 1 := by omega
  generalize a ^^^ 2 ^ 63 = t at h1 h2
  rcases h3 with h3 | h3
  · rw [h3] at h2
    have h2 : t / 2 ^ 63 = 1 := h2
    omega
  · rw [h3] at h2
    have h2 : t / 2 ^ 63 = 0 := h2
    omega
theorem uN_xor (x : Int64) : uN (x ^^^ (-9223372036854775808)) = (uN x + 9223372036854775808) % 18446744073709551616 := by
  rw [← nat_xor (uN_lt x)]
  exact UInt64.toNat_xor _ _
theorem uN_int (x : Int64) : x.toInt = if 2 * uN x < 18446744073709551616 then (uN x : Int) else (uN x : Int) - 18446744073709551616 := BitVec.toInt_eq_toNat_cond _
theorem uN_le (x y : Int64) : (x ^^^ (-9223372036854775808)) ≤ (y ^^^ (-9223372036854775808)) ↔ uN x ≤ uN y := by
  have hx := uN_lt x
  have hy := uN_lt y
  rw [Int64.le_iff_toInt_le, uN_int, uN_int, uN_xor, uN_xor]
  omega
theorem uN_sk (x : Int64) {k : Nat} (hk : k < 64) : uN (x.toUInt64 >>> ((nI k).toInt64.toUInt64 &&& Int64.toUInt64 63)).toInt64 = uN x / 2 ^ k := by
  have h : ((nI k).toInt64.toUInt64 &&& Int64.toUInt64 63).toNat % 64 = k := by
    rw [nI_l (by omega), UInt64.toNat_and]
    have e : (lN k).toUInt64.toNat = k % 2 ^ 64 := rfl
    have e2 : (Int64.toUInt64 63).toNat = 2 ^ 6 - 1 := by decide
    rw [e, e2, Nat.and_two_pow_sub_one_eq_mod]
    omega
  rw [uN_shr, h]
/-! ===== unsigned comparison by xor with the least ===== -/
theorem lN_bv (n : Nat) : (lN n).toBitVec = BitVec.ofNat 64 n := rfl
theorem lN_nat {n : Nat} (h : n < 2 ^ 64) : (lN n).toBitVec.toNat = n := by rw [lN_bv, BitVec.toNat_ofNat]; exact Nat.mod_eq_of_lt h
theorem lN_xor (a b : Nat) : lN a ^^^ lN b = lN (a ^^^ b) := by
  apply Int64.toBitVec_inj.mp; rw [Int64.toBitVec_xor, lN_bv, lN_bv, lN_bv]; apply BitVec.eq_of_getLsbD_eq; intro i hi; simp [BitVec.getLsbD_ofNat, Nat.testBit_xor, hi]
theorem lN_ti {m : Nat} (h : m < 2 ^ 64) : (lN m).toInt = if m < 2 ^ 63 then (m : Int) else (m : Int) - 2 ^ 64 := by
  have c := BitVec.toInt_eq_toNat_cond (lN m).toBitVec
  rw [lN_nat h] at c
  show (lN m).toBitVec.toInt = _
  rw [c]
  split <;> split <;> omega
theorem xor63 {x : Nat} (h : x < 2 ^ 63) : x ^^^ 2 ^ 63 = 2 ^ 63 + x := by
  apply Nat.eq_of_testBit_eq
  intro i
  rw [Nat.testBit_xor, Nat.testBit_two_pow]
  rcases Nat.lt_trichotomy i 63 with z | z | z
  · rw [Nat.testBit_two_pow_add_gt z, decide_eq_false (by omega)]; simp
  · subst z; rw [Nat.testBit_two_pow_add_eq]; simp
  · have hp : 2 ^ 64 ≤ 2 ^ i := Nat.pow_le_pow_right (by decide) z
    rw [Nat.testBit_lt_two_pow (show x < 2 ^ i by omega), Nat.testBit_lt_two_pow (show 2 ^ 63 + x < 2 ^ i by omega), decide_eq_false (by omega)]; rfl
theorem xorS {a : Nat} (h : a < 2 ^ 64) : (lN a ^^^ (-9223372036854775808)).toInt = (a : Int) - 2 ^ 63 := by
  rw [show (-9223372036854775808 : Int64) = lN (2 ^ 63) from by decide +kernel, lN_xor]
  rcases Nat.lt_or_ge a (2 ^ 63) with z | z
  · rw [xor63 z, lN_ti (by omega), if_neg (by omega)]; omega
  · obtain ⟨x, rfl⟩ : ∃ x, a = 2 ^ 63 + x := ⟨a - 2 ^ 63, by omega⟩
    rw [← xor63 (by omega), Nat.xor_assoc, Nat.xor_self, Nat.xor_zero, lN_ti (by omega), if_pos (by omega), xor63 (by omega)]; omega
theorem ultL {a b : Nat} (ha : a < 2 ^ 64) (hb : b < 2 ^ 64) : ((lN b ^^^ (-9223372036854775808)) ≤ (lN a ^^^ (-9223372036854775808))) ↔ b ≤ a := by
  rw [Int64.le_iff_toInt_le, xorS ha, xorS hb]; omega
/-! ===== Int64 masks of n low bits ===== -/
theorem cr_bits (W U M : BitVec 64) : ((W &&& U) &&& (U &&& (M ^^^ BitVec.allOnes 64))) = 0#64 ↔ (W &&& U) &&& M = W &&& U := by
  constructor
  · intro h
    apply BitVec.eq_of_getLsbD_eq
    intro i hi
    have e := congrArg (fun x => BitVec.getLsbD x i) h
    simp only [BitVec.getLsbD_and, BitVec.getLsbD_xor, BitVec.getLsbD_allOnes, BitVec.getLsbD_zero, hi, decide_true] at e ⊢
    revert e
    cases W.getLsbD i <;> cases U.getLsbD i <;> cases M.getLsbD i <;> decide
  · intro h
    apply BitVec.eq_of_getLsbD_eq
    intro i hi
    have e := congrArg (fun x => BitVec.getLsbD x i) h
    simp only [BitVec.getLsbD_and, BitVec.getLsbD_xor, BitVec.getLsbD_allOnes, BitVec.getLsbD_zero, hi, decide_true] at e ⊢
    revert e
    cases W.getLsbD i <;> cases U.getLsbD i <;> cases M.getLsbD i <;> decide
theorem cr_mask (w U m : Int64) (n : Nat) (hm : m.toBitVec.toNat = 2 ^ n - 1) : ((w &&& U) &&& (U &&& (m ^^^ (-1)))) = 0 ↔ (w &&& U).toBitVec.toNat < 2 ^ n := by
  have e0 : (-1 : Int64).toBitVec = BitVec.allOnes 64 := by decide
  have z0 : (0 : Int64).toBitVec = 0#64 := by decide
  rw [← Int64.toBitVec_inj, z0, Int64.toBitVec_and, Int64.toBitVec_and, Int64.toBitVec_and, Int64.toBitVec_xor, e0, cr_bits]
  generalize w.toBitVec &&& U.toBitVec = T
  rw [← BitVec.toNat_inj, BitVec.toNat_and, hm, Nat.and_two_pow_sub_one_eq_mod]
  constructor
  · intro h
    have t := Nat.mod_lt T.toNat (Nat.two_pow_pos n)
    rw [h] at t
    exact t
  · exact Nat.mod_eq_of_lt
theorem cr_shr (t : Int64) (x : UInt64) (n : Nat) (hx : x.toNat % 64 = n) : (t.toUInt64 >>> x).toInt64 = 0 ↔ t.toBitVec.toNat < 2 ^ n := by
  rw [← Int64.toBitVec_inj, ← BitVec.toNat_inj]
  show (t.toUInt64 >>> x).toNat = 0 ↔ t.toUInt64.toNat < 2 ^ n
  rw [UInt64.toNat_shiftRight, hx, Nat.shiftRight_eq_div_pow]
  constructor
  · intro h
    have d : t.toUInt64.toNat / 2 ^ n < 1 := by
      rw [h]
      decide
    have e := (Nat.div_lt_iff_lt_mul (Nat.two_pow_pos n)).mp d
    rw [Nat.one_mul] at e
    exact e
  · exact Nat.div_eq_of_lt
theorem cr_amt (s : Int64) : ∃ n, n < 64 ∧ s &&& 63 = lN n ∧ (s.toUInt64 &&& Int64.toUInt64 63).toNat % 64 = n := by
  have e : (s.toUInt64 &&& Int64.toUInt64 63).toNat = s.toUInt64.toNat % 2 ^ 6 := by
    rw [UInt64.toNat_and, show (Int64.toUInt64 63).toNat = 2 ^ 6 - 1 from by decide, Nat.and_two_pow_sub_one_eq_mod]
  refine ⟨s.toUInt64.toNat % 2 ^ 6, by omega, ?_, by omega⟩
  rw [← Int64.toBitVec_inj, ← BitVec.toNat_inj]
  show (s.toUInt64 &&& Int64.toUInt64 63).toNat = (BitVec.ofNat 64 (s.toUInt64.toNat % 2 ^ 6)).toNat
  rw [e, BitVec.toNat_ofNat]
  omega
end
section
/-! text arithmetic: how many terms are still wanted, ends of terms, charges and slots -/
def tx_ar (s : Int32) : Nat := s.toNatClampNeg
theorem tx_ar_n {a : Nat} (h : a < 2 ^ 31) : tx_ar (nI a) = a := nI_clamp h
theorem tx_ar_m1 : tx_ar (-1) = 0 := by decide
theorem tx_ar_m2 : tx_ar (-2) = 0 := by decide
def tx_op (sh : Nat → Int32) : Nat → Nat
  | 0 => 0
  | i + 1 => tx_op sh i - 1 + tx_ar (sh i)
def tx_sk (sh : Nat → Int32) : Nat → Nat → Nat → Prop
  | 0, c, _ => c = 0
  | k + 1, c, i => 0 < c ∧ tx_sk sh k (c - 1 + tx_ar (sh i)) (i + 1)
def tx_eo (sh : Nat → Int32) : Nat → Nat → Nat → Nat
  | 0, _, i => i
  | f + 1, c, i => if c = 0 then i else tx_eo sh f (c - 1 + tx_ar (sh i)) (i + 1)
def tx_en (sh : Nat → Int32) (i : Nat) : Nat := tx_eo sh 40 1 i
def tx_tok (s : Int32) (o : Nat) (n : Int32) : Prop := (s = -2 ∧ o = 0 ∧ n = 0) ∨ (s = -1 ∧ 0 < o ∧ ∃ v, v < 8 ∧ n = nI v) ∨ (∃ a, a ≤ 3 ∧ s = nI a)
def tx_WT (sh nm : Nat → Int32) (n : Nat) : Prop := ∀ i, i < n → tx_tok (sh i) (tx_op sh i) (nm i)
theorem tx_op_c {sh sh' : Nat → Int32} : ∀ {i : Nat}, (∀ j, j < i → sh' j = sh j) → tx_op sh' i = tx_op sh i
  | 0, _ => rfl
  | i + 1, h => by
    simp only [tx_op]
    rw [tx_op_c (i := i) (fun j hj => h j (by omega)), h i (by omega)]
theorem tx_tok_ar {s : Int32} {o : Nat} {n : Int32} (h : tx_tok s o n) : tx_ar s ≤ 3 := by
  rcases h with ⟨h, _⟩ | ⟨h, _⟩ | ⟨a, ha, h⟩
  · rw [h, tx_ar_m2]; omega
  · rw [h, tx_ar_m1]; omega
  · rw [h, tx_ar_n (by omega)]; exact ha
theorem tx_op_le {sh nm : Nat → Int32} : ∀ {n : Nat}, tx_WT sh nm n → tx_op sh n ≤ 3 * n
  | 0, _ => Nat.le_refl _
  | n + 1, h => by
    have a := tx_op_le (n := n) (fun i hi => h i (by omega))
    have b := tx_tok_ar (h n (by omega))
    simp only [tx_op]; omega
theorem tx_sk_f {sh : Nat → Int32} : ∀ {k k' c i : Nat}, tx_sk sh k c i → tx_sk sh k' c i → k = k'
  | 0, 0, _, _, _, _ => rfl
  | 0, _ + 1, _, _, h, h' => by simp only [tx_sk] at h h'; omega
  | _ + 1, 0, _, _, h, h' => by simp only [tx_sk] at h h'; omega
  | k + 1, k' + 1, _, _, h, h' => by rw [tx_sk_f (k := k) (k' := k') h.2 h'.2]
theorem tx_sk_eo {sh : Nat → Int32} : ∀ {k f c i : Nat}, tx_sk sh k c i → k ≤ f → tx_eo sh f c i = i + k
  | 0, 0, _, _, _, _ => rfl
  | 0, f + 1, c, i, h, _ => by simp only [tx_sk] at h; subst h; simp [tx_eo]
  | k + 1, 0, _, _, _, hf => by omega
  | k + 1, f + 1, c, i, h, hf => by
    simp only [tx_eo]
    rw [if_neg (by have := h.1; omega), tx_sk_eo (k := k) h.2 (by omega)]
    omega
theorem tx_sk_add {sh : Nat → Int32} : ∀ {k1 k2 c d i : Nat}, tx_sk sh k1 c i → tx_sk sh k2 d (i + k1) → tx_sk sh (k1 + k2) (c + d) i
  | 0, k2, c, d, i, h, h' => by
    simp only [tx_sk] at h; subst h
    simpa using h'
  | k1 + 1, k2, c, d, i, h, h' => by
    have e : k1 + 1 + k2 = (k1 + k2) + 1 := by omega
    rw [e]
    refine ⟨by have := h.1; omega, ?_⟩
    have e2 : c + d - 1 + tx_ar (sh i) = (c - 1 + tx_ar (sh i)) + d := by have := h.1; omega
    rw [e2]
    refine tx_sk_add h.2 ?_
    have e3 : i + 1 + k1 = i + (k1 + 1) := by omega
    rw [e3]; exact h'
theorem tx_sk_split {sh : Nat → Int32} : ∀ {k c d i : Nat}, tx_sk sh k (c + d) i → ∃ k1 k2, k = k1 + k2 ∧ tx_sk sh k1 c i ∧ tx_sk sh k2 d (i + k1)
  | 0, c, d, i, h => by
    simp only [tx_sk] at h
    exact ⟨0, 0, rfl, by show c = 0; omega, by show d = 0; omega⟩
  | k + 1, 0, d, i, h => ⟨0, k + 1, by omega, rfl, by simpa using h⟩
  | k + 1, c + 1, d, i, h => by
    have e2 : c + 1 + d - 1 + tx_ar (sh i) = (c + tx_ar (sh i)) + d := by omega
    have h2 := h.2
    rw [e2] at h2
    obtain ⟨k1, k2, e, a, b⟩ := tx_sk_split h2
    refine ⟨k1 + 1, k2, by omega, ⟨by omega, a⟩, ?_⟩
    have e3 : i + (k1 + 1) = i + 1 + k1 := by omega
    rw [e3]; exact b
theorem tx_sk_op {sh : Nat → Int32} {n : Nat} (hn : tx_op sh n = 0) : ∀ {m i : Nat}, i + m = n → ∃ k, i + k ≤ n ∧ tx_sk sh k (tx_op sh i) i ∧ tx_op sh (i + k) = 0
  | 0, i, h => by
    have : i = n := by omega
    subst this
    exact ⟨0, by omega, hn, hn⟩
  | m + 1, i, h => by
    by_cases z : tx_op sh i = 0
    · exact ⟨0, by omega, z, z⟩
    · obtain ⟨k, a, b, c⟩ := tx_sk_op hn (m := m) (i := i + 1) (by omega)
      refine ⟨k + 1, by omega, ⟨by omega, b⟩, ?_⟩
      have e : i + (k + 1) = i + 1 + k := by omega
      rw [e]; exact c
theorem tx_sk_1 {sh : Nat → Int32} {n i : Nat} (hn : tx_op sh n = 0) (hi : i < n) : ∃ k, 0 < k ∧ i + k ≤ n ∧ tx_sk sh k 1 i ∧ (tx_op sh i = 0 → tx_op sh (i + k) = 0) := by
  by_cases z : tx_op sh i = 0
  · obtain ⟨k, a, b, c⟩ := tx_sk_op hn (m := n - (i + 1)) (i := i + 1) (by omega)
    refine ⟨k + 1, by omega, by omega, ⟨by omega, ?_⟩, fun _ => ?_⟩
    · have e : tx_op sh (i + 1) = 1 - 1 + tx_ar (sh i) := by simp only [tx_op]; omega
      rw [← e]; exact b
    · have e : i + (k + 1) = i + 1 + k := by omega
      rw [e]; exact c
  · obtain ⟨k, a, b, c⟩ := tx_sk_op hn (m := n - i) (i := i) (by omega)
    have e : tx_op sh i = 1 + (tx_op sh i - 1) := by omega
    rw [e] at b
    obtain ⟨k1, k2, e1, h1, h2⟩ := tx_sk_split b
    refine ⟨k1, ?_, by omega, h1, fun z' => absurd z' z⟩
    rcases k1 with _ | k1
    · simp only [tx_sk] at h1; omega
    · omega
theorem tx_en_1 {sh : Nat → Int32} {n i : Nat} (h40 : n ≤ 40) (hn : tx_op sh n = 0) (hi : i < n) : i < tx_en sh i ∧ tx_en sh i ≤ n ∧ tx_sk sh (tx_en sh i - i) 1 i ∧ (tx_op sh i = 0 → tx_op sh (tx_en sh i) = 0) := by
  obtain ⟨k, a, b, c, d⟩ := tx_sk_1 hn hi
  have e : tx_en sh i = i + k := tx_sk_eo c (by omega)
  rw [e]
  have e2 : i + k - i = k := by omega
  rw [e2]
  exact ⟨by omega, b, c, d⟩
def tx_ag (sh : Nat → Int32) (i : Nat) : Nat → Nat
  | 0 => i + 1
  | k + 1 => tx_en sh (tx_ag sh i k)
theorem tx_sk_pos {sh : Nat → Int32} : ∀ {k c i : Nat}, tx_sk sh k c i → c ≤ tx_op sh i → ∀ j, j < k → 0 < tx_op sh (i + j)
  | 0, _, _, _, _, j, hj => by omega
  | k + 1, c, i, h, hc, 0, _ => by have := h.1; show 0 < tx_op sh i; omega
  | k + 1, c, i, h, hc, j + 1, hj => by
    have e : i + (j + 1) = i + 1 + j := by omega
    rw [e]
    exact tx_sk_pos h.2 (by simp only [tx_op]; have := h.1; omega) j (by omega)
theorem tx_ag_sk {sh : Nat → Int32} {n i : Nat} (h40 : n ≤ 40) (hn : tx_op sh n = 0) (hi : i < n) : ∀ {k : Nat}, k ≤ tx_ar (sh i) → i < tx_ag sh i k ∧ tx_ag sh i k ≤ tx_en sh i ∧ tx_sk sh (tx_en sh i - tx_ag sh i k) (tx_ar (sh i) - k) (tx_ag sh i k)
  | 0, _ => by
    obtain ⟨a, b, c, d⟩ := tx_en_1 h40 hn hi
    refine ⟨by simp only [tx_ag]; omega, by simp only [tx_ag]; omega, ?_⟩
    have e : tx_en sh i - i = (tx_en sh i - (i + 1)) + 1 := by omega
    rw [e] at c
    have := c.2
    simp only [tx_ag]
    have e2 : 1 - 1 + tx_ar (sh i) = tx_ar (sh i) - 0 := by omega
    rw [e2] at this
    exact this
  | k + 1, hk => by
    obtain ⟨a, b, c⟩ := tx_ag_sk h40 hn hi (k := k) (by omega)
    obtain ⟨a', b', _, _⟩ := tx_en_1 h40 hn hi
    have e : tx_ar (sh i) - k = 1 + (tx_ar (sh i) - (k + 1)) := by omega
    rw [e] at c
    obtain ⟨k1, k2, e1, h1, h2⟩ := tx_sk_split c
    have e3 : tx_en sh (tx_ag sh i k) = tx_ag sh i k + k1 := tx_sk_eo h1 (by omega)
    refine ⟨?_, ?_, ?_⟩
    · simp only [tx_ag]; omega
    · simp only [tx_ag]; omega
    · simp only [tx_ag]
      rw [e3]
      have e4 : tx_en sh i - (tx_ag sh i k + k1) = k2 := by omega
      rw [e4]; exact h2
theorem tx_ag_lt {sh : Nat → Int32} {n i k : Nat} (h40 : n ≤ 40) (hn : tx_op sh n = 0) (hi : i < n) (hk : k < tx_ar (sh i)) : i < tx_ag sh i k ∧ tx_ag sh i k < tx_en sh i ∧ tx_ag sh i k < n ∧ 0 < tx_op sh (tx_ag sh i k) := by
  obtain ⟨a, b, c⟩ := tx_ag_sk h40 hn hi (k := k) (by omega)
  obtain ⟨a', b', c', _⟩ := tx_en_1 h40 hn hi
  have hlt : tx_ag sh i k < tx_en sh i := by
    rcases Nat.lt_or_ge (tx_ag sh i k) (tx_en sh i) with h | h
    · exact h
    · have e : tx_en sh i - tx_ag sh i k = 0 := by omega
      rw [e] at c
      simp only [tx_sk] at c
      omega
  refine ⟨a, hlt, by omega, ?_⟩
  have e : tx_en sh i - i = (tx_en sh i - (i + 1)) + 1 := by omega
  rw [e] at c'
  have := tx_sk_pos c'.2 (by simp only [tx_op]; omega) (tx_ag sh i k - (i + 1)) (by omega)
  have e2 : i + 1 + (tx_ag sh i k - (i + 1)) = tx_ag sh i k := by omega
  rw [e2] at this
  exact this
theorem tx_ag_en {sh : Nat → Int32} {n i : Nat} (h40 : n ≤ 40) (hn : tx_op sh n = 0) (hi : i < n) : tx_ag sh i (tx_ar (sh i)) = tx_en sh i := by
  obtain ⟨a, b, c⟩ := tx_ag_sk h40 hn hi (k := tx_ar (sh i)) (Nat.le_refl _)
  rw [Nat.sub_self] at c
  generalize hq : tx_en sh i - tx_ag sh i (tx_ar (sh i)) = q at c
  rcases q with _ | q
  · omega
  · exact absurd c.1 (by omega)
/-- inside a goal some term is still wanted everywhere -/
theorem tx_in_pos {sh : Nat → Int32} {n i j : Nat} (h40 : n ≤ 40) (hn : tx_op sh n = 0) (hi : i < n) (h1 : i < j) (h2 : j < tx_en sh i) : 0 < tx_op sh j := by
  obtain ⟨a', b', c', _⟩ := tx_en_1 h40 hn hi
  have e : tx_en sh i - i = (tx_en sh i - (i + 1)) + 1 := by omega
  rw [e] at c'
  have := tx_sk_pos c'.2 (by simp only [tx_op]; omega) (j - (i + 1)) (by omega)
  have e2 : i + 1 + (j - (i + 1)) = j := by omega
  rw [e2] at this
  exact this
end
section
/-! charges and slots -/
def tx_cv (sh nm : Nat → Int32) : Nat → Nat × (Nat → Nat)
  | 0 => (0, fun _ => 0)
  | i + 1 =>
    if sh i = -1 then
      (if (tx_cv sh nm i).2 (nm i).toNatClampNeg = 0 then ((tx_cv sh nm i).1 + 1, fun v => if v = (nm i).toNatClampNeg then (tx_cv sh nm i).1 + 1 else (tx_cv sh nm i).2 v) else tx_cv sh nm i)
    else (if 0 < tx_ar (sh i) ∧ 0 < tx_op sh i then ((tx_cv sh nm i).1 + 1, (tx_cv sh nm i).2) else tx_cv sh nm i)
def tx_ch (sh nm : Nat → Int32) (i : Nat) : Nat := (tx_cv sh nm i).1
def tx_vs (sh nm : Nat → Int32) (i : Nat) : Nat → Nat := (tx_cv sh nm i).2
def tx_sl (sh nm : Nat → Int32) (i : Nat) : Nat := if sh i = -1 then tx_vs sh nm (i + 1) (nm i).toNatClampNeg else (if 0 < tx_ar (sh i) ∧ 0 < tx_op sh i then tx_ch sh nm i + 1 else 0)
def tx_s32 (s : Nat) : Int32 := nI s - 1
theorem tx_s32_0 : tx_s32 0 = -1 := by decide
theorem tx_s32_s (k : Nat) : tx_s32 (k + 1) = nI k := nI_pred k
theorem tx_s32_p {s : Nat} (h : s ≠ 0) : tx_s32 s = nI (s - 1) := by
  obtain ⟨k, rfl⟩ : ∃ k, s = k + 1 := ⟨s - 1, by omega⟩
  exact nI_pred k
theorem tx_ch0 (sh nm : Nat → Int32) : tx_ch sh nm 0 = 0 := rfl
theorem tx_vs0 (sh nm : Nat → Int32) (v : Nat) : tx_vs sh nm 0 v = 0 := rfl
theorem tx_s1 {sh nm : Nat → Int32} {i : Nat} (h : sh i = -1) (hz : tx_vs sh nm i (nm i).toNatClampNeg = 0) : tx_ch sh nm (i + 1) = tx_ch sh nm i + 1 ∧ (∀ w, tx_vs sh nm (i + 1) w = if w = (nm i).toNatClampNeg then tx_ch sh nm i + 1 else tx_vs sh nm i w) := by
  unfold tx_vs at hz
  unfold tx_ch tx_vs
  simp only [tx_cv]
  rw [if_pos h, if_pos hz]
  exact ⟨rfl, fun w => rfl⟩
theorem tx_s2 {sh nm : Nat → Int32} {i : Nat} (h : sh i = -1) (hz : tx_vs sh nm i (nm i).toNatClampNeg ≠ 0) : tx_ch sh nm (i + 1) = tx_ch sh nm i ∧ (∀ w, tx_vs sh nm (i + 1) w = tx_vs sh nm i w) := by
  unfold tx_vs at hz
  unfold tx_ch tx_vs
  simp only [tx_cv]
  rw [if_pos h, if_neg hz]
  exact ⟨rfl, fun w => rfl⟩
theorem tx_s3 {sh nm : Nat → Int32} {i : Nat} (h : sh i ≠ -1) (hz : 0 < tx_ar (sh i) ∧ 0 < tx_op sh i) : tx_ch sh nm (i + 1) = tx_ch sh nm i + 1 ∧ (∀ w, tx_vs sh nm (i + 1) w = tx_vs sh nm i w) := by
  unfold tx_ch tx_vs
  simp only [tx_cv]
  rw [if_neg h, if_pos hz]
  exact ⟨rfl, fun w => rfl⟩
theorem tx_s4 {sh nm : Nat → Int32} {i : Nat} (h : sh i ≠ -1) (hz : ¬ (0 < tx_ar (sh i) ∧ 0 < tx_op sh i)) : tx_ch sh nm (i + 1) = tx_ch sh nm i ∧ (∀ w, tx_vs sh nm (i + 1) w = tx_vs sh nm i w) := by
  unfold tx_ch tx_vs
  simp only [tx_cv]
  rw [if_neg h, if_neg hz]
  exact ⟨rfl, fun w => rfl⟩
theorem tx_cv_c {sh nm sh' nm' : Nat → Int32} : ∀ {i : Nat}, (∀ j, j < i → sh' j = sh j ∧ nm' j = nm j) → tx_cv sh' nm' i = tx_cv sh nm i
  | 0, _ => rfl
  | i + 1, h => by
    simp only [tx_cv]
    rw [tx_cv_c (i := i) (fun j hj => h j (by omega)), tx_op_c (i := i) (fun j hj => (h j (by omega)).1), (h i (by omega)).1, (h i (by omega)).2]
theorem tx_ch_c {sh nm sh' nm' : Nat → Int32} {i : Nat} (h : ∀ j, j < i → sh' j = sh j ∧ nm' j = nm j) : tx_ch sh' nm' i = tx_ch sh nm i := by unfold tx_ch; rw [tx_cv_c h]
theorem tx_vs_c {sh nm sh' nm' : Nat → Int32} {i : Nat} (h : ∀ j, j < i → sh' j = sh j ∧ nm' j = nm j) : tx_vs sh' nm' i = tx_vs sh nm i := by unfold tx_vs; rw [tx_cv_c h]
theorem tx_sl_c {sh nm sh' nm' : Nat → Int32} {i : Nat} (h : ∀ j, j < i + 1 → sh' j = sh j ∧ nm' j = nm j) : tx_sl sh' nm' i = tx_sl sh nm i := by
  unfold tx_sl
  rw [(h i (by omega)).1, (h i (by omega)).2, tx_vs_c h, tx_ch_c (fun j hj => h j (by omega)), tx_op_c (fun j hj => (h j (by omega)).1)]
theorem tx_vs_le {sh nm : Nat → Int32} : ∀ (i v : Nat), tx_vs sh nm i v ≤ tx_ch sh nm i
  | 0, v => Nat.le_refl _
  | i + 1, v => by
    have ih := tx_vs_le (sh := sh) (nm := nm) i v
    by_cases h : sh i = -1
    · by_cases z : tx_vs sh nm i (nm i).toNatClampNeg = 0
      · rw [(tx_s1 h z).1, (tx_s1 h z).2]; split <;> omega
      · rw [(tx_s2 h z).1, (tx_s2 h z).2]; exact ih
    · by_cases z : 0 < tx_ar (sh i) ∧ 0 < tx_op sh i
      · rw [(tx_s3 h z).1, (tx_s3 h z).2]; omega
      · rw [(tx_s4 h z).1, (tx_s4 h z).2]; exact ih
theorem tx_ch_s {sh nm : Nat → Int32} (i : Nat) : tx_ch sh nm (i + 1) = tx_ch sh nm i ∨ tx_ch sh nm (i + 1) = tx_ch sh nm i + 1 := by
  by_cases h : sh i = -1
  · by_cases z : tx_vs sh nm i (nm i).toNatClampNeg = 0
    · exact Or.inr (tx_s1 h z).1
    · exact Or.inl (tx_s2 h z).1
  · by_cases z : 0 < tx_ar (sh i) ∧ 0 < tx_op sh i
    · exact Or.inr (tx_s3 h z).1
    · exact Or.inl (tx_s4 h z).1
theorem tx_ch_m {sh nm : Nat → Int32} {i : Nat} : ∀ {j : Nat}, i ≤ j → tx_ch sh nm i ≤ tx_ch sh nm j
  | 0, h => by have : i = 0 := by omega
               subst this; exact Nat.le_refl _
  | j + 1, h => by
    rcases Nat.lt_or_ge j i with z | z
    · have : i = j + 1 := by omega
      subst this; exact Nat.le_refl _
    · have a := tx_ch_m (sh := sh) (nm := nm) (i := i) (j := j) z
      rcases tx_ch_s (sh := sh) (nm := nm) j with e | e <;> omega
theorem tx_ch_n {sh nm : Nat → Int32} : ∀ (n : Nat), tx_ch sh nm n ≤ n
  | 0 => Nat.le_refl _
  | n + 1 => by
    have a := tx_ch_n (sh := sh) (nm := nm) n
    rcases tx_ch_s (sh := sh) (nm := nm) n with e | e <;> omega
theorem tx_vs_1 {sh nm : Nat → Int32} {i v : Nat} (h : tx_vs sh nm i v ≠ 0) : tx_vs sh nm (i + 1) v = tx_vs sh nm i v := by
  by_cases hv : sh i = -1
  · by_cases z : tx_vs sh nm i (nm i).toNatClampNeg = 0
    · rw [(tx_s1 hv z).2, if_neg]
      intro e; subst e; exact h z
    · rw [(tx_s2 hv z).2]
  · by_cases z : 0 < tx_ar (sh i) ∧ 0 < tx_op sh i
    · rw [(tx_s3 hv z).2]
    · rw [(tx_s4 hv z).2]
theorem tx_vs_st {sh nm : Nat → Int32} {i v : Nat} (h : tx_vs sh nm i v ≠ 0) : ∀ {j : Nat}, i ≤ j → tx_vs sh nm j v = tx_vs sh nm i v
  | 0, hj => by have : i = 0 := by omega
                subst this; rfl
  | j + 1, hj => by
    rcases Nat.lt_or_ge j i with z | z
    · have : i = j + 1 := by omega
      subst this; rfl
    · have a := tx_vs_st h (j := j) z
      rw [tx_vs_1 (by rw [a]; exact h), a]
theorem tx_vs_new {sh nm : Nat → Int32} {i : Nat} (h : sh i = -1) : tx_vs sh nm (i + 1) (nm i).toNatClampNeg ≠ 0 := by
  by_cases z : tx_vs sh nm i (nm i).toNatClampNeg = 0
  · rw [(tx_s1 h z).2, if_pos rfl]; omega
  · rw [(tx_s2 h z).2]; exact z
theorem tx_occ1 {sh nm : Nat → Int32} {i v : Nat} : tx_vs sh nm (i + 1) v ≠ 0 ↔ (tx_vs sh nm i v ≠ 0 ∨ (sh i = -1 ∧ (nm i).toNatClampNeg = v)) := by
  constructor
  · intro h
    by_cases hv : sh i = -1
    · by_cases z : tx_vs sh nm i (nm i).toNatClampNeg = 0
      · rw [(tx_s1 hv z).2] at h
        by_cases e : v = (nm i).toNatClampNeg
        · exact Or.inr ⟨hv, e.symm⟩
        · rw [if_neg e] at h; exact Or.inl h
      · rw [(tx_s2 hv z).2] at h; exact Or.inl h
    · by_cases z : 0 < tx_ar (sh i) ∧ 0 < tx_op sh i
      · rw [(tx_s3 hv z).2] at h; exact Or.inl h
      · rw [(tx_s4 hv z).2] at h; exact Or.inl h
  · rintro (h | ⟨hv, e⟩)
    · rw [tx_vs_1 h]; exact h
    · subst e; exact tx_vs_new hv
theorem tx_occ {sh nm : Nat → Int32} {v : Nat} : ∀ {n : Nat}, tx_vs sh nm n v ≠ 0 ↔ ∃ i, i < n ∧ sh i = -1 ∧ (nm i).toNatClampNeg = v
  | 0 => ⟨fun h => absurd rfl h, fun ⟨i, hi, _⟩ => by omega⟩
  | n + 1 => by
    rw [tx_occ1, tx_occ (n := n)]
    constructor
    · rintro (⟨i, hi, h⟩ | h)
      · exact ⟨i, by omega, h⟩
      · exact ⟨n, by omega, h⟩
    · rintro ⟨i, hi, h⟩
      rcases Nat.lt_or_ge i n with z | z
      · exact Or.inl ⟨i, z, h⟩
      · have : i = n := by omega
        subst this; exact Or.inr h
theorem tx_born {sh nm : Nat → Int32} {v : Nat} : ∀ {n : Nat}, tx_vs sh nm n v ≠ 0 → ∃ j, j < n ∧ sh j = -1 ∧ (nm j).toNatClampNeg = v ∧ tx_vs sh nm n v = tx_ch sh nm j + 1 ∧ tx_ch sh nm (j + 1) = tx_ch sh nm j + 1
  | 0, h => absurd rfl h
  | n + 1, h => by
    by_cases z : tx_vs sh nm n v = 0
    · by_cases hv : sh n = -1
      · by_cases z2 : tx_vs sh nm n (nm n).toNatClampNeg = 0
        · have a := tx_s1 hv z2
          by_cases e : v = (nm n).toNatClampNeg
          · exact ⟨n, by omega, hv, e.symm, by rw [a.2, if_pos e], a.1⟩
          · rw [a.2, if_neg e] at h; exact absurd z h
        · rw [(tx_s2 hv z2).2] at h; exact absurd z h
      · by_cases z2 : 0 < tx_ar (sh n) ∧ 0 < tx_op sh n
        · rw [(tx_s3 hv z2).2] at h; exact absurd z h
        · rw [(tx_s4 hv z2).2] at h; exact absurd z h
    · obtain ⟨j, a, b, c, d, e⟩ := tx_born z
      exact ⟨j, by omega, b, c, by rw [tx_vs_1 z]; exact d, e⟩
theorem tx_slb {sh nm : Nat → Int32} {i : Nat} (h : tx_sl sh nm i ≠ 0) : ∃ j, j ≤ i ∧ tx_sl sh nm i = tx_ch sh nm j + 1 ∧ tx_ch sh nm (j + 1) = tx_ch sh nm j + 1 ∧ ((sh i = -1 ∧ sh j = -1 ∧ (nm j).toNatClampNeg = (nm i).toNatClampNeg) ∨ (sh i ≠ -1 ∧ j = i)) := by
  unfold tx_sl at h ⊢
  by_cases hv : sh i = -1
  · rw [if_pos hv] at h ⊢
    obtain ⟨j, a, b, c, d, e⟩ := tx_born h
    exact ⟨j, by omega, d, e, Or.inl ⟨hv, b, c⟩⟩
  · rw [if_neg hv] at h ⊢
    by_cases z : 0 < tx_ar (sh i) ∧ 0 < tx_op sh i
    · rw [if_pos z]
      exact ⟨i, Nat.le_refl _, rfl, (tx_s3 hv z).1, Or.inr ⟨hv, rfl⟩⟩
    · rw [if_neg z] at h; exact absurd rfl h
theorem tx_ch_inj {sh nm : Nat → Int32} {j k : Nat} (e : tx_ch sh nm j = tx_ch sh nm k) (hj : tx_ch sh nm (j + 1) = tx_ch sh nm j + 1) (hk : tx_ch sh nm (k + 1) = tx_ch sh nm k + 1) : j = k := by
  rcases Nat.lt_trichotomy j k with h | h | h
  · have := tx_ch_m (sh := sh) (nm := nm) (i := j + 1) (j := k) (by omega); omega
  · exact h
  · have := tx_ch_m (sh := sh) (nm := nm) (i := k + 1) (j := j) (by omega); omega
theorem tx_sl_inj {sh nm : Nat → Int32} {i k : Nat} (e : tx_sl sh nm i = tx_sl sh nm k) (h : tx_sl sh nm i ≠ 0) : (sh i = -1 ∧ sh k = -1 ∧ (nm i).toNatClampNeg = (nm k).toNatClampNeg) ∨ (sh i ≠ -1 ∧ i = k) := by
  obtain ⟨j, a, b, c, d⟩ := tx_slb h
  obtain ⟨j', a', b', c', d'⟩ := tx_slb (sh := sh) (nm := nm) (i := k) (by rw [← e]; exact h)
  have ej : j = j' := tx_ch_inj (by omega) c c'
  subst ej
  rcases d with ⟨d1, d2, d3⟩ | ⟨d1, d2⟩
  · rcases d' with ⟨f1, f2, f3⟩ | ⟨f1, f2⟩
    · exact Or.inl ⟨d1, f1, by rw [← d3, f3]⟩
    · subst f2; exact absurd d2 f1
  · rcases d' with ⟨f1, f2, f3⟩ | ⟨f1, f2⟩
    · subst d2; exact absurd f2 d1
    · exact Or.inr ⟨d1, by omega⟩
theorem tx_sl_v {sh nm : Nat → Int32} {i n : Nat} (h : sh i = -1) (hi : i < n) : tx_sl sh nm i = tx_vs sh nm n (nm i).toNatClampNeg ∧ tx_sl sh nm i ≠ 0 := by
  unfold tx_sl
  rw [if_pos h]
  exact ⟨(tx_vs_st (tx_vs_new h) (by omega)).symm, tx_vs_new h⟩
theorem tx_sl_eq {sh nm : Nat → Int32} {i k : Nat} (h : sh i = -1) (h' : sh k = -1) (e : (nm i).toNatClampNeg = (nm k).toNatClampNeg) : tx_sl sh nm i = tx_sl sh nm k := by
  rw [(tx_sl_v (n := i + k + 1) h (by omega)).1, (tx_sl_v (n := i + k + 1) h' (by omega)).1, e]
theorem tx_sl_ch {sh nm : Nat → Int32} (i : Nat) : (tx_sl sh nm i ≤ tx_ch sh nm i ∧ tx_ch sh nm (i + 1) = tx_ch sh nm i) ∨ (tx_sl sh nm i = tx_ch sh nm i + 1 ∧ tx_ch sh nm (i + 1) = tx_ch sh nm i + 1) := by
  unfold tx_sl
  by_cases hv : sh i = -1
  · rw [if_pos hv]
    by_cases z : tx_vs sh nm i (nm i).toNatClampNeg = 0
    · rw [(tx_s1 hv z).2, if_pos rfl]
      exact Or.inr ⟨rfl, (tx_s1 hv z).1⟩
    · rw [(tx_s2 hv z).2]
      exact Or.inl ⟨tx_vs_le _ _, (tx_s2 hv z).1⟩
  · rw [if_neg hv]
    by_cases z : 0 < tx_ar (sh i) ∧ 0 < tx_op sh i
    · rw [if_pos z]; exact Or.inr ⟨rfl, (tx_s3 hv z).1⟩
    · rw [if_neg z]; exact Or.inl ⟨Nat.zero_le _, (tx_s4 hv z).1⟩
theorem tx_sl_le {sh nm : Nat → Int32} {i n : Nat} (hi : i < n) : tx_sl sh nm i ≤ tx_ch sh nm n := by
  have a := tx_ch_m (sh := sh) (nm := nm) (i := i + 1) (j := n) (by omega)
  rcases tx_sl_ch (sh := sh) (nm := nm) i with ⟨h, e⟩ | ⟨h, e⟩ <;> omega
theorem tx_sl_c0 {sh nm : Nat → Int32} {i : Nat} (h : sh i ≠ -1) (hz : tx_ar (sh i) = 0 ∨ tx_op sh i = 0) : tx_sl sh nm i = 0 := by
  unfold tx_sl
  rw [if_neg h, if_neg (by omega)]
theorem tx_sl_cp {sh nm : Nat → Int32} {i : Nat} (h : sh i ≠ -1) (ha : 0 < tx_ar (sh i)) (ho : 0 < tx_op sh i) : tx_sl sh nm i ≠ 0 := by
  unfold tx_sl
  rw [if_neg h, if_pos ⟨ha, ho⟩]; omega
def tx_b (x : Nat) : Nat := if x = 0 then 0 else 1
def tx_cnt (f : Nat → Nat) : Nat → Nat
  | 0 => 0
  | k + 1 => tx_cnt f k + tx_b (f k)
def tx_cp (sh : Nat → Int32) : Nat → Nat
  | 0 => 0
  | i + 1 => tx_cp sh i + (if 0 < tx_ar (sh i) ∧ 0 < tx_op sh i then 1 else 0)
theorem tx_cnt_e {f g : Nat → Nat} : ∀ {k : Nat}, (∀ v, v < k → g v = f v) → tx_cnt g k = tx_cnt f k
  | 0, _ => rfl
  | k + 1, h => by simp only [tx_cnt]; rw [tx_cnt_e (k := k) (fun v hv => h v (by omega)), h k (by omega)]
theorem tx_cnt_u {f g : Nat → Nat} {a : Nat} (hg : ∀ v, v ≠ a → g v = f v) (h0 : f a = 0) (h1 : g a ≠ 0) : ∀ {k : Nat}, a < k → tx_cnt g k = tx_cnt f k + 1
  | 0, h => by omega
  | k + 1, h => by
    simp only [tx_cnt]
    by_cases e : a = k
    · subst e
      rw [tx_cnt_e (f := f) (g := g) (fun v hv => hg v (by omega)), h0]
      unfold tx_b
      rw [if_neg h1, if_pos rfl]
    · rw [tx_cnt_u hg h0 h1 (k := k) (by omega), hg k (fun z => e z.symm)]
      omega
theorem tx_chY {sh nm : Nat → Int32} : ∀ {n : Nat}, tx_WT sh nm n → tx_ch sh nm n = tx_cnt (tx_vs sh nm n) 8 + tx_cp sh n
  | 0, _ => rfl
  | n + 1, h => by
    have ih := tx_chY (n := n) (fun i hi => h i (by omega))
    simp only [tx_cp]
    have ht := h n (by omega)
    by_cases hv : sh n = -1
    · have e0 : ¬ (0 < tx_ar (sh n) ∧ 0 < tx_op sh n) := by rw [hv, tx_ar_m1]; omega
      rw [if_neg e0]
      have hlt : (nm n).toNatClampNeg < 8 := by
        rcases ht with ⟨h1, _⟩ | ⟨_, _, v, hv8, e⟩ | ⟨a, ha, e⟩
        · rw [hv] at h1; exact absurd h1 (by decide)
        · rw [e, nI_clamp (by omega)]; exact hv8
        · rw [hv] at e
          rcases (show a = 0 ∨ a = 1 ∨ a = 2 ∨ a = 3 by omega) with rfl | rfl | rfl | rfl <;> exact absurd e (by decide)
      by_cases z : tx_vs sh nm n (nm n).toNatClampNeg = 0
      · have a := tx_s1 hv z
        rw [a.1, tx_cnt_u (f := tx_vs sh nm n) (a := (nm n).toNatClampNeg) (fun v hv' => by rw [a.2, if_neg hv']) z (by rw [a.2, if_pos rfl]; omega) hlt]
        omega
      · have a := tx_s2 hv z
        rw [a.1, tx_cnt_e (f := tx_vs sh nm n) (fun v _ => a.2 v)]
        omega
    · by_cases z : 0 < tx_ar (sh n) ∧ 0 < tx_op sh n
      · have a := tx_s3 (nm := nm) hv z
        rw [a.1, if_pos z, tx_cnt_e (f := tx_vs sh nm n) (fun v _ => a.2 v)]
        omega
      · have a := tx_s4 (nm := nm) hv z
        rw [a.1, if_neg z, tx_cnt_e (f := tx_vs sh nm n) (fun v _ => a.2 v)]
        omega
/-- items from i to the end n -/
def tx_if (sh : Nat → Int32) (n : Nat) : Nat → Nat → Nat
  | 0, _ => 0
  | f + 1, i => if i < n then tx_if sh n f (tx_en sh i) + 1 else 0
def tx_ic (sh : Nat → Int32) (n i : Nat) : Nat := tx_if sh n 41 i
theorem tx_if_m {sh : Nat → Int32} {n : Nat} (h40 : n ≤ 40) (hn : tx_op sh n = 0) : ∀ {f g i : Nat}, n - i < f → n - i < g → tx_if sh n f i = tx_if sh n g i
  | 0, _, _, h, _ => by omega
  | _ + 1, 0, _, _, h => by omega
  | f + 1, g + 1, i, hf, hg => by
    simp only [tx_if]
    by_cases hi : i < n
    · rw [if_pos hi, if_pos hi]
      have := tx_en_1 h40 hn hi
      rw [tx_if_m h40 hn (f := f) (g := g) (by omega) (by omega)]
    · rw [if_neg hi, if_neg hi]
theorem tx_ic_s {sh : Nat → Int32} {n i : Nat} (h40 : n ≤ 40) (hn : tx_op sh n = 0) (hi : i < n) : tx_ic sh n i = tx_ic sh n (tx_en sh i) + 1 := by
  have := tx_en_1 h40 hn hi
  unfold tx_ic
  rw [show tx_if sh n 41 i = tx_if sh n 40 (tx_en sh i) + 1 by simp only [tx_if]; rw [if_pos hi], tx_if_m h40 hn (f := 40) (g := 41) (by omega) (by omega)]
theorem tx_ic_0 {sh : Nat → Int32} {n i : Nat} (hi : n ≤ i) : tx_ic sh n i = 0 := by
  unfold tx_ic
  simp only [tx_if]; rw [if_neg (by omega)]
theorem tx_ic_le {sh : Nat → Int32} {n : Nat} (h40 : n ≤ 40) (hn : tx_op sh n = 0) : ∀ {m i : Nat}, n - i ≤ m → tx_ic sh n i ≤ m
  | 0, i, h => by rw [tx_ic_0 (by omega)]; omega
  | m + 1, i, h => by
    rcases Nat.lt_or_ge i n with hi | hi
    · have := tx_en_1 h40 hn hi
      have a := tx_ic_le h40 hn (m := m) (i := tx_en sh i) (by omega)
      rw [tx_ic_s h40 hn hi]; omega
    · rw [tx_ic_0 hi]; omega
end
section
/-! keys and constants as numbers -/
def kk_u (x : Int32) : Nat := x.toBitVec.toNat
theorem kk_u_lt (x : Int32) : kk_u x < 4294967296 := x.toBitVec.isLt
theorem kk_u_nI (x : Int32) : nI (kk_u x) = x := Int32.toBitVec_inj.mp (by show BitVec.ofNat 32 _ = _; simp [kk_u])
theorem kk_u_inj {x y : Int32} (h : kk_u x = kk_u y) : x = y := by rw [← kk_u_nI x, h, kk_u_nI]
theorem kk_and (x : Int32) : x.toInt64 &&& 4294967295 = lN (kk_u x) := by
  apply wb_inj
  have e1 : (x.toInt64 &&& 4294967295).toBitVec = (x.toBitVec.signExtend 64) &&& (BitVec.ofNat 64 (2 ^ 32 - 1)) := rfl
  rw [e1, wb_tb]
  apply BitVec.eq_of_getLsbD_eq
  intro i hi
  rw [BitVec.getLsbD_and, BitVec.getLsbD_signExtend, BitVec.getLsbD_ofNat, BitVec.getLsbD_ofNat, Nat.testBit_two_pow_sub_one]
  by_cases h : i < 32
  · simp only [hi, h, decide_true, Bool.true_and, Bool.and_true, if_true, kk_u]
    exact BitVec.testBit_toNat _
  · have : (kk_u x).testBit i = false := Nat.testBit_lt_two_pow (Nat.lt_of_lt_of_le (kk_u_lt x) (by
      have : 2 ^ 32 ≤ 2 ^ i := Nat.pow_le_pow_right (by decide) (by omega)
      exact this))
    simp [h, this]
def kk_mk (n s : Int32) : Int64 := (s.toInt64 <<< ((32 : Int32).toInt64 &&& 63)) ||| (n.toInt64 &&& 4294967295)
def kk_ct (n : Int32) : Int64 := 4294967296 ||| (n.toInt64 &&& 4294967295)
theorem kk_or {a m : Nat} (hm : m < 4294967296) (ha : a < 4) : lN (a * 4294967296) ||| lN m = lN (a * 4294967296 + m) :=
  g_or (k := 32) (p := 4294967296) (by decide) hm (by omega)
theorem kk_mk_n (n : Int32) {a : Nat} (ha : a < 4) : kk_mk n (nI a) = lN (a * 4294967296 + kk_u n) := by
  unfold kk_mk
  rw [kk_and, nI_l (by omega)]
  have e : lN a <<< ((32 : Int32).toInt64 &&& 63) = lN (a * 4294967296) := wb_shl a (k := 32) (by decide)
  rw [e, kk_or (kk_u_lt n) ha]
theorem kk_ct_n (n : Int32) : kk_ct n = lN (4294967296 + kk_u n) := by
  unfold kk_ct
  rw [kk_and]
  have := kk_or (a := 1) (kk_u_lt n) (by decide)
  rw [Nat.one_mul] at this
  exact this
theorem kk_mk_inj {n n' : Int32} {a a' : Nat} (ha : a < 4) (ha' : a' < 4) : kk_mk n (nI a) = kk_mk n' (nI a') ↔ (nI a = nI a' ∧ n = n') := by
  rw [kk_mk_n n ha, kk_mk_n n' ha']
  have h1 := kk_u_lt n
  have h2 := kk_u_lt n'
  rw [pk_lEQ (by omega) (by omega), nI_eq (by omega) (by omega)]
  constructor
  · intro h
    exact ⟨by omega, kk_u_inj (by omega)⟩
  · rintro ⟨rfl, rfl⟩; rfl
theorem kk_mk_ne {n : Int32} {a : Nat} (ha : a < 4) : ¬ kk_mk n (nI a) = -1 := by
  rw [kk_mk_n n ha]
  have h1 := kk_u_lt n
  intro h
  have := congrArg Int64.toInt h
  rw [pk_lT (by omega)] at this
  have e : (-1 : Int64).toInt = -1 := by decide
  rw [e] at this
  omega
theorem kk_mk_i {n : Int32} {a : Nat} (ha : a < 4) : (kk_mk n (nI a)).toInt32 = n := by
  rw [kk_mk_n n ha, lN_i]
  have e : nI (a * 4294967296 + kk_u n) = nI (kk_u n) := by
    apply Int32.toBitVec_inj.mp
    show BitVec.ofNat 32 _ = BitVec.ofNat 32 _
    apply BitVec.eq_of_toNat_eq
    rw [BitVec.toNat_ofNat, BitVec.toNat_ofNat]
    omega
  rw [e, kk_u_nI]
theorem kk_ct_big (n : Int32) : ¬ kk_ct n < 4294967296 := by
  rw [kk_ct_n]
  have h1 := kk_u_lt n
  have := (pk_lLT (a := 4294967296 + kk_u n) (b := 4294967296) (by omega) (by omega))
  intro h
  have := this.mp h
  omega
theorem kk_ct_nn (n : Int32) : ¬ kk_ct n < 0 := by
  rw [kk_ct_n]
  have h1 := kk_u_lt n
  intro h
  have := (pk_lLT (a := 4294967296 + kk_u n) (b := 0) (by omega) (by omega)).mp h
  omega
theorem kk_ct_256 (n : Int32) : 256 ≤ kk_ct n := by
  rw [kk_ct_n]
  have h1 := kk_u_lt n
  exact (pk_lLE (a := 256) (b := 4294967296 + kk_u n) (by omega) (by omega)).mpr (by omega)
theorem kk_ct_and (n : Int32) : kk_ct n &&& 4294967295 = kk_mk n (nI 0) := by
  rw [kk_ct_n, kk_mk_n n (by decide)]
  have h1 := kk_u_lt n
  have e := wb_mask (n := 4294967296 + kk_u n) (k := 32) (by omega) (by decide)
  have e2 : (4294967296 + kk_u n) % 2 ^ 32 = 0 * 4294967296 + kk_u n := by omega
  rw [e2] at e
  exact e
theorem kk_ct_inj {n n' : Int32} (h : kk_ct n = kk_ct n') : n = n' := by
  rw [kk_ct_n, kk_ct_n] at h
  have h1 := kk_u_lt n
  have h2 := kk_u_lt n'
  rw [pk_lEQ (by omega) (by omega)] at h
  exact kk_u_inj (by omega)
theorem kk_ct_ne (n : Int32) : ¬ kk_ct n = -1 := by
  rw [kk_ct_n]
  have h1 := kk_u_lt n
  intro h
  have := congrArg Int64.toInt h
  rw [pk_lT (by omega)] at this
  have e : (-1 : Int64).toInt = -1 := by decide
  rw [e] at this
  omega
theorem kk_l_ne {a : Nat} (ha : a < 2 ^ 63) : ¬ lN a = -1 := by
  intro h
  have := congrArg Int64.toInt h
  rw [pk_lT ha] at this
  have e : (-1 : Int64).toInt = -1 := by decide
  rw [e] at this
  omega
theorem kk_l_small {a : Nat} (ha : a < 256) : (¬ lN a < 0) ∧ (¬ 256 ≤ lN a) ∧ lN a < 4294967296 ∧ lN a < 256 := by
  refine ⟨fun h => ?_, fun h => ?_, (pk_lLT (a := a) (b := 4294967296) (by omega) (by omega)).mpr (by omega), (pk_lLT (a := a) (b := 256) (by omega) (by omega)).mpr ha⟩
  · have := (pk_lLT (a := a) (b := 0) (by omega) (by omega)).mp h; omega
  · have := (pk_lLE (a := 256) (b := a) (by omega) (by omega)).mp h; omega
end
section
/-! terms of the reference as numbers, and the heap relation -/
def hr_row (t : Nat) : Nat := t / 512 / 40
def hr_ix (t : Nat) : Nat := t / 512 % 40
def hr_bs (t : Nat) : Nat := t % 512
def hr_cd (r i b : Nat) : Nat := (r * 40 + i) * 512 + b
theorem hr_cd_d {r i b : Nat} (hb : b < 512) : hr_cd r i b / 512 = r * 40 + i := by unfold hr_cd; omega
theorem hr_cd_b {r i b : Nat} (hb : b < 512) : hr_bs (hr_cd r i b) = b := by unfold hr_bs hr_cd; omega
theorem hr_cd_r {r i b : Nat} (hi : i < 40) (hb : b < 512) : hr_row (hr_cd r i b) = r := by unfold hr_row; rw [hr_cd_d hb]; omega
theorem hr_cd_i {r i b : Nat} (hi : i < 40) (hb : b < 512) : hr_ix (hr_cd r i b) = i := by unfold hr_ix; rw [hr_cd_d hb]; omega
theorem hr_div (t : Nat) : t / 512 = hr_row t * 40 + hr_ix t := by unfold hr_row hr_ix; omega
theorem hr_eta (t : Nat) : hr_cd (hr_row t) (hr_ix t) (hr_bs t) = t := by unfold hr_cd hr_row hr_ix hr_bs; omega
theorem hr_ix40 (t : Nat) : hr_ix t < 40 := by unfold hr_ix; omega
def tm_s (S : Nat → Nat → Int32) (t : Nat) : Int32 := S (hr_row t) (hr_ix t)
def tm_sl (S M : Nat → Nat → Int32) (t : Nat) : Nat := tx_sl (S (hr_row t)) (M (hr_row t)) (hr_ix t)
def tm_nd (S M : Nat → Nat → Int32) (t : Nat) : Nat := hr_bs t + (tm_sl S M t - 1)
def tm_ce (M : Nat → Nat → Int32) (t : Nat) : Nat := hr_bs t * 8 + (tm_s M t).toNatClampNeg
def tm_xt (S M : Nat → Nat → Int32) (t : Nat) : Int64 := if tm_sl S M t = 0 then kk_ct (tm_s M t) else lN (tm_nd S M t)
def tm_ag (S : Nat → Nat → Int32) (t k : Nat) : Nat := hr_cd (hr_row t) (tx_ag (S (hr_row t)) (hr_ix t) k) (hr_bs t)
def sg_VR (m r : Nat) : Prop := r = 0 ∨ (2 ≤ r ∧ r < m + 2)
def sg_OK (S M : Nat → Nat → Int32) (L : Nat → Nat) (m : Nat) : Prop := m ≤ 32 ∧ ∀ r, sg_VR m r → tx_WT (S r) (M r) (L r) ∧ L r ≤ 40 ∧ tx_op (S r) (L r) = 0 ∧ (2 ≤ r → 0 < L r ∧ S r 0 ≠ -2)
def tm_G (S : Nat → Nat → Int32) (L : Nat → Nat) (m t : Nat) : Prop := sg_VR m (hr_row t) ∧ hr_ix t < L (hr_row t) ∧ 0 < tx_op (S (hr_row t)) (hr_ix t) ∧ hr_bs t ≤ 256
def hr_sY (S M : Nat → Nat → Int32) (Lv : Nat → Prop) (bi : Nat → Int32) (t : Nat) : Prop := Lv t ∧ (tm_s S t ≠ -1 ∨ bi (tm_ce M t) = -1)
def hr_nY (S M : Nat → Nat → Int32) (Lv : Nat → Prop) (bi : Nat → Int32) (t t1 : Nat) : Prop := Lv t ∧ tm_s S t = -1 ∧ bi (tm_ce M t) = nI t1 ∧ Lv t1
def hr_sX (S M : Nat → Nat → Int32) (Lv : Nat → Prop) (nc : Nat → Int64) (t : Nat) : Prop := Lv t ∧ (tm_s S t ≠ -1 ∨ nc (tm_nd S M t * 3) = -1)
def hr_nX (S M : Nat → Nat → Int32) (Lv : Nat → Prop) (nc : Nat → Int64) (t t1 : Nat) : Prop := Lv t ∧ tm_s S t = -1 ∧ nc (tm_nd S M t * 3) = tm_xt S M t1 ∧ Lv t1 ∧ (tm_s S t1 = -1 → tm_nd S M t1 < tm_nd S M t)
def hr_p (stop : Nat → Prop) (nx : Nat → Nat → Prop) : Nat → Nat → Nat → Prop
  | 0, t, u => t = u ∧ stop t
  | k + 1, t, u => ∃ t1, nx t t1 ∧ hr_p stop nx k t1 u
def hr_A (S M : Nat → Nat → Int32) (L : Nat → Nat) (m top : Nat) (Lv : Nat → Prop) (ns nn : Nat → Int32) (nc : Nat → Int64) : Prop :=
  ∀ t, Lv t → tm_G S L m t ∧ (tm_sl S M t ≠ 0 → tm_nd S M t < top ∧ ns (tm_nd S M t) = tm_s S t ∧ nn (tm_nd S M t) = tm_s M t) ∧ (∀ k, k < tx_ar (tm_s S t) → Lv (tm_ag S t k) ∧ nc (tm_nd S M t * 3 + k) = tm_xt S M (tm_ag S t k))
def hr_I (S M : Nat → Nat → Int32) (Lv : Nat → Prop) : Prop :=
  ∀ s t, Lv s → Lv t → tm_s S s = -1 → tm_s S t = -1 → (tm_ce M s = tm_ce M t ↔ tm_nd S M s = tm_nd S M t)
def hr_F (S M : Nat → Nat → Int32) (Lv : Nat → Prop) (nc : Nat → Int64) (bi : Nat → Int32) (FY FX : Nat → Nat) : Prop :=
  (∀ t, Lv t → (∃ k, hr_p (hr_sY S M Lv bi) (hr_nY S M Lv bi) k t (FY t)) ∧ (∃ k, hr_p (hr_sX S M Lv nc) (hr_nX S M Lv nc) k t (FX t)) ∧ (tm_s S (FY t) ≠ -1 → tm_xt S M (FX t) = tm_xt S M (FY t) ∧ tm_s S (FX t) ≠ -1) ∧ (tm_s S (FY t) = -1 → tm_s S (FX t) = -1)) ∧
  (∀ s t, Lv s → Lv t → tm_s S (FY s) = -1 → tm_s S (FY t) = -1 → (tm_ce M (FY s) = tm_ce M (FY t) ↔ tm_nd S M (FX s) = tm_nd S M (FX t)))
def hr_HR (S M : Nat → Nat → Int32) (L : Nat → Nat) (m top : Nat) (Lv : Nat → Prop) (ns nn : Nat → Int32) (nc : Nat → Int64) (bi : Nat → Int32) : Prop :=
  top ≤ 256 ∧ hr_A S M L m top Lv ns nn nc ∧ hr_I S M Lv ∧ ∃ FY FX, hr_F S M Lv nc bi FY FX
section
variable {S M : Nat → Nat → Int32} {L : Nat → Nat} {m top : Nat} {Lv : Nat → Prop} {ns nn : Nat → Int32} {nc : Nat → Int64} {bi : Nat → Int32}
theorem tm_lt (O : sg_OK S M L m) {t : Nat} (g : tm_G S L m t) : t < 696320 ∧ hr_row t < 34 ∧ hr_row t ≠ 1 ∧ t / 512 < 1360 := by
  obtain ⟨v, _⟩ := g
  have hm := O.1
  have a : hr_row t < 34 ∧ hr_row t ≠ 1 := by
    rcases v with e | ⟨e1, e2⟩
    · rw [e]; omega
    · omega
  have hx := hr_ix40 t
  have hd := hr_div t
  refine ⟨?_, a.1, a.2, ?_⟩
  · have : t / 512 < 1360 := by omega
    omega
  · omega
theorem tm_op_ne (O : sg_OK S M L m) {t : Nat} (g : tm_G S L m t) : tm_s S t ≠ -2 := by
  obtain ⟨v, hi, ho, _⟩ := g
  obtain ⟨w, _⟩ := O.2 _ v
  rcases w _ hi with ⟨_, h2, _⟩ | ⟨h1, _⟩ | ⟨a, ha, h1⟩
  · omega
  · intro e; unfold tm_s at e; rw [h1] at e; exact absurd e (by decide)
  · intro e; unfold tm_s at e; rw [h1] at e
    rcases (show a = 0 ∨ a = 1 ∨ a = 2 ∨ a = 3 by omega) with rfl | rfl | rfl | rfl <;> exact absurd e (by decide)
theorem tm_nI_ne {a : Nat} (ha : a ≤ 3) : nI a ≠ -1 := by
  rcases (show a = 0 ∨ a = 1 ∨ a = 2 ∨ a = 3 by omega) with rfl | rfl | rfl | rfl <;> decide
/-- the three kinds of a live term -/
theorem tm_kind (O : sg_OK S M L m) {t : Nat} (g : tm_G S L m t) : (tm_s S t = -1 ∧ tm_sl S M t ≠ 0 ∧ ∃ v, v < 8 ∧ tm_s M t = nI v ∧ tm_ce M t = hr_bs t * 8 + v) ∨ (tm_s S t = nI 0 ∧ tm_sl S M t = 0) ∨ (∃ a, 0 < a ∧ a ≤ 3 ∧ tm_s S t = nI a ∧ tm_sl S M t ≠ 0) := by
  obtain ⟨v, hi, ho, _⟩ := g
  obtain ⟨w, _⟩ := O.2 _ v
  rcases w _ hi with ⟨_, h2, _⟩ | ⟨h1, _, x, hx, e⟩ | ⟨a, ha, h1⟩
  · omega
  · refine Or.inl ⟨h1, (tx_sl_v (n := hr_ix t + 1) h1 (by omega)).2, x, hx, e, ?_⟩
    unfold tm_ce
    rw [show tm_s M t = nI x from e, nI_clamp (by omega)]
  · have hne : S (hr_row t) (hr_ix t) ≠ -1 := by rw [h1]; exact tm_nI_ne ha
    rcases Nat.eq_zero_or_pos a with rfl | hp
    · refine Or.inr (Or.inl ⟨h1, tx_sl_c0 hne (Or.inl ?_)⟩)
      rw [h1]; exact tx_ar_n (by decide)
    · refine Or.inr (Or.inr ⟨a, hp, ha, h1, tx_sl_cp hne ?_ ho⟩)
      rw [h1, tx_ar_n (by omega)]; exact hp
theorem tm_ce_lt (O : sg_OK S M L m) {t : Nat} (g : tm_G S L m t) (h : tm_s S t = -1) : tm_ce M t < 2056 := by
  rcases tm_kind O g with ⟨_, _, v, hv, _, e⟩ | ⟨e, _⟩ | ⟨a, _, ha, e, _⟩
  · rw [e]; have := g.2.2.2; omega
  · rw [h] at e; exact absurd e.symm (tm_nI_ne (by omega))
  · rw [h] at e; exact absurd e.symm (tm_nI_ne ha)
theorem tm_V_sl (O : sg_OK S M L m) {t : Nat} (g : tm_G S L m t) (h : tm_s S t = -1) : tm_sl S M t ≠ 0 := by
  rcases tm_kind O g with ⟨_, e, _⟩ | ⟨e, _⟩ | ⟨a, _, ha, e, _⟩
  · exact e
  · rw [h] at e; exact absurd e.symm (tm_nI_ne (by omega))
  · rw [h] at e; exact absurd e.symm (tm_nI_ne ha)
theorem tm_xt_V (O : sg_OK S M L m) {t : Nat} (g : tm_G S L m t) (h : tm_s S t = -1) : tm_xt S M t = lN (tm_nd S M t) := by
  unfold tm_xt; rw [if_neg (tm_V_sl O g h)]
theorem tm_ag_G (O : sg_OK S M L m) {t k : Nat} (g : tm_G S L m t) (hk : k < tx_ar (tm_s S t)) : tm_G S L m (tm_ag S t k) ∧ hr_row (tm_ag S t k) = hr_row t ∧ hr_bs (tm_ag S t k) = hr_bs t ∧ hr_ix (tm_ag S t k) = tx_ag (S (hr_row t)) (hr_ix t) k := by
  obtain ⟨v, hi, ho, hb⟩ := g
  obtain ⟨w, h40, hop, _⟩ := O.2 _ v
  obtain ⟨a1, a2, a3, a4⟩ := tx_ag_lt h40 hop hi hk
  have r1 : hr_row (tm_ag S t k) = hr_row t := hr_cd_r (by omega) (by omega)
  have r2 : hr_bs (tm_ag S t k) = hr_bs t := hr_cd_b (by omega)
  have r3 : hr_ix (tm_ag S t k) = tx_ag (S (hr_row t)) (hr_ix t) k := hr_cd_i (by omega) (by omega)
  refine ⟨⟨?_, ?_, ?_, ?_⟩, r1, r2, r3⟩
  · rw [r1]; exact v
  · rw [r1, r3]; exact a3
  · rw [r1, r3]; exact a4
  · rw [r2]; exact hb
theorem hr_p_app {stop stop' : Nat → Prop} {nx nx' : Nat → Nat → Prop} (hn : ∀ a b, nx a b → nx' a b) : ∀ {k j u w z : Nat}, hr_p stop nx k u w → hr_p stop' nx' j w z → hr_p stop' nx' (k + j) u z
  | 0, j, u, w, z, h, h' => by
    obtain ⟨e, _⟩ := h
    subst e
    rw [Nat.zero_add]; exact h'
  | k + 1, j, u, w, z, h, h' => by
    obtain ⟨t1, a, b⟩ := h
    have e : k + 1 + j = (k + j) + 1 := by omega
    rw [e]
    exact ⟨t1, hn _ _ a, hr_p_app hn b h'⟩
theorem hr_p_end {stop : Nat → Prop} {nx : Nat → Nat → Prop} : ∀ {k u w : Nat}, hr_p stop nx k u w → stop w
  | 0, u, w, h => by obtain ⟨e, s⟩ := h; subst e; exact s
  | k + 1, u, w, h => by obtain ⟨t1, _, b⟩ := h; exact hr_p_end b
theorem hr_p_mono {stop stop' : Nat → Prop} {nx nx' : Nat → Nat → Prop} (hs : ∀ a, stop a → stop' a) (hn : ∀ a b, nx a b → nx' a b) {k u w : Nat} (h : hr_p stop nx k u w) : hr_p stop' nx' k u w := by
  have := hr_p_app (stop' := stop') hn (j := 0) h ⟨rfl, hs _ (hr_p_end h)⟩
  exact this
theorem hr_FY_L {FY FX : Nat → Nat} (F : hr_F S M Lv nc bi FY FX) {t : Nat} (h : Lv t) : Lv (FY t) ∧ (tm_s S (FY t) ≠ -1 ∨ bi (tm_ce M (FY t)) = -1) := by
  obtain ⟨⟨k, p⟩, _⟩ := F.1 t h
  exact hr_p_end p
theorem hr_FX_L {FY FX : Nat → Nat} (F : hr_F S M Lv nc bi FY FX) {t : Nat} (h : Lv t) : Lv (FX t) ∧ (tm_s S (FX t) ≠ -1 ∨ nc (tm_nd S M (FX t) * 3) = -1) := by
  obtain ⟨_, ⟨k, p⟩, _⟩ := F.1 t h
  exact hr_p_end p
theorem tm_ar3 (O : sg_OK S M L m) {t : Nat} (g : tm_G S L m t) : tx_ar (tm_s S t) ≤ 3 := tx_tok_ar ((O.2 _ g.1).1 _ g.2.1)
theorem tm_ar_sl (O : sg_OK S M L m) {t : Nat} (g : tm_G S L m t) {k : Nat} (hk : k < tx_ar (tm_s S t)) : tm_sl S M t ≠ 0 := by
  rcases tm_kind O g with ⟨_, e, _⟩ | ⟨e, _⟩ | ⟨a, _, ha, e, h⟩
  · exact e
  · rw [e, tx_ar_n (by decide)] at hk; omega
  · exact h
/-- the relation looks below top and at the cells of live variables alone -/
theorem hr_cg (O : sg_OK S M L m) {ns' nn' : Nat → Int32} {nc' : Nat → Int64} {bi' : Nat → Int32} (h : hr_HR S M L m top Lv ns nn nc bi) (h1 : ∀ n, n < top → ns' n = ns n ∧ nn' n = nn n) (h2 : ∀ j, j < top * 3 → nc' j = nc j) (h3 : ∀ t, Lv t → tm_s S t = -1 → bi' (tm_ce M t) = bi (tm_ce M t)) : hr_HR S M L m top Lv ns' nn' nc' bi' := by
  obtain ⟨ht, A, I, FY, FX, F1, F2⟩ := h
  have hnd : ∀ t, Lv t → tm_s S t = -1 → nc' (tm_nd S M t * 3) = nc (tm_nd S M t * 3) := by
    intro t l v
    obtain ⟨g, a, _⟩ := A t l
    have := (a (tm_V_sl O g v)).1
    exact h2 _ (by omega)
  refine ⟨ht, ?_, I, FY, FX, ?_, F2⟩
  · intro t l
    obtain ⟨g, a, b⟩ := A t l
    refine ⟨g, fun hs => ?_, fun k hk => ?_⟩
    · obtain ⟨a1, a2, a3⟩ := a hs
      obtain ⟨e1, e2⟩ := h1 _ a1
      exact ⟨a1, by rw [e1]; exact a2, by rw [e2]; exact a3⟩
    · obtain ⟨b1, b2⟩ := b k hk
      have a1 := (a (tm_ar_sl O g hk)).1
      have := tm_ar3 O g
      exact ⟨b1, by rw [h2 _ (by omega)]; exact b2⟩
  · intro t l
    obtain ⟨⟨k1, p1⟩, ⟨k2, p2⟩, f⟩ := F1 t l
    refine ⟨⟨k1, hr_p_mono ?_ ?_ p1⟩, ⟨k2, hr_p_mono ?_ ?_ p2⟩, f⟩
    · rintro a ⟨la, q⟩
      refine ⟨la, ?_⟩
      by_cases v : tm_s S a = -1
      · rw [h3 a la v]; exact q
      · exact Or.inl v
    · rintro a b ⟨la, v, e, lb⟩
      exact ⟨la, v, by rw [h3 a la v]; exact e, lb⟩
    · rintro a ⟨la, q⟩
      refine ⟨la, ?_⟩
      by_cases v : tm_s S a = -1
      · rw [hnd a la v]; exact q
      · exact Or.inl v
    · rintro a b ⟨la, v, e, lb, o⟩
      exact ⟨la, v, by rw [hnd a la v]; exact e, lb, o⟩
theorem hr_nil (h : top ≤ 256) : hr_HR S M L m top (fun _ => False) ns nn nc bi :=
  ⟨h, fun _ l => l.elim, fun _ _ l => l.elim, id, id, fun _ l => l.elim, fun _ _ l => l.elim⟩
end
end
section
/-! growing the heap, binding, chains are short -/
section
variable {S M : Nat → Nat → Int32} {L : Nat → Nat} {m top : Nat} {Lv : Nat → Prop} {ns nn : Nat → Int32} {nc : Nat → Int64} {bi : Nat → Int32}
/-- the tokens of row r with base b whose slots lie in (lo, hi], and its constants -/
def hr_NW (S M : Nat → Nat → Int32) (L : Nat → Nat) (r b lo hi t : Nat) : Prop := hr_row t = r ∧ hr_bs t = b ∧ hr_ix t < L r ∧ 0 < tx_op (S r) (hr_ix t) ∧ (tm_sl S M t = 0 ∨ lo < tm_sl S M t) ∧ tm_sl S M t ≤ hi
theorem hr_new (O : sg_OK S M L m) {ns' nn' : Nat → Int32} {nc' : Nat → Int64} {bi' : Nat → Int32} {r b lo hi : Nat} (H : hr_HR S M L m (b + lo) Lv ns nn nc bi) (hr : sg_VR m r) (hlh : lo ≤ hi) (hb : b + hi ≤ 256)
    (hbr : ∀ s, Lv s → tm_sl S M s ≠ 0 → hr_bs s = b → hr_row s = r)
    (h1 : ∀ n, n < b + lo → ns' n = ns n ∧ nn' n = nn n) (h2 : ∀ j, j < (b + lo) * 3 → nc' j = nc j) (h3 : ∀ s, Lv s → tm_s S s = -1 → bi' (tm_ce M s) = bi (tm_ce M s))
    (hN : ∀ t, hr_NW S M L r b lo hi t → tm_sl S M t ≠ 0 → ns' (tm_nd S M t) = tm_s S t ∧ nn' (tm_nd S M t) = tm_s M t ∧ (∀ k, k < tx_ar (tm_s S t) → (Lv (tm_ag S t k) ∨ hr_NW S M L r b lo hi (tm_ag S t k)) ∧ nc' (tm_nd S M t * 3 + k) = tm_xt S M (tm_ag S t k)) ∧ (tm_s S t = -1 → nc' (tm_nd S M t * 3) = -1 ∧ bi' (tm_ce M t) = -1)) :
    hr_HR S M L m (b + hi) (fun t => Lv t ∨ hr_NW S M L r b lo hi t) ns' nn' nc' bi' := by
  obtain ⟨ht, A, I, FY, FX, F1, F2⟩ := hr_cg (ns' := ns') (nn' := nn') (nc' := nc') (bi' := bi') O H h1 h2 h3
  have gN : ∀ t, hr_NW S M L r b lo hi t → tm_G S L m t := by
    rintro t ⟨e1, e2, e3, e4, _⟩
    exact ⟨by rw [e1]; exact hr, by rw [e1]; exact e3, by rw [e1]; exact e4, by rw [e2]; omega⟩
  have ndN : ∀ t, hr_NW S M L r b lo hi t → tm_sl S M t ≠ 0 → b + lo ≤ tm_nd S M t ∧ tm_nd S M t < b + hi := by
    rintro t ⟨e1, e2, e3, e4, e5, e6⟩ hs
    unfold tm_nd
    rw [e2]; omega
  have ndL : ∀ t, Lv t → tm_sl S M t ≠ 0 → tm_nd S M t < b + lo := fun t l hs => ((A t l).2.1 hs).1
  have fresh : ∀ s t, Lv s → hr_NW S M L r b lo hi t → tm_s S s = -1 → tm_s S t = -1 → tm_ce M s ≠ tm_ce M t ∧ tm_nd S M s ≠ tm_nd S M t := by
    intro s t ls nt vs vt
    have gs := (A s ls).1
    have gt := gN t nt
    have ss := tm_V_sl O gs vs
    have st := tm_V_sl O gt vt
    have a := ndL s ls ss
    have b' := ndN t nt st
    refine ⟨fun e => ?_, by omega⟩
    rcases tm_kind O gs with ⟨_, _, x, hx, ex, es⟩ | ⟨q, _⟩ | ⟨q, _, hq, q', _⟩
    · rcases tm_kind O gt with ⟨_, _, y, hy, ey, et⟩ | ⟨q, _⟩ | ⟨q, _, hq, q', _⟩
      · have hbs : hr_bs s = hr_bs t := by omega
        have hxy : x = y := by omega
        have hrow := hbr s ls ss (by rw [hbs]; exact nt.2.1)
        have hsl : tm_sl S M s = tm_sl S M t := by
          unfold tm_sl
          rw [hrow, nt.1]
          unfold tm_s at vs vt ex ey
          rw [hrow] at vs ex
          rw [nt.1] at vt ey
          exact tx_sl_eq vs vt (by rw [ex, ey, hxy])
        unfold tm_nd at a b'
        rw [hbs, hsl] at a
        omega
      · rw [vt] at q; exact absurd q.symm (tm_nI_ne (by omega))
      · rw [vt] at q'; exact absurd q'.symm (tm_nI_ne hq)
    · rw [vs] at q; exact absurd q.symm (tm_nI_ne (by omega))
    · rw [vs] at q'; exact absurd q'.symm (tm_nI_ne hq)
  have iff2 : ∀ s t, hr_NW S M L r b lo hi s → hr_NW S M L r b lo hi t → tm_s S s = -1 → tm_s S t = -1 → (tm_ce M s = tm_ce M t ↔ tm_nd S M s = tm_nd S M t) := by
    intro s t n1 n2 vs vt
    have gs := gN s n1
    have gt := gN t n2
    have ss := tm_V_sl O gs vs
    have st := tm_V_sl O gt vt
    have e1 := n1.1
    have e2 := n2.1
    have f1 := n1.2.1
    have f2 := n2.2.1
    unfold tm_ce tm_nd
    rw [f1, f2]
    have key : (tm_s M s).toNatClampNeg = (tm_s M t).toNatClampNeg ↔ tm_sl S M s = tm_sl S M t := by
      unfold tm_sl at ss st ⊢
      unfold tm_s at vs vt ⊢
      rw [e1] at ss vs ⊢
      rw [e2] at st vt ⊢
      constructor
      · intro e; exact tx_sl_eq vs vt e
      · intro e
        rcases tx_sl_inj e ss with ⟨_, _, h⟩ | ⟨h, _⟩
        · exact h
        · exact absurd vs h
    constructor
    · intro e
      have := key.mp (by omega)
      omega
    · intro e
      have := key.mpr (by omega)
      omega
  have st : ∀ t, hr_NW S M L r b lo hi t → (tm_s S t ≠ -1 ∨ bi' (tm_ce M t) = -1) ∧ (tm_s S t ≠ -1 ∨ nc' (tm_nd S M t * 3) = -1) := by
    intro t n
    by_cases v : tm_s S t = -1
    · obtain ⟨_, _, _, d⟩ := hN t n (tm_V_sl O (gN t n) v)
      exact ⟨Or.inr (d v).2, Or.inr (d v).1⟩
    · exact ⟨Or.inl v, Or.inl v⟩
  refine ⟨hb, ?_, ?_, fun t => @ite _ (Lv t) (Classical.propDecidable _) (FY t) t, fun t => @ite _ (Lv t) (Classical.propDecidable _) (FX t) t, ?_, ?_⟩
  · rintro t (l | n)
    · obtain ⟨g, a, c⟩ := A t l
      refine ⟨g, fun hs => ?_, fun k hk => ⟨Or.inl (c k hk).1, (c k hk).2⟩⟩
      obtain ⟨a1, a2, a3⟩ := a hs
      exact ⟨by omega, a2, a3⟩
    · have g := gN t n
      refine ⟨g, fun hs => ?_, fun k hk => ?_⟩
      · obtain ⟨a1, a2, a3, a4⟩ := hN t n hs
        exact ⟨(ndN t n hs).2, a1, a2⟩
      · obtain ⟨a1, a2, a3, a4⟩ := hN t n (tm_ar_sl O g hk)
        exact a3 k hk
  · rintro s t (ls | n1) (lt | n2) vs vt
    · exact I s t ls lt vs vt
    · have := fresh s t ls n2 vs vt
      exact ⟨fun e => absurd e this.1, fun e => absurd e this.2⟩
    · have := fresh t s lt n1 vt vs
      exact ⟨fun e => absurd e.symm this.1, fun e => absurd e.symm this.2⟩
    · exact iff2 s t n1 n2 vs vt
  · intro t l
    by_cases lt : Lv t
    · simp only [if_pos lt]
      obtain ⟨⟨k1, p1⟩, ⟨k2, p2⟩, f⟩ := F1 t lt
      refine ⟨⟨k1, hr_p_mono ?_ ?_ p1⟩, ⟨k2, hr_p_mono ?_ ?_ p2⟩, f⟩
      · rintro a ⟨la, q⟩; exact ⟨Or.inl la, q⟩
      · rintro a c ⟨la, v, e, lb⟩; exact ⟨Or.inl la, v, e, Or.inl lb⟩
      · rintro a ⟨la, q⟩; exact ⟨Or.inl la, q⟩
      · rintro a c ⟨la, v, e, lb, o⟩; exact ⟨Or.inl la, v, e, Or.inl lb, o⟩
    · have n : hr_NW S M L r b lo hi t := l.resolve_left lt
      simp only [if_neg lt]
      exact ⟨⟨0, rfl, l, (st t n).1⟩, ⟨0, rfl, l, (st t n).2⟩, fun h => ⟨by trivial, h⟩, fun h => h⟩
  · intro s t l1 l2
    by_cases ls : Lv s
    · by_cases lt : Lv t
      · simp only [if_pos ls, if_pos lt]
        exact F2 s t ls lt
      · have n : hr_NW S M L r b lo hi t := l2.resolve_left lt
        simp only [if_pos ls, if_neg lt]
        intro vs vt
        have LY := (hr_p_end (F1 s ls).1.choose_spec).1
        have LX := (hr_p_end (F1 s ls).2.1.choose_spec).1
        have a := fresh (FY s) t LY n vs vt
        have c := fresh (FX s) t LX n ((F1 s ls).2.2.2 vs) vt
        exact ⟨fun e => absurd e a.1, fun e => absurd e c.2⟩
    · have n1 : hr_NW S M L r b lo hi s := l1.resolve_left ls
      by_cases lt : Lv t
      · simp only [if_neg ls, if_pos lt]
        intro vs vt
        have LY := (hr_p_end (F1 t lt).1.choose_spec).1
        have LX := (hr_p_end (F1 t lt).2.1.choose_spec).1
        have a := fresh (FY t) s LY n1 vt vs
        have c := fresh (FX t) s LX n1 ((F1 t lt).2.2.2 vt) vs
        exact ⟨fun e => absurd e.symm a.1, fun e => absurd e.symm c.2⟩
      · have n2 : hr_NW S M L r b lo hi t := l2.resolve_left lt
        simp only [if_neg ls, if_neg lt]
        exact fun vs vt => iff2 s t n1 n2 vs vt
theorem tm_xt_ne (O : sg_OK S M L m) {t : Nat} (g : tm_G S L m t) (hn : tm_sl S M t ≠ 0 → tm_nd S M t < 256) : ¬ tm_xt S M t = -1 := by
  unfold tm_xt
  by_cases h : tm_sl S M t = 0
  · rw [if_pos h]; exact kk_ct_ne _
  · rw [if_neg h]; exact kk_l_ne (by have := hn h; omega)
theorem tm_nI_m1 {t : Nat} (h : t < 2 ^ 31) : ¬ nI t = -1 := by
  intro e
  have := congrArg Int32.toInt e
  rw [nI_toInt h] at this
  have e2 : (-1 : Int32).toInt = -1 := by decide
  rw [e2] at this
  omega
/-- binding: the reference binds FY s to FY t; the component binds FX p to FX q, {p, q} = {s, t} -/
theorem hr_bind (O : sg_OK S M L m) {FY FX : Nat → Nat} (ht : top ≤ 256) (A : hr_A S M L m top Lv ns nn nc) (I : hr_I S M Lv) (F : hr_F S M Lv nc bi FY FX) {s t p q : Nat} (ls : Lv s) (lt : Lv t) (hs : tm_s S (FY s) = -1) (hd : tm_s S (FY t) = -1 → tm_ce M (FY s) ≠ tm_ce M (FY t)) (hpq : (p = s ∧ q = t) ∨ (p = t ∧ q = s ∧ tm_s S (FY t) = -1)) (ho : tm_s S (FX q) = -1 → tm_nd S M (FX q) < tm_nd S M (FX p)) :
    hr_HR S M L m top Lv ns nn (vp_updL nc (tm_nd S M (FX p) * 3) (tm_xt S M (FX q))) (upd bi (tm_ce M (FY s)) (nI (FY t))) := by
  have lp : Lv p := by rcases hpq with ⟨e, _⟩ | ⟨e, _⟩ <;> rw [e] <;> assumption
  have lq : Lv q := by rcases hpq with ⟨_, e⟩ | ⟨_, e, _⟩ <;> rw [e] <;> assumption
  have vp : tm_s S (FX p) = -1 := by
    rcases hpq with ⟨e, _⟩ | ⟨e, _, v⟩
    · rw [e]; exact (F.1 s ls).2.2.2 hs
    · rw [e]; exact (F.1 t lt).2.2.2 v
  obtain ⟨LYs, qYs⟩ := hr_FY_L F ls
  obtain ⟨LYt, qYt⟩ := hr_FY_L F lt
  obtain ⟨LXp, qXp⟩ := hr_FX_L F lp
  obtain ⟨LXq, qXq⟩ := hr_FX_L F lq
  have bs0 : bi (tm_ce M (FY s)) = -1 := by rcases qYs with h | h
                                            · exact absurd hs h
                                            · exact h
  have np0 : nc (tm_nd S M (FX p) * 3) = -1 := by rcases qXp with h | h
                                                  · exact absurd vp h
                                                  · exact h
  have gYt := (A _ LYt).1
  have gXp := (A _ LXp).1
  have gXq := (A _ LXq).1
  have hYt31 : FY t < 2 ^ 31 := by have := (tm_lt O gYt).1; omega
  -- steps of the two sides
  have stepY : hr_p (hr_sY S M Lv (upd bi (tm_ce M (FY s)) (nI (FY t)))) (hr_nY S M Lv (upd bi (tm_ce M (FY s)) (nI (FY t)))) 0 (FY t) (FY t) := by
    refine ⟨rfl, LYt, ?_⟩
    by_cases v : tm_s S (FY t) = -1
    · right
      rw [pk_un (fun e => hd v e.symm)]
      rcases qYt with h | h
      · exact absurd v h
      · exact h
    · exact Or.inl v
  have stepX : hr_p (hr_sX S M Lv (vp_updL nc (tm_nd S M (FX p) * 3) (tm_xt S M (FX q)))) (hr_nX S M Lv (vp_updL nc (tm_nd S M (FX p) * 3) (tm_xt S M (FX q)))) 0 (FX q) (FX q) := by
    refine ⟨rfl, LXq, ?_⟩
    by_cases v : tm_s S (FX q) = -1
    · right
      rw [pk_uLn (by have := ho v; omega)]
      rcases qXq with h | h
      · exact absurd v h
      · exact h
    · exact Or.inl v
  have nY : ∀ a b, hr_nY S M Lv bi a b → hr_nY S M Lv (upd bi (tm_ce M (FY s)) (nI (FY t))) a b := by
    rintro a b ⟨la, v, e, lb⟩
    refine ⟨la, v, ?_, lb⟩
    by_cases z : tm_ce M a = tm_ce M (FY s)
    · rw [z, bs0] at e
      exact absurd e.symm (tm_nI_m1 (by have := (tm_lt O (A _ lb).1).1; omega))
    · rw [pk_un z]; exact e
  have nX : ∀ a b, hr_nX S M Lv nc a b → hr_nX S M Lv (vp_updL nc (tm_nd S M (FX p) * 3) (tm_xt S M (FX q))) a b := by
    rintro a b ⟨la, v, e, lb, o⟩
    refine ⟨la, v, ?_, lb, o⟩
    by_cases z : tm_nd S M a = tm_nd S M (FX p)
    · rw [z, np0] at e
      exact absurd e.symm (tm_xt_ne O (A _ lb).1 (fun h => by have := ((A _ lb).2.1 h).1; omega))
    · rw [pk_uLn (by omega)]; exact e
  refine ⟨ht, ?_, I, fun u => if tm_s S (FY u) = -1 ∧ tm_ce M (FY u) = tm_ce M (FY s) then FY t else FY u, fun u => if tm_s S (FX u) = -1 ∧ tm_nd S M (FX u) = tm_nd S M (FX p) then FX q else FX u, ?_, ?_⟩
  · intro u lu
    obtain ⟨g, a, c⟩ := A u lu
    refine ⟨g, a, fun k hk => ?_⟩
    obtain ⟨c1, c2⟩ := c k hk
    refine ⟨c1, ?_⟩
    rw [pk_uLn, c2]
    intro e
    have h3 := tm_ar3 O g
    have hnd : tm_nd S M u = tm_nd S M (FX p) := by omega
    have e1 := (a (tm_ar_sl O g hk)).2.1
    have e2 := ((A _ LXp).2.1 (tm_V_sl O gXp vp)).2.1
    rw [hnd, e2, vp] at e1
    rw [← e1, tx_ar_m1] at hk
    omega
  · intro u lu
    obtain ⟨⟨k1, p1⟩, ⟨k2, p2⟩, f1, f2⟩ := F.1 u lu
    obtain ⟨LYu, qYu⟩ := hr_FY_L F lu
    obtain ⟨LXu, qXu⟩ := hr_FX_L F lu
    dsimp only
    refine ⟨?_, ?_, ?_, ?_⟩
    · by_cases z : tm_s S (FY u) = -1 ∧ tm_ce M (FY u) = tm_ce M (FY s)
      · rw [if_pos z]
        have : hr_p (hr_sY S M Lv (upd bi (tm_ce M (FY s)) (nI (FY t)))) (hr_nY S M Lv (upd bi (tm_ce M (FY s)) (nI (FY t)))) 1 (FY u) (FY t) :=
          ⟨FY t, ⟨LYu, z.1, by rw [z.2, pk_us], LYt⟩, stepY⟩
        exact ⟨k1 + 1, hr_p_app nY p1 this⟩
      · rw [if_neg z]
        refine ⟨k1 + 0, hr_p_app nY p1 ⟨rfl, LYu, ?_⟩⟩
        by_cases v : tm_s S (FY u) = -1
        · right
          rw [pk_un (fun e => z ⟨v, e⟩)]
          rcases qYu with h | h
          · exact absurd v h
          · exact h
        · exact Or.inl v
    · by_cases z : tm_s S (FX u) = -1 ∧ tm_nd S M (FX u) = tm_nd S M (FX p)
      · rw [if_pos z]
        have : hr_p (hr_sX S M Lv (vp_updL nc (tm_nd S M (FX p) * 3) (tm_xt S M (FX q)))) (hr_nX S M Lv (vp_updL nc (tm_nd S M (FX p) * 3) (tm_xt S M (FX q)))) 1 (FX u) (FX q) :=
          ⟨FX q, ⟨LXu, z.1, by rw [z.2, pk_uLs], LXq, fun v => by rw [z.2]; exact ho v⟩, stepX⟩
        exact ⟨k2 + 1, hr_p_app nX p2 this⟩
      · rw [if_neg z]
        refine ⟨k2 + 0, hr_p_app nX p2 ⟨rfl, LXu, ?_⟩⟩
        by_cases v : tm_s S (FX u) = -1
        · right
          rw [pk_uLn (fun e => z ⟨v, by omega⟩)]
          rcases qXu with h | h
          · exact absurd v h
          · exact h
        · exact Or.inl v
    · have key : tm_s S (FY u) = -1 → tm_s S (FX u) = -1 := f2
      have key2 : tm_s S (FX u) = -1 → tm_s S (FY u) = -1 := fun h => Decidable.byContradiction fun h' => (f1 h').2 h
      rcases hpq with ⟨ep, eq⟩ | ⟨ep, eq, vt⟩
      · subst ep eq
        by_cases z : tm_s S (FY u) = -1 ∧ tm_ce M (FY u) = tm_ce M (FY p)
        · have z' : tm_s S (FX u) = -1 ∧ tm_nd S M (FX u) = tm_nd S M (FX p) := ⟨key z.1, (F.2 u p lu lp z.1 hs).mp z.2⟩
          rw [if_pos z, if_pos z']
          exact (F.1 q lt).2.2.1
        · have z' : ¬ (tm_s S (FX u) = -1 ∧ tm_nd S M (FX u) = tm_nd S M (FX p)) := fun h => z ⟨key2 h.1, (F.2 u p lu lp (key2 h.1) hs).mpr h.2⟩
          rw [if_neg z, if_neg z']
          exact f1
      · subst ep eq
        by_cases z : tm_s S (FY u) = -1 ∧ tm_ce M (FY u) = tm_ce M (FY q)
        · rw [if_pos z]; exact fun h => absurd vt h
        · rw [if_neg z]
          intro h
          have z' : ¬ (tm_s S (FX u) = -1 ∧ tm_nd S M (FX u) = tm_nd S M (FX p)) := fun h' => h (key2 h'.1)
          rw [if_neg z']
          exact f1 h
    · have key : tm_s S (FY u) = -1 → tm_s S (FX u) = -1 := f2
      have key2 : tm_s S (FX u) = -1 → tm_s S (FY u) = -1 := fun h => Decidable.byContradiction fun h' => (f1 h').2 h
      rcases hpq with ⟨ep, eq⟩ | ⟨ep, eq, vt⟩
      · subst ep eq
        by_cases z : tm_s S (FY u) = -1 ∧ tm_ce M (FY u) = tm_ce M (FY p)
        · have z' : tm_s S (FX u) = -1 ∧ tm_nd S M (FX u) = tm_nd S M (FX p) := ⟨key z.1, (F.2 u p lu lp z.1 hs).mp z.2⟩
          rw [if_pos z, if_pos z']
          exact (F.1 q lt).2.2.2
        · have z' : ¬ (tm_s S (FX u) = -1 ∧ tm_nd S M (FX u) = tm_nd S M (FX p)) := fun h => z ⟨key2 h.1, (F.2 u p lu lp (key2 h.1) hs).mpr h.2⟩
          rw [if_neg z, if_neg z']
          exact f2
      · subst ep eq
        have vXq : tm_s S (FX q) = -1 := (F.1 q lq).2.2.2 hs
        by_cases z : tm_s S (FX u) = -1 ∧ tm_nd S M (FX u) = tm_nd S M (FX p)
        · rw [if_pos z]; exact fun _ => vXq
        · rw [if_neg z]
          by_cases z2 : tm_s S (FY u) = -1 ∧ tm_ce M (FY u) = tm_ce M (FY q)
          · exact fun _ => key z2.1
          · rw [if_neg z2]; exact f2
  · intro u w lu lw
    dsimp only
    have keyu : tm_s S (FY u) = -1 → tm_s S (FX u) = -1 := (F.1 u lu).2.2.2
    have keyu2 : tm_s S (FX u) = -1 → tm_s S (FY u) = -1 := fun h => Decidable.byContradiction fun h' => ((F.1 u lu).2.2.1 h').2 h
    have keyw : tm_s S (FY w) = -1 → tm_s S (FX w) = -1 := (F.1 w lw).2.2.2
    have keyw2 : tm_s S (FX w) = -1 → tm_s S (FY w) = -1 := fun h => Decidable.byContradiction fun h' => ((F.1 w lw).2.2.1 h').2 h
    rcases hpq with ⟨ep, eq⟩ | ⟨ep, eq, vt⟩
    · subst ep eq
      by_cases zu : tm_s S (FY u) = -1 ∧ tm_ce M (FY u) = tm_ce M (FY p)
      · have zu' : tm_s S (FX u) = -1 ∧ tm_nd S M (FX u) = tm_nd S M (FX p) := ⟨keyu zu.1, (F.2 u p lu lp zu.1 hs).mp zu.2⟩
        rw [if_pos zu, if_pos zu']
        by_cases zw : tm_s S (FY w) = -1 ∧ tm_ce M (FY w) = tm_ce M (FY p)
        · have zw' : tm_s S (FX w) = -1 ∧ tm_nd S M (FX w) = tm_nd S M (FX p) := ⟨keyw zw.1, (F.2 w p lw lp zw.1 hs).mp zw.2⟩
          rw [if_pos zw, if_pos zw']
          exact fun _ _ => ⟨fun _ => rfl, fun _ => rfl⟩
        · have zw' : ¬ (tm_s S (FX w) = -1 ∧ tm_nd S M (FX w) = tm_nd S M (FX p)) := fun h => zw ⟨keyw2 h.1, (F.2 w p lw lp (keyw2 h.1) hs).mpr h.2⟩
          rw [if_neg zw, if_neg zw']
          exact F.2 q w lq lw
      · have zu' : ¬ (tm_s S (FX u) = -1 ∧ tm_nd S M (FX u) = tm_nd S M (FX p)) := fun h => zu ⟨keyu2 h.1, (F.2 u p lu lp (keyu2 h.1) hs).mpr h.2⟩
        rw [if_neg zu, if_neg zu']
        by_cases zw : tm_s S (FY w) = -1 ∧ tm_ce M (FY w) = tm_ce M (FY p)
        · have zw' : tm_s S (FX w) = -1 ∧ tm_nd S M (FX w) = tm_nd S M (FX p) := ⟨keyw zw.1, (F.2 w p lw lp zw.1 hs).mp zw.2⟩
          rw [if_pos zw, if_pos zw']
          exact F.2 u q lu lq
        · have zw' : ¬ (tm_s S (FX w) = -1 ∧ tm_nd S M (FX w) = tm_nd S M (FX p)) := fun h => zw ⟨keyw2 h.1, (F.2 w p lw lp (keyw2 h.1) hs).mpr h.2⟩
          rw [if_neg zw, if_neg zw']
          exact F.2 u w lu lw
    · subst ep eq
      have vXq : tm_s S (FX q) = -1 := (F.1 q lq).2.2.2 hs
      have hne : tm_nd S M (FX p) ≠ tm_nd S M (FX q) := by have := ho vXq; omega
      -- joined: (cell, node) = (ce FY p, nd FX q); otherwise the old ones, different from both
      have cls : ∀ x, Lv x → tm_s S (FY x) = -1 → ((tm_ce M (if tm_s S (FY x) = -1 ∧ tm_ce M (FY x) = tm_ce M (FY q) then FY p else FY x) = tm_ce M (FY p) ∧ tm_nd S M (if tm_s S (FX x) = -1 ∧ tm_nd S M (FX x) = tm_nd S M (FX p) then FX q else FX x) = tm_nd S M (FX q)) ∨ ((if tm_s S (FY x) = -1 ∧ tm_ce M (FY x) = tm_ce M (FY q) then FY p else FY x) = FY x ∧ (if tm_s S (FX x) = -1 ∧ tm_nd S M (FX x) = tm_nd S M (FX p) then FX q else FX x) = FX x ∧ tm_ce M (FY x) ≠ tm_ce M (FY p) ∧ tm_nd S M (FX x) ≠ tm_nd S M (FX q))) := by
        intro x lx vx
        have vXx : tm_s S (FX x) = -1 := (F.1 x lx).2.2.2 vx
        by_cases z : tm_ce M (FY x) = tm_ce M (FY q)
        · rw [if_pos ⟨vx, z⟩]
          have e := (F.2 x q lx lq vx hs).mp z
          rw [if_neg (fun h => hne (by rw [← h.2, e]))]
          exact Or.inl ⟨rfl, e⟩
        · rw [if_neg (fun h => z h.2)]
          by_cases z2 : tm_ce M (FY x) = tm_ce M (FY p)
          · have e := (F.2 x p lx lp vx vt).mp z2
            rw [if_pos ⟨vXx, e⟩]
            exact Or.inl ⟨z2, rfl⟩
          · have e : tm_nd S M (FX x) ≠ tm_nd S M (FX p) := fun h => z2 ((F.2 x p lx lp vx vt).mpr h)
            rw [if_neg (fun h => e h.2)]
            exact Or.inr ⟨rfl, rfl, z2, fun h => z ((F.2 x q lx lq vx hs).mpr h)⟩
      have vv : ∀ x, Lv x → tm_s S (if tm_s S (FY x) = -1 ∧ tm_ce M (FY x) = tm_ce M (FY q) then FY p else FY x) = -1 → tm_s S (FY x) = -1 := by
        intro x lx h
        by_cases z : tm_s S (FY x) = -1 ∧ tm_ce M (FY x) = tm_ce M (FY q)
        · exact z.1
        · rw [if_neg z] at h; exact h
      intro vu vw
      rcases cls u lu (vv u lu vu) with ⟨a1, a2⟩ | ⟨a1, a2, a3, a4⟩
      · rcases cls w lw (vv w lw vw) with ⟨b1, b2⟩ | ⟨b1, b2, b3, b4⟩
        · rw [a1, a2, b1, b2]; exact ⟨fun _ => rfl, fun _ => rfl⟩
        · rw [a1, a2, b1, b2]; exact ⟨fun e => absurd e.symm b3, fun e => absurd e.symm b4⟩
      · rcases cls w lw (vv w lw vw) with ⟨b1, b2⟩ | ⟨b1, b2, b3, b4⟩
        · rw [a1, a2, b1, b2]; exact ⟨fun e => absurd e a3, fun e => absurd e a4⟩
        · rw [a1, a2, b1, b2]; exact F.2 u w lu lw (vv u lu vu) (vv w lw vw)
/-- the component's chains fall -/
theorem hr_kX : ∀ {k u w : Nat}, hr_p (hr_sX S M Lv nc) (hr_nX S M Lv nc) k u w → (tm_s S u ≠ -1 → k = 0) ∧ (tm_s S u = -1 → k ≤ tm_nd S M u + 1)
  | 0, u, w, _ => ⟨fun _ => rfl, fun _ => Nat.zero_le _⟩
  | k + 1, u, w, h => by
    obtain ⟨t1, ⟨_, v, _, _, o⟩, p⟩ := h
    obtain ⟨a, b⟩ := hr_kX p
    refine ⟨fun h => absurd v h, fun _ => ?_⟩
    by_cases v1 : tm_s S t1 = -1
    · have := b v1; have := o v1; omega
    · have := a v1; omega
end
theorem hr_pig : ∀ (N : Nat) {k : Nat} {f : Nat → Nat}, (∀ i, i < k → f i < N) → (∀ i j, i < j → j < k → f i ≠ f j) → k ≤ N
  | 0, k, f, h, _ => by
    rcases Nat.eq_zero_or_pos k with e | e
    · omega
    · exact absurd (h 0 e) (by omega)
  | N + 1, k, f, h, hj => by
    by_cases z : ∃ i, i < k ∧ f i = N
    · obtain ⟨i, hi, e⟩ := z
      have := hr_pig N (k := k - 1) (f := fun j => if j = i then f (k - 1) else f j) (by
        intro j hjk
        by_cases ej : j = i
        · rw [if_pos ej]
          have a := h (k - 1) (by omega)
          have b : f (k - 1) ≠ N := by
            rw [← e]
            exact fun q => hj i (k - 1) (by omega) (by omega) q.symm
          omega
        · rw [if_neg ej]
          have a := h j (by omega)
          have b : f j ≠ N := by
            rw [← e]
            rcases Nat.lt_or_gt_of_ne ej with q | q
            · exact hj j i q hi
            · exact fun x => hj i j q (by omega) x.symm
          omega) (by
        intro a b hab hb
        by_cases ea : a = i
        · rw [if_pos ea, if_neg (by omega)]
          exact fun x => hj b (k - 1) (by omega) (by omega) x.symm
        · rw [if_neg ea]
          by_cases eb : b = i
          · rw [if_pos eb]; exact hj a (k - 1) (by omega) (by omega)
          · rw [if_neg eb]; exact hj a b hab (by omega))
      omega
    · have := hr_pig N (k := k) (f := f) (fun i hi => by
        have a := h i hi
        have b : f i ≠ N := fun e => z ⟨i, hi, e⟩
        omega) hj
      omega
theorem hr_p_fn {stop : Nat → Prop} {nx : Nat → Nat → Prop} : ∀ {k u w : Nat}, hr_p stop nx k u w → ∃ f : Nat → Nat, f 0 = u ∧ f k = w ∧ stop w ∧ ∀ i, i < k → nx (f i) (f (i + 1))
  | 0, u, w, h => ⟨fun _ => u, rfl, h.1, h.1 ▸ h.2, fun i hi => by omega⟩
  | k + 1, u, w, h => by
    obtain ⟨t1, a, p⟩ := h
    obtain ⟨f, e0, ek, s, g⟩ := hr_p_fn p
    refine ⟨fun i => match i with | 0 => u | j + 1 => f j, rfl, ek, s, fun i hi => ?_⟩
    rcases i with _ | i
    · show nx u (f 0)
      rw [e0]; exact a
    · exact g i (by omega)
theorem hr_fn_p {stop : Nat → Prop} {nx : Nat → Nat → Prop} : ∀ {k : Nat} (f : Nat → Nat), stop (f k) → (∀ i, i < k → nx (f i) (f (i + 1))) → hr_p stop nx k (f 0) (f k)
  | 0, f, s, _ => ⟨rfl, s⟩
  | k + 1, f, s, g => ⟨f 1, g 0 (by omega), hr_fn_p (k := k) (fun i => f (i + 1)) s (fun i hi => g (i + 1) (by omega))⟩
/-- a shortest chain visits a cell once -/
theorem hr_kY {S M : Nat → Nat → Int32} {Lv : Nat → Prop} {bi : Nat → Int32} (hlt : ∀ t, Lv t → t < 2 ^ 31) (hce : ∀ t, Lv t → tm_s S t = -1 → tm_ce M t < 2056) {u w : Nat} (h : ∃ k, hr_p (hr_sY S M Lv bi) (hr_nY S M Lv bi) k u w) : ∃ k, k ≤ 2056 ∧ hr_p (hr_sY S M Lv bi) (hr_nY S M Lv bi) k u w := by
  obtain ⟨k, p, least⟩ := pk_least _ h
  refine ⟨k, ?_, p⟩
  obtain ⟨f, e0, ek, s, g⟩ := hr_p_fn p
  apply hr_pig 2056 (f := fun i => tm_ce M (f i))
  · intro i hi
    exact hce _ (g i hi).1 (g i hi).2.1
  · intro i j hij hj e
    have ei := (g i (by omega)).2.2.1
    have ej := (g j hj).2.2.1
    have e1 : f (i + 1) = f (j + 1) := by
      rw [e, ej] at ei
      exact ((nI_eq (hlt _ (g j hj).2.2.2) (hlt _ (g i (by omega)).2.2.2)).mp ei).symm
    refine least (k - (j - i)) (by omega) ?_
    have := hr_fn_p (stop := hr_sY S M Lv bi) (nx := hr_nY S M Lv bi) (k := k - (j - i)) (fun x => if x ≤ i then f x else f (x + (j - i))) (by
      rw [if_neg (by omega), show k - (j - i) + (j - i) = k by omega, ek]
      exact s) (by
      intro x hx
      by_cases c : x + 1 ≤ i
      · rw [if_pos (by omega), if_pos c]; exact g x (by omega)
      · by_cases c2 : x = i
        · subst c2
          rw [if_pos (Nat.le_refl _), if_neg (by omega), show x + 1 + (j - x) = j + 1 by omega, ← e1]
          exact g x (by omega)
        · rw [if_neg (by omega), if_neg (by omega), show x + 1 + (j - i) = x + (j - i) + 1 by omega]
          exact g _ (by omega))
    rw [if_pos (Nat.zero_le _), e0, if_neg (by omega), show k - (j - i) + (j - i) = k by omega, ek] at this
    exact this
end
section
/-! the trail and undoing -/
def ud_o (tr : Nat → Int32) (lo : Nat) : Nat → (Nat → Int64) → (Nat → Int64)
  | 0, c => c
  | k + 1, c => ud_o tr lo k (vp_updL c ((tr (lo + k)).toNatClampNeg * 3) (-1))
theorem ud_app {tr : Nat → Int32} {lo k1 : Nat} : ∀ {k2 : Nat} {c : Nat → Int64}, ud_o tr lo (k1 + k2) c = ud_o tr lo k1 (ud_o tr (lo + k1) k2 c)
  | 0, c => rfl
  | k2 + 1, c => by
    show ud_o tr lo (k1 + k2) (vp_updL c ((tr (lo + (k1 + k2))).toNatClampNeg * 3) (-1)) = ud_o tr lo k1 (ud_o tr (lo + k1) k2 (vp_updL c ((tr (lo + k1 + k2)).toNatClampNeg * 3) (-1)))
    rw [ud_app (k2 := k2), show lo + (k1 + k2) = lo + k1 + k2 by omega]
theorem ud_miss {tr : Nat → Int32} {lo j : Nat} : ∀ {k : Nat} {c : Nat → Int64}, (∀ i, lo ≤ i → i < lo + k → (tr i).toNatClampNeg * 3 ≠ j) → ud_o tr lo k c j = c j
  | 0, c, _ => rfl
  | k + 1, c, h => by
    show ud_o tr lo k (vp_updL c ((tr (lo + k)).toNatClampNeg * 3) (-1)) j = c j
    rw [ud_miss (k := k) (fun i h1 h2 => h i h1 (by omega)), pk_uLn (fun e => h (lo + k) (by omega) (by omega) e.symm)]
theorem ud_neg {tr : Nat → Int32} {lo j : Nat} : ∀ {k : Nat} {c : Nat → Int64}, c j = -1 → ud_o tr lo k c j = -1
  | 0, c, h => h
  | k + 1, c, h => by
    show ud_o tr lo k (vp_updL c ((tr (lo + k)).toNatClampNeg * 3) (-1)) j = -1
    apply ud_neg
    by_cases e : j = (tr (lo + k)).toNatClampNeg * 3
    · rw [e, pk_uLs]
    · rw [pk_uLn e]; exact h
theorem ud_hit {tr : Nat → Int32} {lo j : Nat} : ∀ {k : Nat} {c : Nat → Int64} (i : Nat), lo ≤ i → i < lo + k → (tr i).toNatClampNeg * 3 = j → ud_o tr lo k c j = -1
  | 0, c, i, h1, h2, _ => by omega
  | k + 1, c, i, h1, h2, e => by
    show ud_o tr lo k (vp_updL c ((tr (lo + k)).toNatClampNeg * 3) (-1)) j = -1
    by_cases z : i = lo + k
    · subst z
      apply ud_neg
      rw [← e, pk_uLs]
    · exact ud_hit (k := k) i h1 (by omega) e
theorem ud_tr {tr tr' : Nat → Int32} {lo : Nat} : ∀ {k : Nat} {c : Nat → Int64}, (∀ i, lo ≤ i → i < lo + k → tr' i = tr i) → ud_o tr' lo k c = ud_o tr lo k c
  | 0, c, _ => rfl
  | k + 1, c, h => by
    show ud_o tr' lo k _ = ud_o tr lo k _
    rw [h (lo + k) (by omega) (by omega), ud_tr (k := k) (fun i h1 h2 => h i h1 (by omega))]
theorem ud_c {tr : Nat → Int32} {lo j : Nat} : ∀ {k : Nat} {c c' : Nat → Int64}, c' j = c j → ud_o tr lo k c' j = ud_o tr lo k c j
  | 0, c, c', h => h
  | k + 1, c, c', h => by
    show ud_o tr lo k _ j = ud_o tr lo k _ j
    apply ud_c
    by_cases e : j = (tr (lo + k)).toNatClampNeg * 3
    · rw [e, pk_uLs, pk_uLs]
    · rw [pk_uLn e, pk_uLn e]; exact h
/-- trail entries: different bound nodes below h -/
def tf_ok (tr : Nat → Int32) (T h : Nat) (nc : Nat → Int64) : Prop := (∀ i, i < T → ∃ n, n < h ∧ tr i = nI n ∧ ¬ nc (n * 3) = -1) ∧ (∀ i j, i < j → j < T → tr i ≠ tr j)
/-- what the choice points see of the cells doesn't change -/
def us_ok (H : Nat) (tr : Nat → Int32) (T : Nat) (nc : Nat → Int64) (tr' : Nat → Int32) (T' : Nat) (nc' : Nat → Int64) : Prop := T ≤ T' ∧ (∀ i, i < T → tr' i = tr i) ∧ (∀ lo, lo ≤ T → ∀ j, j < H * 3 → ud_o tr' lo (T' - lo) nc' j = ud_o tr lo (T - lo) nc j)
theorem us_rf {H T : Nat} {tr : Nat → Int32} {nc : Nat → Int64} : us_ok H tr T nc tr T nc := ⟨Nat.le_refl _, fun _ _ => rfl, fun _ _ _ _ => rfl⟩
theorem us_tr {H T T1 T2 : Nat} {tr tr1 tr2 : Nat → Int32} {nc nc1 nc2 : Nat → Int64} (a : us_ok H tr T nc tr1 T1 nc1) (b : us_ok H tr1 T1 nc1 tr2 T2 nc2) : us_ok H tr T nc tr2 T2 nc2 := by
  obtain ⟨a1, a2, a3⟩ := a
  obtain ⟨b1, b2, b3⟩ := b
  exact ⟨by omega, fun i hi => by rw [b2 i (by omega), a2 i hi], fun lo hl j hj => by rw [b3 lo (by omega) j hj, a3 lo hl j hj]⟩
theorem us_un {H T n : Nat} {tr : Nat → Int32} {nc : Nat → Int64} {x : Int64} (h : H ≤ n) : us_ok H tr T nc tr T (vp_updL nc (n * 3) x) :=
  ⟨Nat.le_refl _, fun _ _ => rfl, fun lo _ j hj => ud_c (pk_uLn (by omega))⟩
theorem us_ad {H T n : Nat} {tr : Nat → Int32} {nc : Nat → Int64} {x : Int64} (hn : n < 2 ^ 31) (hz : nc (n * 3) = -1) : us_ok H tr T nc (upd tr T (nI n)) (T + 1) (vp_updL nc (n * 3) x) := by
  refine ⟨by omega, fun i hi => pk_un (by omega), fun lo hl j hj => ?_⟩
  rw [show T + 1 - lo = (T - lo) + 1 by omega]
  show ud_o (upd tr T (nI n)) lo (T - lo) (vp_updL (vp_updL nc (n * 3) x) ((upd tr T (nI n) (lo + (T - lo))).toNatClampNeg * 3) (-1)) j = _
  rw [show lo + (T - lo) = T by omega, pk_us, nI_clamp hn, ud_tr (tr := tr) (fun i h1 h2 => pk_un (by omega))]
  apply ud_c
  by_cases e : j = n * 3
  · rw [e, pk_uLs, hz]
  · rw [pk_uLn e, pk_uLn e]
theorem tf_lt {tr : Nat → Int32} {T h n : Nat} {nc : Nat → Int64} (f : tf_ok tr T h nc) (hh : h ≤ 256) (hn : n < 256) (hz : nc (n * 3) = -1) : T < 256 := by
  have := hr_pig 256 (k := T + 1) (f := fun i => if i < T then (tr i).toNatClampNeg else n) (by
    intro i hi
    try dsimp only
    by_cases z : i < T
    · rw [if_pos z]
      obtain ⟨q, a, b, _⟩ := f.1 i z
      rw [b, nI_clamp (by omega)]; omega
    · rw [if_neg z]; exact hn) (by
    intro i j hij hj e
    try dsimp only at e
    rw [if_pos (by omega)] at e
    obtain ⟨q, a, b, c⟩ := f.1 i (by omega)
    rw [b, nI_clamp (by omega)] at e
    by_cases z : j < T
    · rw [if_pos z] at e
      obtain ⟨q', a', b', c'⟩ := f.1 j z
      rw [b', nI_clamp (by omega)] at e
      exact f.2 i j hij z (by rw [b, b', e])
    · rw [if_neg z] at e
      rw [e] at c
      exact c hz)
  omega
theorem tf_bind {tr : Nat → Int32} {T h n : Nat} {nc : Nat → Int64} {x : Int64} (f : tf_ok tr T h nc) (hx : ¬ x = -1) : tf_ok tr T h (vp_updL nc (n * 3) x) := by
  refine ⟨fun i hi => ?_, f.2⟩
  obtain ⟨q, a, b, c⟩ := f.1 i hi
  refine ⟨q, a, b, ?_⟩
  by_cases e : q * 3 = n * 3
  · rw [e, pk_uLs]; exact hx
  · rw [pk_uLn e]; exact c
theorem tf_push {tr : Nat → Int32} {T h n : Nat} {nc : Nat → Int64} {x : Int64} (f : tf_ok tr T h nc) (hx : ¬ x = -1) (hh : h ≤ 256) (hn : n < h) (hz : nc (n * 3) = -1) : tf_ok (upd tr T (nI n)) (T + 1) h (vp_updL nc (n * 3) x) := by
  have g := tf_bind (n := n) f hx
  refine ⟨fun i hi => ?_, fun i j hij hj => ?_⟩
  · by_cases z : i = T
    · subst z
      exact ⟨n, hn, pk_us, by rw [pk_uLs]; exact hx⟩
    · rw [pk_un z]; exact g.1 i (by omega)
  · rw [pk_un (by omega)]
    by_cases z : j = T
    · subst z
      rw [pk_us]
      intro e
      obtain ⟨q, a, b, c⟩ := f.1 i hij
      rw [b, nI_eq (by omega) (by omega)] at e
      rw [e] at c
      exact c hz
    · rw [pk_un z]; exact f.2 i j hij (by omega)
theorem tf_up {tr : Nat → Int32} {T h h' : Nat} {nc nc' : Nat → Int64} (f : tf_ok tr T h nc) (hh : h ≤ h') (hc : ∀ j, j < h * 3 → nc' j = nc j) : tf_ok tr T h' nc' := by
  refine ⟨fun i hi => ?_, f.2⟩
  obtain ⟨q, a, b, c⟩ := f.1 i hi
  exact ⟨q, by omega, b, by rw [hc _ (by omega)]; exact c⟩
end
section
/-! the code of both sides, continuations, choice points -/
def cx_OK (S M : Nat → Nat → Int32) (L : Nat → Nat) (m : Nat) (sr : Nat → Nat) (cs cn cl ca ci : Nat → Int32) : Prop := ∀ r, sg_VR m r → sr r + L r ≤ 200 ∧ ∀ i, i < L r → cs (sr r + i) = S r i ∧ cn (sr r + i) = M r i ∧ cl (sr r + i) = tx_s32 (tx_sl (S r) (M r) i) ∧ ca (sr r + i) = nI (sr r + tx_en (S r) i) ∧ ci (sr r + i) = nI (tx_ic (S r) (L r) i)
def cy_OK (S M : Nat → Nat → Int32) (L : Nat → Nat) (m : Nat) (sh nm ln : Nat → Int32) : Prop := ∀ r, sg_VR m r → ln r = nI (L r) ∧ ∀ i, i < L r → sh (r * 40 + i) = S r i ∧ nm (r * 40 + i) = M r i
def ck_OK (S M : Nat → Nat → Int32) (L : Nat → Nat) (m : Nat) (sr : Nat → Nat) (kS kB kC kH : Nat → Int32) (kP kF : Nat → Int64) : Prop :=
  sr 0 = 160 ∧ sr 2 = 0 ∧ sr (m + 2) ≤ 160 ∧ (∀ c, c ≤ m → kS c = nI (sr (c + 2))) ∧ (∀ c, c < m → sr (c + 3) = sr (c + 2) + L (c + 2) ∧ kB c = nI (sr (c + 2) + tx_en (S (c + 2)) 0) ∧ kC c = nI (tx_ch (S (c + 2)) (M (c + 2)) (L (c + 2))) ∧ kH c = nI (tx_ch (S (c + 2)) (M (c + 2)) (tx_en (S (c + 2)) 0)) ∧ kP c = kk_mk (M (c + 2) 0) (S (c + 2) 0) ∧ kF c = if 0 < tx_ar (S (c + 2) 0) ∧ S (c + 2) 1 ≠ -1 then kk_mk (M (c + 2) 1) (S (c + 2) 1) else -1)
abbrev fr_L : Type := Nat × Nat × Nat × Nat × Nat
def fr_p : List fr_L → Nat
  | [] => 0
  | (_, _, _, p, _) :: _ => p
def fr_pd (S : Nat → Nat → Int32) (L : Nat → Nat) : List fr_L → Nat
  | [] => 0
  | (r, _, _, _, i) :: K => tx_ic (S r) (L r) i + fr_pd S L K
def fr_X (S : Nat → Nat → Int32) (L sr : Nat → Nat) (fP fB fC fR fT fN : Nat → Int32) : Int32 → Int32 → List fr_L → Prop
  | f, _, [] => f = 0
  | f, t, (r, b, c, p, i) :: K => f = nI p ∧ t = nI (sr r + i) ∧ fP p = nI r - 2 ∧ fB p = nI b ∧ fC p = nI c ∧ fN p = nI (fr_pd S L K) ∧ fr_X S L sr fP fB fC fR fT fN (fR p) (fT p) K
def fr_Y (lR lB lC lP lI : Nat → Int32) : List fr_L → Prop
  | [] => True
  | (r, b, c, p, i) :: K => lR K.length = nI r ∧ lB K.length = nI b ∧ lC K.length = nI c ∧ lP K.length = nI p ∧ lI K.length = nI i ∧ fr_Y lR lB lC lP lI K
def fr_V (S : Nat → Nat → Int32) (L : Nat → Nat) (m : Nat) (Lv : Nat → Prop) : List fr_L → Prop
  | [] => True
  | (r, b, c, p, i) :: K => sg_VR m r ∧ i < L r ∧ tx_op (S r) i = 0 ∧ b ≤ 256 ∧ c ≤ 32 ∧ p ≤ 32 ∧ fr_p K < p ∧ (∀ j, i < j → j < L r → 0 < tx_op (S r) j → Lv (hr_cd r j b)) ∧ fr_V S L m Lv K
def gl_OK (S : Nat → Nat → Int32) (L : Nat → Nat) (m : Nat) (Lv : Nat → Prop) (r i b : Nat) : Prop := sg_VR m r ∧ i < L r ∧ tx_op (S r) i = 0 ∧ S r i ≠ -2 ∧ b ≤ 256 ∧ (∀ j, i < j → j < tx_en (S r) i → Lv (hr_cd r j b))
def ql_OK (S : Nat → Nat → Int32) (L : Nat → Nat) (Lv : Nat → Prop) : Prop := ∀ i, i < L 0 → 0 < tx_op (S 0) i → Lv (hr_cd 0 i 0)
/-- a choice point: goal row, goal index, base, heap, trail, clause, protect, continuation, live terms -/
abbrev cp_R : Type := Nat × Nat × Nat × Nat × Nat × Nat × Nat × List fr_L × (Nat → Prop)
def cp_h (g : cp_R) : Nat := g.2.2.2.1
def cp_t (g : cp_R) : Nat := g.2.2.2.2.1
def cp_p (g : cp_R) : Nat := g.2.2.2.2.2.2.1
def cp_K (g : cp_R) : List fr_L := g.2.2.2.2.2.2.2.1
def cp_V (g : cp_R) : Nat → Prop := g.2.2.2.2.2.2.2.2
def cp_F (S M : Nat → Nat → Int32) (L : Nat → Nat) (m : Nat) (sr : Nat → Nat) (ns nn tr : Nat → Int32) (nc : Nat → Int64) (T : Nat) (fP fB fC fR fT fN hG hB hF hK hH hR hC hP gA gD gb gr gs gc gp gi : Nat → Int32) (c : Nat) (g : cp_R) : Prop :=
  match g with
  | (r, i, b, h, t, q, p, K, Lc) =>
    (hG c = nI (sr r + i) ∧ gA c = nI (r * 40 + i) ∧ hB c = nI b ∧ hH c = nI h ∧ hR c = nI t ∧ hC c = nI q ∧ hP c = nI p ∧ gD c = nI K.length) ∧
    fr_X S L sr fP fB fC fR fT fN (hF c) (hK c) K ∧
    fr_Y (fun j => gr (c * 32 + j)) (fun j => gs (c * 32 + j)) (fun j => gc (c * 32 + j)) (fun j => gp (c * 32 + j)) (fun j => gi (c * 32 + j)) K ∧
    fr_V S L m Lc K ∧ gl_OK S L m Lc r i b ∧ ql_OK S L Lc ∧
    q < m ∧ S (q + 2) 0 = S r i ∧ fr_p K ≤ p ∧ p ≤ 32 ∧ t ≤ T ∧ (∀ x, x < t → ∃ n, n < h ∧ tr x = nI n) ∧
    hr_HR S M L m h Lc ns nn (ud_o tr t (T - t) nc) (fun x => gb (c * 2056 + x))
def rn_OK (S M : Nat → Nat → Int32) (L : Nat → Nat) (m : Nat) (sr : Nat → Nat) (K : List fr_L) (G : Nat → cp_R) (Lv : Nat → Prop) (T k h : Nat) (cF cTk yd hT tT chs : Int32) (ns nn tr : Nat → Int32) (nc : Nat → Int64) (fP fB fC fR fT fN hG hB hF hK hH hR hC hP bi lR lB lC lP lI gA gD gb gr gs gc gp gi : Nat → Int32) : Prop :=
  (hT = nI h ∧ tT = nI T ∧ chs = nI k ∧ k ≤ 32 ∧ yd = nI K.length) ∧
  fr_X S L sr fP fB fC fR fT fN cF cTk K ∧ fr_Y lR lB lC lP lI K ∧ fr_V S L m Lv K ∧
  hr_HR S M L m h Lv ns nn nc bi ∧ tf_ok tr T h nc ∧
  (∀ c, c < k → cp_F S M L m sr ns nn tr nc T fP fB fC fR fT fN hG hB hF hK hH hR hC hP gA gD gb gr gs gc gp gi c (G c)) ∧
  (∀ c d, c < d → d < k → cp_h (G c) ≤ cp_h (G d) ∧ cp_t (G c) ≤ cp_t (G d) ∧ cp_p (G c) ≤ cp_p (G d)) ∧
  (∀ c, c < k → cp_h (G c) ≤ h)
section
variable {S M : Nat → Nat → Int32} {L : Nat → Nat} {m : Nat} {sr : Nat → Nat} {Lv : Nat → Prop}
theorem fr_len : ∀ {K : List fr_L}, fr_V S L m Lv K → K.length ≤ fr_p K ∧ fr_p K ≤ 32
  | [], _ => ⟨Nat.le_refl _, by show 0 ≤ 32; omega⟩
  | (r, b, c, p, i) :: K, h => by
    obtain ⟨_, _, _, _, _, h6, h7, _, h9⟩ := h
    have := fr_len h9
    exact ⟨by show K.length + 1 ≤ p; omega, h6⟩
theorem fr_X_cg {fP fB fC fR fT fN fP' fB' fC' fR' fT' fN' : Nat → Int32} : ∀ {K : List fr_L} {f t : Int32}, fr_V S L m Lv K → (∀ p, p ≤ fr_p K → fP' p = fP p ∧ fB' p = fB p ∧ fC' p = fC p ∧ fR' p = fR p ∧ fT' p = fT p ∧ fN' p = fN p) → fr_X S L sr fP fB fC fR fT fN f t K → fr_X S L sr fP' fB' fC' fR' fT' fN' f t K
  | [], _, _, _, _, h => h
  | (r, b, c, p, i) :: K, f, t, hv, ha, h => by
    obtain ⟨_, _, _, _, _, h6, h7, _, h9⟩ := hv
    obtain ⟨a1, a2, a3, a4, a5, a6, a7⟩ := h
    obtain ⟨e1, e2, e3, e4, e5, e6⟩ := ha p (Nat.le_refl _)
    refine ⟨a1, a2, by rw [e1]; exact a3, by rw [e2]; exact a4, by rw [e3]; exact a5, by rw [e6]; exact a6, ?_⟩
    rw [e4, e5]
    exact fr_X_cg h9 (fun q hq => ha q (by show q ≤ p; omega)) a7
theorem fr_Y_cg {lR lB lC lP lI lR' lB' lC' lP' lI' : Nat → Int32} : ∀ {K : List fr_L}, (∀ j, j < K.length → lR' j = lR j ∧ lB' j = lB j ∧ lC' j = lC j ∧ lP' j = lP j ∧ lI' j = lI j) → fr_Y lR lB lC lP lI K → fr_Y lR' lB' lC' lP' lI' K
  | [], _, _ => trivial
  | (r, b, c, p, i) :: K, ha, h => by
    obtain ⟨a1, a2, a3, a4, a5, a6⟩ := h
    obtain ⟨e1, e2, e3, e4, e5⟩ := ha K.length (by show K.length < K.length + 1; omega)
    exact ⟨by rw [e1]; exact a1, by rw [e2]; exact a2, by rw [e3]; exact a3, by rw [e4]; exact a4, by rw [e5]; exact a5, fr_Y_cg (fun j hj => ha j (by show j < K.length + 1; omega)) a6⟩
theorem fr_V_m {Lv' : Nat → Prop} (hl : ∀ t, Lv t → Lv' t) : ∀ {K : List fr_L}, fr_V S L m Lv K → fr_V S L m Lv' K
  | [], _ => trivial
  | (r, b, c, p, i) :: K, h => by
    obtain ⟨h1, h2, h3, h4, h5, h6, h7, h8, h9⟩ := h
    exact ⟨h1, h2, h3, h4, h5, h6, h7, fun j a b c => hl _ (h8 j a b c), fr_V_m hl h9⟩
theorem gl_m {Lv' : Nat → Prop} (hl : ∀ t, Lv t → Lv' t) {r i b : Nat} (h : gl_OK S L m Lv r i b) : gl_OK S L m Lv' r i b := by
  obtain ⟨h1, h2, h3, h4, h5, h6⟩ := h
  exact ⟨h1, h2, h3, h4, h5, fun j a b => hl _ (h6 j a b)⟩
theorem fr_pd_le (O : sg_OK S M L m) : ∀ {K : List fr_L}, fr_V S L m Lv K → fr_pd S L K ≤ 40 * K.length
  | [], _ => Nat.le_refl _
  | (r, b, c, p, i) :: K, h => by
    obtain ⟨h1, h2, h3, h4, h5, h6, h7, h8, h9⟩ := h
    have a := fr_pd_le O h9
    obtain ⟨_, o1, o2, _⟩ := O.2 r h1
    have b := tx_ic_le o1 o2 (m := 40) (i := i) (by omega)
    show tx_ic (S r) (L r) i + fr_pd S L K ≤ 40 * (K.length + 1)
    omega
theorem tm_cd_s {X : Nat → Nat → Int32} {r i b : Nat} (hi : i < 40) (hb : b < 512) : tm_s X (hr_cd r i b) = X r i := by unfold tm_s; rw [hr_cd_r hi hb, hr_cd_i hi hb]
theorem tm_cd_sl {r i b : Nat} (hi : i < 40) (hb : b < 512) : tm_sl S M (hr_cd r i b) = tx_sl (S r) (M r) i := by unfold tm_sl; rw [hr_cd_r hi hb, hr_cd_i hi hb]
theorem tm_cd_nd {r i b : Nat} (hi : i < 40) (hb : b < 512) : tm_nd S M (hr_cd r i b) = b + (tx_sl (S r) (M r) i - 1) := by unfold tm_nd; rw [tm_cd_sl hi hb, hr_cd_b hb]
theorem tm_cd_ag {r i b k : Nat} (hi : i < 40) (hb : b < 512) : tm_ag S (hr_cd r i b) k = hr_cd r (tx_ag (S r) i k) b := by unfold tm_ag; rw [hr_cd_r hi hb, hr_cd_i hi hb, hr_cd_b hb]
theorem tm_cd_xt {r i b : Nat} (hi : i < 40) (hb : b < 512) : tm_xt S M (hr_cd r i b) = if tx_sl (S r) (M r) i = 0 then kk_ct (M r i) else lN (b + (tx_sl (S r) (M r) i - 1)) := by
  unfold tm_xt; rw [tm_cd_sl hi hb, tm_cd_nd hi hb, tm_cd_s hi hb]
end
end
section
/-! the component's readers -/
section
variable {qB dB hS : Int32} {ub nT aK nM cT : Int64} {cL hL fL kL cls dT dO dC qT stt lm sc ac ev chc cF cTk hT tT chs : Int32} {cs cn cl ca ci kS kB kC kH dV qV ns nn tr fP fB fC fR fT fN hG hB hF hK hH hR hC hP : Nat → Int32} {kP kF nc pl pr : Nat → Int64}
variable {S M : Nat → Nat → Int32} {L : Nat → Nat} {m top : Nat} {sr : Nat → Nat} {Lv : Nat → Prop} {FY FX : Nat → Nat} {bi : Nat → Int32}
theorem xw_termAt (O : sg_OK S M L m) (C : cx_OK S M L m sr cs cn cl ca ci) {r i b : Nat} (hr : sg_VR m r) (hi : i < L r) (hb : b ≤ 256) {post : Int64 → Prop} (hp : post (tm_xt S M (hr_cd r i b))) : wpX_termAt post (qB, dB, hS, ub, nT, aK, nM, cT, cL, hL, fL, kL, cls, dT, dO, dC, qT, stt, lm, sc, ac, ev, chc, cF, cTk, hT, tT, chs, cs, cn, cl, ca, ci, kS, kB, kC, kH, kP, kF, dV, qV, ns, nn, nc, tr, fP, fB, fC, fR, fT, fN, hG, hB, hF, hK, hH, hR, hC, hP, pl, pr) (nI (sr r + i)) (nI b) := by
  obtain ⟨_, h40, _, _⟩ := O.2 r hr
  obtain ⟨hs, c⟩ := C r hr
  obtain ⟨c1, c2, c3, _⟩ := c i hi
  have hin : vp_in (nI (sr r + i)) 240 := vp_in_nI (by omega) (by decide)
  have ecl : (nI (sr r + i)).toNatClampNeg = sr r + i := nI_clamp (by omega)
  rw [tm_cd_xt (by omega) (by omega)] at hp
  refine And.intro hin ?_
  rw [ecl, c2, c3]
  by_cases z : tx_sl (S r) (M r) i = 0
  · rw [if_pos z] at hp
    rw [z, tx_s32_0]
    exact br_t (by decide) ⟨hin, hp⟩
  · rw [if_neg z] at hp
    have := tx_sl_le (sh := S r) (nm := M r) hi
    have := tx_ch_n (sh := S r) (nm := M r) (L r)
    rw [tx_s32_p z]
    refine br_f (nI_pos (by omega)) ⟨hin, ?_⟩
    rw [nI_add, nI_l (by omega)]
    exact hp
theorem xw_isVar1 (O : sg_OK S M L m) (ht : top ≤ 256) (A : hr_A S M L m top Lv ns nn nc) {u : Nat} (l : Lv u) (h : tm_s S u = -1) {post : Int32 → Prop} (hp : post 1) : wpX_isVariable post (qB, dB, hS, ub, nT, aK, nM, cT, cL, hL, fL, kL, cls, dT, dO, dC, qT, stt, lm, sc, ac, ev, chc, cF, cTk, hT, tT, chs, cs, cn, cl, ca, ci, kS, kB, kC, kH, kP, kF, dV, qV, ns, nn, nc, tr, fP, fB, fC, fR, fT, fN, hG, hB, hF, hK, hH, hR, hC, hP, pl, pr) (tm_xt S M u) := by
  obtain ⟨g, a, _⟩ := A u l
  obtain ⟨a1, a2, _⟩ := a (tm_V_sl O g h)
  rw [tm_xt_V O g h]
  obtain ⟨k1, k2, _, _⟩ := kk_l_small (a := tm_nd S M u) (by omega)
  refine br_f k1 (br_f k2 ⟨?_, ?_⟩)
  · rw [lN_i]; exact vp_in_nI (by omega) (by decide)
  · rw [lN_i, nI_clamp (by omega), a2]
    exact br_t h hp
theorem xw_isVar0 (O : sg_OK S M L m) (ht : top ≤ 256) (A : hr_A S M L m top Lv ns nn nc) {u : Nat} (l : Lv u) (h : tm_s S u ≠ -1) {post : Int32 → Prop} (hp : post 0) : wpX_isVariable post (qB, dB, hS, ub, nT, aK, nM, cT, cL, hL, fL, kL, cls, dT, dO, dC, qT, stt, lm, sc, ac, ev, chc, cF, cTk, hT, tT, chs, cs, cn, cl, ca, ci, kS, kB, kC, kH, kP, kF, dV, qV, ns, nn, nc, tr, fP, fB, fC, fR, fT, fN, hG, hB, hF, hK, hH, hR, hC, hP, pl, pr) (tm_xt S M u) := by
  obtain ⟨g, a, _⟩ := A u l
  unfold tm_xt
  by_cases z : tm_sl S M u = 0
  · rw [if_pos z]
    exact br_f (kk_ct_nn _) (br_t (kk_ct_256 _) hp)
  · rw [if_neg z]
    obtain ⟨a1, a2, _⟩ := a z
    obtain ⟨k1, k2, _, _⟩ := kk_l_small (a := tm_nd S M u) (by omega)
    refine br_f k1 (br_f k2 ⟨?_, ?_⟩)
    · rw [lN_i]; exact vp_in_nI (by omega) (by decide)
    · rw [lN_i, nI_clamp (by omega), a2]
      exact br_f h hp
theorem xw_deref5 (O : sg_OK S M L m) (ht : top ≤ 256) (A : hr_A S M L m top Lv ns nn nc) {w : Nat} {post : Int64 → Prop} (hp : post (tm_xt S M w)) : ∀ (k n hops u : Nat), hr_p (hr_sX S M Lv nc) (hr_nX S M Lv nc) k u w → k < n → hops + k ≤ 256 → wX_dereference_5 post qB dB hS ub nT aK nM cT cL hL fL kL cls dT dO dC qT stt lm sc ac ev chc cF cTk hT tT chs cs cn cl ca ci kS kB kC kH kP kF dV qV ns nn nc tr fP fB fC fR fT fN hG hB hF hK hH hR hC hP pl pr n (tm_xt S M u) (nI hops)
  | k, 0, _, _, _, hn, _ => by omega
  | 0, n + 1, hops, u, h, hn, hh => by
    obtain ⟨e, l, q⟩ := h
    subst e
    refine pk_le 256 hops (fun _ => hp) (fun hlt => ?_)
    by_cases v : tm_s S u = -1
    · refine xw_isVar1 O ht A l v ?_
      refine br_f (by decide) ?_
      obtain ⟨g, a, _⟩ := A u l
      have a1 := (a (tm_V_sl O g v)).1
      rw [tm_xt_V O g v] at hp ⊢
      have e3 : (lN (tm_nd S M u)).toInt32 * 3 = nI (tm_nd S M u * 3) := by rw [lN_i]; exact pk_mul _ 3
      rw [e3]
      refine ⟨vp_in_nI (by omega) (by decide), nm_e ?_⟩
      rw [nI_clamp (by omega)]
      rcases q with q | q
      · exact absurd v q
      · exact br_t q hp
    · refine xw_isVar0 O ht A l v ?_
      exact br_t rfl hp
  | k + 1, n + 1, hops, u, h, hn, hh => by
    obtain ⟨t1, ⟨l, v, e, l1, o⟩, p⟩ := h
    refine pk_le 256 hops (fun hge => by omega) (fun hlt => ?_)
    refine xw_isVar1 O ht A l v ?_
    refine br_f (by decide) ?_
    obtain ⟨g, a, _⟩ := A u l
    have a1 := (a (tm_V_sl O g v)).1
    rw [tm_xt_V O g v]
    have e3 : (lN (tm_nd S M u)).toInt32 * 3 = nI (tm_nd S M u * 3) := by rw [lN_i]; exact pk_mul _ 3
    rw [e3]
    refine ⟨vp_in_nI (by omega) (by decide), nm_e ?_⟩
    rw [nI_clamp (by omega), e]
    obtain ⟨g1, b1, _⟩ := A t1 l1
    refine br_f (tm_xt_ne O g1 (fun hs => by have := (b1 hs).1; omega)) (nm_e ?_)
    rw [nI_1]
    exact xw_deref5 O ht A hp k n (hops + 1) t1 p (by omega) (by omega)
theorem xw_deref (O : sg_OK S M L m) (ht : top ≤ 256) (A : hr_A S M L m top Lv ns nn nc) (F : hr_F S M Lv nc bi FY FX) {u : Nat} (l : Lv u) {post : Int64 → Prop} (hp : post (tm_xt S M (FX u))) : wpX_dereference post (qB, dB, hS, ub, nT, aK, nM, cT, cL, hL, fL, kL, cls, dT, dO, dC, qT, stt, lm, sc, ac, ev, chc, cF, cTk, hT, tT, chs, cs, cn, cl, ca, ci, kS, kB, kC, kH, kP, kF, dV, qV, ns, nn, nc, tr, fP, fB, fC, fR, fT, fN, hG, hB, hF, hK, hH, hR, hC, hP, pl, pr) (tm_xt S M u) := by
  obtain ⟨_, ⟨k, p⟩, _⟩ := F.1 u l
  refine ⟨k + 1, xw_deref5 O ht A hp k (k + 1) 0 u p (by omega) ?_⟩
  obtain ⟨a, b⟩ := hr_kX p
  by_cases v : tm_s S u = -1
  · obtain ⟨g, c, _⟩ := A u l
    have := (c (tm_V_sl O g v)).1
    have := b v
    omega
  · have := a v; omega
theorem xw_fkey (O : sg_OK S M L m) (ht : top ≤ 256) (A : hr_A S M L m top Lv ns nn nc) {u : Nat} (l : Lv u) (h : tm_s S u ≠ -1) {post : Int64 → Prop} (hp : post (kk_mk (tm_s M u) (tm_s S u))) : wpX_functorKey post (qB, dB, hS, ub, nT, aK, nM, cT, cL, hL, fL, kL, cls, dT, dO, dC, qT, stt, lm, sc, ac, ev, chc, cF, cTk, hT, tT, chs, cs, cn, cl, ca, ci, kS, kB, kC, kH, kP, kF, dV, qV, ns, nn, nc, tr, fP, fB, fC, fR, fT, fN, hG, hB, hF, hK, hH, hR, hC, hP, pl, pr) (tm_xt S M u) := by
  obtain ⟨g, a, _⟩ := A u l
  unfold tm_xt
  by_cases z : tm_sl S M u = 0
  · rw [if_pos z]
    refine br_f (kk_ct_big _) ?_
    rw [kk_ct_and]
    rcases tm_kind O g with ⟨e, _⟩ | ⟨e, _⟩ | ⟨_, _, _, _, e⟩
    · exact absurd e h
    · rw [← e]; exact hp
    · exact absurd z e
  · rw [if_neg z]
    obtain ⟨a1, a2, a3⟩ := a z
    obtain ⟨_, _, k3, _⟩ := kk_l_small (a := tm_nd S M u) (by omega)
    refine br_t k3 ?_
    rw [lN_i, nI_clamp (by omega), a2, a3]
    exact ⟨vp_in_nI (by omega) (by decide), vp_in_nI (by omega) (by decide), hp⟩
theorem xw_shapeOf (O : sg_OK S M L m) (ht : top ≤ 256) (A : hr_A S M L m top Lv ns nn nc) {u : Nat} (l : Lv u) {post : Int32 → Prop} (hp : post (tm_s S u)) : wpX_shapeOf post (qB, dB, hS, ub, nT, aK, nM, cT, cL, hL, fL, kL, cls, dT, dO, dC, qT, stt, lm, sc, ac, ev, chc, cF, cTk, hT, tT, chs, cs, cn, cl, ca, ci, kS, kB, kC, kH, kP, kF, dV, qV, ns, nn, nc, tr, fP, fB, fC, fR, fT, fN, hG, hB, hF, hK, hH, hR, hC, hP, pl, pr) (tm_xt S M u) := by
  obtain ⟨g, a, _⟩ := A u l
  unfold tm_xt
  by_cases z : tm_sl S M u = 0
  · rw [if_pos z]
    refine br_f (kk_ct_big _) ?_
    rcases tm_kind O g with ⟨_, e, _⟩ | ⟨e, _⟩ | ⟨_, _, _, _, e⟩
    · exact absurd z e
    · rw [e] at hp; exact hp
    · exact absurd z e
  · rw [if_neg z]
    obtain ⟨a1, a2, a3⟩ := a z
    obtain ⟨k1, _, k3, k4⟩ := kk_l_small (a := tm_nd S M u) (by omega)
    refine br_t k3 (br_f k1 (br_t k4 ?_))
    rw [lN_i, nI_clamp (by omega), a2]
    exact ⟨vp_in_nI (by omega) (by decide), hp⟩
end
end
section
/-! the reference's readers -/
section
variable {cL hL fL kL cls stt lm sc ac ev chc hT yd chs : Int32} {sh nm ln bi lR lB lC lP lI gA hB hH hC hP gD gb gr gs gc gp gi yl yr : Nat → Int32} {nb : Nat}
variable {S M : Nat → Nat → Int32} {L : Nat → Nat} {m top : Nat} {Lv : Nat → Prop} {FY FX : Nat → Nat} {ns nn : Nat → Int32} {nc : Nat → Int64}
theorem sg_row (hm : m ≤ 32) {r : Nat} (h : sg_VR m r) : r < 34 ∧ r ≠ 1 := by
  rcases h with e | ⟨e1, e2⟩ <;> omega
theorem yw_rd (O : sg_OK S M L m) (C : cy_OK S M L m sh nm ln) {t : Nat} (g : tm_G S L m t) : sh (t / 512) = tm_s S t ∧ nm (t / 512) = tm_s M t := by
  obtain ⟨v, hi, _⟩ := g
  have := (C _ v).2 _ hi
  rw [hr_div]; exact this
theorem yw_512 {t : Nat} (h : t < 2 ^ 31) : nI t / 512 = nI (t / 512) := pk_div (d := 512) h (by decide) (by decide)
theorem yw_m512 {t : Nat} (h : t < 2 ^ 31) : nI t - nI t / 512 * 512 = nI (t % 512) := pk_rem (d := 512) h (by decide) (by decide)
theorem yw_ce (O : sg_OK S M L m) {t : Nat} (g : tm_G S L m t) (h : tm_s S t = -1) : ((nI t - nI t / 512 * 512) * 8) + tm_s M t = nI (tm_ce M t) := by
  rcases tm_kind O g with ⟨_, _, v, hv, e1, e2⟩ | ⟨e, _⟩ | ⟨a, _, ha, e, _⟩
  · have := (tm_lt O g).1
    rw [yw_m512 (by omega), e1, e2]
    have e3 : nI (t % 512) * 8 = nI (t % 512 * 8) := pk_mul _ 8
    rw [e3, nI_add]; rfl
  · rw [h] at e; exact absurd e.symm (tm_nI_ne (by omega))
  · rw [h] at e; exact absurd e.symm (tm_nI_ne ha)
theorem yw_fol4 (O : sg_OK S M L m) (C : cy_OK S M L m sh nm ln) (A : hr_A S M L m top Lv ns nn nc) {w : Nat} {post : Int32 → Prop} (hp : post (nI w)) : ∀ (k n hops u : Nat), hr_p (hr_sY S M Lv bi) (hr_nY S M Lv bi) k u w → k < n → hops + k ≤ 2056 → wY_follow_4 post cL hL fL kL cls stt lm sc ac ev chc hT yd chs sh nm ln bi lR lB lC lP lI gA hB hH hC hP gD gb gr gs gc gp gi yl yr nb n (nI u) (nI hops)
  | k, 0, _, _, _, hn, _ => by omega
  | 0, n + 1, hops, u, h, hn, hh => by
    obtain ⟨e, l, q⟩ := h
    subst e
    have g := (A u l).1
    obtain ⟨hu, _, _, h13⟩ := tm_lt O g
    obtain ⟨r1, r2⟩ := yw_rd O C g
    refine pk_lt 2056 hops (fun _ => hp) (fun _ => ⟨by decide, nm_r (yw_512 (by omega)) ⟨vp_in_nI h13 (by decide), ?_⟩⟩)
    rw [nI_clamp (by omega), r1]
    by_cases v : tm_s S u = -1
    · refine br_t v ⟨by decide, vp_in_nI h13 (by decide), ?_⟩
      rw [r2, yw_ce O g v]
      have := tm_ce_lt O g v
      refine ⟨vp_in_nI this (by decide), nm_e ?_⟩
      rw [nI_clamp (by omega)]
      rcases q with q | q
      · exact absurd v q
      · exact br_t q hp
    · exact br_f v hp
  | k + 1, n + 1, hops, u, h, hn, hh => by
    obtain ⟨t1, ⟨l, v, e, l1⟩, p⟩ := h
    have g := (A u l).1
    obtain ⟨hu, _, _, h13⟩ := tm_lt O g
    obtain ⟨r1, r2⟩ := yw_rd O C g
    refine pk_lt 2056 hops (fun _ => by omega) (fun _ => ⟨by decide, nm_r (yw_512 (by omega)) ⟨vp_in_nI h13 (by decide), ?_⟩⟩)
    rw [nI_clamp (by omega), r1]
    refine br_t v ⟨by decide, vp_in_nI h13 (by decide), ?_⟩
    rw [r2, yw_ce O g v]
    have := tm_ce_lt O g v
    refine ⟨vp_in_nI this (by decide), nm_e ?_⟩
    rw [nI_clamp (by omega), e]
    have g1 := (A t1 l1).1
    refine br_f (tm_nI_m1 (by have := (tm_lt O g1).1; omega)) (nm_e ?_)
    rw [nI_1]
    exact yw_fol4 O C A hp k n (hops + 1) t1 p (by omega) (by omega)
theorem yw_follow (O : sg_OK S M L m) (C : cy_OK S M L m sh nm ln) (A : hr_A S M L m top Lv ns nn nc) (F : hr_F S M Lv nc bi FY FX) {u : Nat} (l : Lv u) {post : Int32 → Prop} (hp : post (nI (FY u))) : wpY_follow post (cL, hL, fL, kL, cls, stt, lm, sc, ac, ev, chc, hT, yd, chs, sh, nm, ln, bi, lR, lB, lC, lP, lI, gA, hB, hH, hC, hP, gD, gb, gr, gs, gc, gp, gi, yl, yr, nb) (nI u) := by
  obtain ⟨k, hk, p⟩ := hr_kY (fun t l => by have := (tm_lt O (A t l).1).1; omega) (fun t l v => tm_ce_lt O (A t l).1 v) (F.1 u l).1
  exact ⟨k + 1, yw_fol4 O C A hp k (k + 1) 0 u p (by omega) (by omega)⟩
theorem yw_cellOf (O : sg_OK S M L m) (C : cy_OK S M L m sh nm ln) {u : Nat} (g : tm_G S L m u) (h : tm_s S u = -1) {post : Int32 → Prop} (hp : post (nI (tm_ce M u))) : wpY_cellOf post (cL, hL, fL, kL, cls, stt, lm, sc, ac, ev, chc, hT, yd, chs, sh, nm, ln, bi, lR, lB, lC, lP, lI, gA, hB, hH, hC, hP, gD, gb, gr, gs, gc, gp, gi, yl, yr, nb) (nI u) := by
  obtain ⟨hu, _, _, h13⟩ := tm_lt O g
  obtain ⟨r1, r2⟩ := yw_rd O C g
  refine ⟨by decide, by decide, ?_⟩
  have e : nI u / 512 = nI (u / 512) := yw_512 (by omega)
  refine ⟨by rw [e]; exact vp_in_nI h13 (by decide), ?_⟩
  rw [show (nI u / 512).toNatClampNeg = u / 512 by rw [e]; exact nI_clamp (by omega), r2, yw_ce O g h]
  exact hp
theorem yw_end7 (C : cy_OK S M L m sh nm ln) (hm : m ≤ 32) {r : Nat} (hr : sg_VR m r) (wt : tx_WT (S r) (M r) (L r)) (h40 : L r ≤ 40) {post : Int32 → Prop} {e : Nat} (hp : post (nI (r * 40 + e))) : ∀ (k n c i kk : Nat), tx_sk (S r) k c i → i + k = e → e ≤ L r → kk + k ≤ 40 → k < n → c ≤ 1000 + 3 * i → wY_endOf_7 post cL hL fL kL cls stt lm sc ac ev chc hT yd chs sh nm ln bi lR lB lC lP lI gA hB hH hC hP gD gb gr gs gc gp gi yl yr nb n (nI c) (nI (r * 40 + i)) (nI kk)
  | k, 0, _, _, _, _, _, _, _, hn, _ => by omega
  | 0, n + 1, c, i, kk, h, he, hle, hk, hn, hc => by
    have z : c = 0 := h
    subst z
    have e0 : e = i := by omega
    subst e0
    exact pk_le 40 kk (fun _ => hp) (fun _ => br_t (by decide) hp)
  | k + 1, n + 1, c, i, kk, h, he, hle, hk, hn, hc => by
    obtain ⟨h0, h1⟩ := h
    have hrow := sg_row hm hr
    obtain ⟨_, cc⟩ := C r hr
    obtain ⟨e1, _⟩ := cc i (by omega)
    refine pk_le 40 kk (fun _ => by omega) (fun _ => br_f (nI_nle h0 (by omega)) (br_f (nI_pos (by omega)) (pk_le 1360 (r * 40 + i) (fun _ => by omega) (fun _ => ⟨vp_in_nI (by omega) (by decide), nm_e (nm_r (pk_sub (a := c) (b := 1) h0) ?_)⟩))))
    rw [nI_clamp (by omega), e1]
    have har := tx_tok_ar (wt i (by omega))
    have key : (S r i ≤ 0 ∧ tx_ar (S r i) = 0) ∨ (¬ S r i ≤ 0 ∧ S r i = nI (tx_ar (S r i))) := by
      rcases wt i (by omega) with ⟨q, _⟩ | ⟨q, _⟩ | ⟨a, ha, q⟩
      · rw [q]; exact Or.inl ⟨by decide, by decide⟩
      · rw [q]; exact Or.inl ⟨by decide, by decide⟩
      · rw [q, tx_ar_n (by omega)]
        rcases Nat.eq_zero_or_pos a with rfl | hp'
        · exact Or.inl ⟨by decide, rfl⟩
        · exact Or.inr ⟨nI_nle hp' (by omega), rfl⟩
    rcases key with ⟨q1, q2⟩ | ⟨q1, q2⟩
    · rw [q2, Nat.add_zero] at h1
      refine br_t q1 (nm_r (nI_1 _) (nm_r (nI_1 _) ?_))
      exact yw_end7 C hm hr wt h40 hp k n (c - 1) (i + 1) (kk + 1) h1 (by omega) hle (by omega) (by omega) (by omega)
    · refine br_f q1 (nm_r (e' := nI (c - 1 + tx_ar (S r i))) (by rw [q2, tx_ar_n (by omega)]; exact nI_add _ _) (nm_r (nI_1 _) (nm_r (nI_1 _) ?_)))
      exact yw_end7 C hm hr wt h40 hp k n (c - 1 + tx_ar (S r i)) (i + 1) (kk + 1) h1 (by omega) hle (by omega) (by omega) (by omega)
theorem yw_endOf (O : sg_OK S M L m) (C : cy_OK S M L m sh nm ln) {r i : Nat} (hr : sg_VR m r) (hi : i < L r) {post : Int32 → Prop} (hp : post (nI (r * 40 + tx_en (S r) i))) : wpY_endOf post (cL, hL, fL, kL, cls, stt, lm, sc, ac, ev, chc, hT, yd, chs, sh, nm, ln, bi, lR, lB, lC, lP, lI, gA, hB, hH, hC, hP, gD, gb, gr, gs, gc, gp, gi, yl, yr, nb) (nI (r * 40 + i)) := by
  obtain ⟨w, h40, hop, _⟩ := O.2 r hr
  obtain ⟨a, b, c, _⟩ := tx_en_1 h40 hop hi
  exact ⟨tx_en (S r) i - i + 1, yw_end7 C O.1 hr w h40 hp (tx_en (S r) i - i) (tx_en (S r) i - i + 1) 1 i 0 c (by omega) b (by omega) (by omega) (by omega)⟩
theorem yw_arg7 (O : sg_OK S M L m) (C : cy_OK S M L m sh nm ln) {r i k : Nat} (hr : sg_VR m r) (hi : i < L r) (hk : k < tx_ar (S r i)) {post : Int32 → Prop} (hp : post (nI (r * 40 + tx_ag (S r) i k))) : ∀ (n j : Nat), j ≤ k → k - j < n → wY_argument_7 post (nI (k + 1)) cL hL fL kL cls stt lm sc ac ev chc hT yd chs sh nm ln bi lR lB lC lP lI gA hB hH hC hP gD gb gr gs gc gp gi yl yr nb n (nI (r * 40 + tx_ag (S r) i j)) (nI (j + 1))
  | 0, j, _, h => by omega
  | n + 1, j, hj, hn => by
    obtain ⟨w, h40, hop, _⟩ := O.2 r hr
    have h3 := tx_tok_ar (w i hi)
    by_cases e : j = k
    · subst e
      exact br_t (nI_le (by omega) (by omega)) hp
    · refine br_f (nI_ge (by omega) (by omega)) ?_
      obtain ⟨_, _, a3, _⟩ := tx_ag_lt h40 hop hi (show j < tx_ar (S r i) by omega)
      refine yw_endOf O C hr a3 (nm_r (nI_1 _) ?_)
      exact yw_arg7 O C hr hi hk hp n (j + 1) (by omega) (by omega)
theorem yw_argument (O : sg_OK S M L m) (C : cy_OK S M L m sh nm ln) {r i k : Nat} (hr : sg_VR m r) (hi : i < L r) (hk : k < tx_ar (S r i)) {post : Int32 → Prop} (hp : post (nI (r * 40 + tx_ag (S r) i k))) : wpY_argument post (cL, hL, fL, kL, cls, stt, lm, sc, ac, ev, chc, hT, yd, chs, sh, nm, ln, bi, lR, lB, lC, lP, lI, gA, hB, hH, hC, hP, gD, gb, gr, gs, gc, gp, gi, yl, yr, nb) (nI (r * 40 + i)) (nI (k + 1)) := by
  refine nm_r (e' := nI (r * 40 + (i + 1))) (nI_1 _) ⟨k + 1, ?_⟩
  exact yw_arg7 O C hr hi hk hp (k + 1) 0 (by omega) (by omega)
end
end
section
/-! the component builds nodes -/
def bd_F (S M : Nat → Nat → Int32) (r b lo i0 i1 : Nat) (ns nn : Nat → Int32) (nc : Nat → Int64) (ns' nn' : Nat → Int32) (nc' : Nat → Int64) : Prop :=
  (∀ n, n < b + lo → ns' n = ns n ∧ nn' n = nn n) ∧ (∀ j, j < (b + lo) * 3 → nc' j = nc j) ∧
  (∀ i, i0 ≤ i → i < i1 → lo < tx_sl (S r) (M r) i → ns' (b + (tx_sl (S r) (M r) i - 1)) = S r i ∧ nn' (b + (tx_sl (S r) (M r) i - 1)) = M r i ∧ (∀ k, k < tx_ar (S r i) → nc' ((b + (tx_sl (S r) (M r) i - 1)) * 3 + k) = tm_xt S M (hr_cd r (tx_ag (S r) i k) b)) ∧ (S r i = -1 → nc' ((b + (tx_sl (S r) (M r) i - 1)) * 3) = -1))
section
variable {cs cn cl ca ci : Nat → Int32}
variable {S M : Nat → Nat → Int32} {L : Nat → Nat} {m : Nat} {sr : Nat → Nat}
theorem xw_bn62 (O : sg_OK S M L m) (C : cx_OK S M L m sr cs cn cl ca ci) {r i b nd : Nat} (hr : sg_VR m r) (hi : i < L r) (hb : b ≤ 256) (hnd : nd < 256) (hs : S r i = -1 ∨ S r i = nI (tx_ar (S r i))) : ∀ (q k : Nat) (nc : Nat → Int64), k + q = tx_ar (S r i) → ∃ nc' : Nat → Int64, (∀ j, (j < nd * 3 + k ∨ nd * 3 + tx_ar (S r i) ≤ j) → nc' j = nc j) ∧ (∀ k', k ≤ k' → k' < tx_ar (S r i) → nc' (nd * 3 + k') = tm_xt S M (hr_cd r (tx_ag (S r) i k') b)) ∧ ∀ {qB dB hS cL hL fL kL cls dT dO dC qT stt lm sc ac ev chc cF cTk hT tT chs : Int32} {ub nT aK nM cT : Int64} {kS kB kC kH dV qV ns nn tr fP fB fC fR fT fN hG hB hF hK hH hR hC hP : Nat → Int32} {kP kF pl pr : Nat → Int64} (post : SX → Prop) (n : Nat), q < n → post (qB, dB, hS, ub, nT, aK, nM, cT, cL, hL, fL, kL, cls, dT, dO, dC, qT, stt, lm, sc, ac, ev, chc, cF, cTk, hT, tT, chs, cs, cn, cl, ca, ci, kS, kB, kC, kH, kP, kF, dV, qV, ns, nn, nc', tr, fP, fB, fC, fR, fT, fN, hG, hB, hF, hK, hH, hR, hC, hP, pl, pr) → wX_buildNode_62 post (nI b) (nI nd) (S r i) qB dB hS ub nT aK nM cT cL hL fL kL cls dT dO dC qT stt lm sc ac ev chc cF cTk hT tT chs n (nI (sr r + tx_ag (S r) i k)) (nI k) cs cn cl ca ci kS kB kC kH kP kF dV qV ns nn nc tr fP fB fC fR fT fN hG hB hF hK hH hR hC hP pl pr
  | 0, k, nc, hk => by
    obtain ⟨w, h40, hop, _⟩ := O.2 r hr
    have h3 := tx_tok_ar (w i hi)
    refine ⟨nc, fun _ _ => rfl, fun k' h1 h2 => by omega, fun post n hn hp => ?_⟩
    obtain ⟨n, rfl⟩ : ∃ n', n = n' + 1 := ⟨n - 1, by omega⟩
    have hle : S r i ≤ nI k := by
      rcases hs with q | q
      · rw [q]; exact Int32.le_trans (by decide) (nI_pos' (by omega))
      · rw [q]; exact nI_le (by omega) (by omega)
    exact br_t hle hp
  | q + 1, k, nc, hk => by
    obtain ⟨w, h40, hop, _⟩ := O.2 r hr
    have h3 := tx_tok_ar (w i hi)
    have hC := C r hr
    have hq : S r i = nI (tx_ar (S r i)) := by
      rcases hs with q | q
      · rw [q, tx_ar_m1] at hk; omega
      · exact q
    have hle : ¬ S r i ≤ nI k := by rw [hq]; exact nI_ge (by omega) (by omega)
    obtain ⟨_, _, a3, a4⟩ := tx_ag_lt h40 hop hi (show k < tx_ar (S r i) by omega)
    have e3 : nI nd * 3 + nI k = nI (nd * 3 + k) := by rw [← nI_add]; exact congrArg (· + nI k) (pk_mul nd 3)
    obtain ⟨nc', f1, f2, f3⟩ := xw_bn62 O C hr hi hb hnd hs q (k + 1) (vp_updL nc (nd * 3 + k) (tm_xt S M (hr_cd r (tx_ag (S r) i k) b))) (by omega)
    refine ⟨nc', fun j hj => ?_, fun k' h1 h2 => ?_, fun post n hn hp => ?_⟩
    · rw [f1 j (by omega), pk_uLn (by omega)]
    · by_cases ek : k' = k
      · subst ek; rw [f1 _ (by omega), pk_uLs]
      · exact f2 k' (by omega) h2
    · obtain ⟨n, rfl⟩ : ∃ n', n = n' + 1 := ⟨n - 1, by omega⟩
      refine br_f hle (xw_termAt O C hr a3 hb ?_)
      rw [e3]
      refine ⟨vp_in_nI (by omega) (by decide), nm_e ⟨vp_in_nI (by omega) (by decide), nm_r (e' := nI (sr r + tx_ag (S r) i (k + 1))) ?_ (nm_r (nI_1 _) ?_)⟩⟩
      · rw [nI_clamp (by omega)]
        exact ((hC.2 _ a3).2.2.2.1)
      · rw [nI_clamp (by omega)]
        exact f3 post n (by omega) hp
theorem xw_buildNode (O : sg_OK S M L m) (C : cx_OK S M L m sr cs cn cl ca ci) {r i b : Nat} (hr : sg_VR m r) (hi : i < L r) (hb : b + tx_ch (S r) (M r) (L r) ≤ 256) (hz : tx_sl (S r) (M r) i ≠ 0) (ns nn : Nat → Int32) (nc : Nat → Int64) : ∃ nc' : Nat → Int64, (∀ j, (j < (b + (tx_sl (S r) (M r) i - 1)) * 3 ∨ (b + (tx_sl (S r) (M r) i - 1)) * 3 + 3 ≤ j) → nc' j = nc j) ∧ (∀ k, k < tx_ar (S r i) → nc' ((b + (tx_sl (S r) (M r) i - 1)) * 3 + k) = tm_xt S M (hr_cd r (tx_ag (S r) i k) b)) ∧ (S r i = -1 → nc' ((b + (tx_sl (S r) (M r) i - 1)) * 3) = -1) ∧ ∀ {qB dB hS cL hL fL kL cls dT dO dC qT stt lm sc ac ev chc cF cTk hT tT chs : Int32} {ub nT aK nM cT : Int64} {kS kB kC kH dV qV tr fP fB fC fR fT fN hG hB hF hK hH hR hC hP : Nat → Int32} {kP kF pl pr : Nat → Int64} (post : SX → Prop), post (qB, dB, hS, ub, nT, aK, nM, cT, cL, hL, fL, kL, cls, dT, dO, dC, qT, stt, lm, sc, ac, ev, chc, cF, cTk, hT, tT, chs, cs, cn, cl, ca, ci, kS, kB, kC, kH, kP, kF, dV, qV, upd ns (b + (tx_sl (S r) (M r) i - 1)) (S r i), upd nn (b + (tx_sl (S r) (M r) i - 1)) (M r i), nc', tr, fP, fB, fC, fR, fT, fN, hG, hB, hF, hK, hH, hR, hC, hP, pl, pr) → wpX_buildNode post (qB, dB, hS, ub, nT, aK, nM, cT, cL, hL, fL, kL, cls, dT, dO, dC, qT, stt, lm, sc, ac, ev, chc, cF, cTk, hT, tT, chs, cs, cn, cl, ca, ci, kS, kB, kC, kH, kP, kF, dV, qV, ns, nn, nc, tr, fP, fB, fC, fR, fT, fN, hG, hB, hF, hK, hH, hR, hC, hP, pl, pr) (nI (sr r + i)) (nI b) := by
  obtain ⟨w, h40, hop, _⟩ := O.2 r hr
  obtain ⟨hs, c⟩ := C r hr
  obtain ⟨c1, c2, c3, _⟩ := c i hi
  have hin : vp_in (nI (sr r + i)) 240 := vp_in_nI (by omega) (by decide)
  have ecl : (nI (sr r + i)).toNatClampNeg = sr r + i := nI_clamp (by omega)
  have hsl := tx_sl_le (sh := S r) (nm := M r) hi
  have htok := w i hi
  have h3 := tx_tok_ar htok
  generalize hnd : b + (tx_sl (S r) (M r) i - 1) = nd
  have hnd2 : nd < 256 := by omega
  have e1 : nI b + cl (nI (sr r + i)).toNatClampNeg = nI nd := by rw [ecl, c3, tx_s32_p hz, nI_add, hnd]
  have e2 : cs (nI (sr r + i)).toNatClampNeg = S r i := by rw [ecl, c1]
  have e3 : cn (nI (sr r + i)).toNatClampNeg = M r i := by rw [ecl, c2]
  have en : (nI nd).toNatClampNeg = nd := nI_clamp (by omega)
  have e4 : nI nd * 3 = nI (nd * 3) := pk_mul nd 3
  by_cases v : S r i = -1
  · have har : tx_ar (S r i) = 0 := by rw [v, tx_ar_m1]
    obtain ⟨nc', f1, f2, f3⟩ := xw_bn62 O C hr hi (show b ≤ 256 by omega) hnd2 (Or.inl v) 0 0 (vp_updL nc (nd * 3) (-1)) (by omega)
    refine ⟨nc', fun j hj => ?_, fun k hk => by omega, fun _ => ?_, fun post hp => ?_⟩
    · rw [f1 j (by omega), pk_uLn (by omega)]
    · rw [f1 _ (by omega), pk_uLs]
    · refine And.intro hin (nm_r e1 ⟨hin, nm_r e2 ⟨vp_in_nI hnd2 (by decide), nm_e ⟨hin, vp_in_nI hnd2 (by decide), nm_e ?_⟩⟩⟩)
      rw [en, e3]
      refine br_t v ?_
      rw [e4]
      refine ⟨vp_in_nI (by omega) (by decide), nm_e (nm_r (e' := nI (sr r + tx_ag (S r) i 0)) (nI_1 _) ⟨1, ?_⟩)⟩
      rw [nI_clamp (by omega)]
      exact f3 post 1 (by omega) hp
  · have hq : S r i = nI (tx_ar (S r i)) := by
      rcases htok with ⟨_, q, _⟩ | ⟨q, _⟩ | ⟨a, ha, q⟩
      · exact absurd (tx_sl_c0 v (Or.inr q)) hz
      · exact absurd q v
      · rw [q, tx_ar_n (by omega)]
    obtain ⟨nc', f1, f2, f3⟩ := xw_bn62 O C hr hi (show b ≤ 256 by omega) hnd2 (Or.inr hq) (tx_ar (S r i)) 0 nc (by omega)
    refine ⟨nc', fun j hj => f1 j (by omega), fun k hk => f2 k (by omega) hk, fun h => absurd h v, fun post hp => ?_⟩
    refine And.intro hin (nm_r e1 ⟨hin, nm_r e2 ⟨vp_in_nI hnd2 (by decide), nm_e ⟨hin, vp_in_nI hnd2 (by decide), nm_e ?_⟩⟩⟩)
    rw [en, e3]
    exact br_f v (nm_r (e' := nI (sr r + tx_ag (S r) i 0)) (nI_1 _) ⟨tx_ar (S r i) + 1, f3 post _ (by omega) hp⟩)
theorem tx_nm_eq {n : Nat} {r i k : Nat} (w : tx_WT (S r) (M r) n) (hi : i < n) (hk : k < n) (vi : S r i = -1) (vk : S r k = -1) (e : (M r i).toNatClampNeg = (M r k).toNatClampNeg) : M r i = M r k := by
  have aux : ∀ j, j < n → S r j = -1 → ∃ v, v < 8 ∧ M r j = nI v := by
    intro j hj vj
    rcases w j hj with ⟨q, _⟩ | ⟨_, _, q⟩ | ⟨a, ha, q⟩
    · rw [vj] at q; exact absurd q (by decide)
    · exact q
    · rw [vj] at q; exact absurd q.symm (tm_nI_ne ha)
  obtain ⟨v, hv, ev⟩ := aux i hi vi
  obtain ⟨v', hv', ev'⟩ := aux k hk vk
  rw [ev, ev', nI_clamp (by omega), nI_clamp (by omega)] at e
  rw [ev, ev', e]
theorem xw_bd3 (O : sg_OK S M L m) (C : cx_OK S M L m sr cs cn cl ca ci) {r b lo i0 i1 : Nat} (hr : sg_VR m r) (h1 : i1 ≤ L r) (hb : b + tx_ch (S r) (M r) (L r) ≤ 256) (hlo : lo ≤ 256) {ns0 nn0 : Nat → Int32} {nc0 : Nat → Int64} : ∀ (q i : Nat) (ns nn : Nat → Int32) (nc : Nat → Int64), i0 ≤ i → i + q = i1 → bd_F S M r b lo i0 i ns0 nn0 nc0 ns nn nc → ∃ (ns' nn' : Nat → Int32) (nc' : Nat → Int64), bd_F S M r b lo i0 i1 ns0 nn0 nc0 ns' nn' nc' ∧ ∀ {qB dB hS cL hL fL kL cls dT dO dC qT stt lm sc ac ev chc cF cTk hT tT chs : Int32} {ub nT aK nM cT : Int64} {kS kB kC kH dV qV tr fP fB fC fR fT fN hG hB hF hK hH hR hC hP : Nat → Int32} {kP kF pl pr : Nat → Int64} (post : SX → Prop) (n : Nat), q < n → post (qB, dB, hS, ub, nT, aK, nM, cT, cL, hL, fL, kL, cls, dT, dO, dC, qT, stt, lm, sc, ac, ev, chc, cF, cTk, hT, tT, chs, cs, cn, cl, ca, ci, kS, kB, kC, kH, kP, kF, dV, qV, ns', nn', nc', tr, fP, fB, fC, fR, fT, fN, hG, hB, hF, hK, hH, hR, hC, hP, pl, pr) → wX_build_3 post (nI (sr r + i1)) (nI b) (nI lo) n (nI (sr r + i)) qB dB hS ub nT aK nM cT cL hL fL kL cls dT dO dC qT stt lm sc ac ev chc cF cTk hT tT chs cs cn cl ca ci kS kB kC kH kP kF dV qV ns nn nc tr fP fB fC fR fT fN hG hB hF hK hH hR hC hP pl pr
  | 0, i, ns, nn, nc, h0, hi, g => by
    have hC := (C r hr).1
    have h40 := (O.2 r hr).2.1
    have e : i = i1 := by omega
    subst e
    refine ⟨ns, nn, nc, g, fun post n hn hp => ?_⟩
    obtain ⟨n, rfl⟩ : ∃ n', n = n' + 1 := ⟨n - 1, by omega⟩
    exact br_t (nI_le (Nat.le_refl _) (by omega)) hp
  | q + 1, i, ns, nn, nc, h0, hi, g => by
    obtain ⟨w, h40, hop, _⟩ := O.2 r hr
    obtain ⟨hs, c⟩ := C r hr
    obtain ⟨c1, c2, c3, _⟩ := c i (by omega)
    have ecl : (nI (sr r + i)).toNatClampNeg = sr r + i := nI_clamp (by omega)
    have hsl := tx_sl_le (sh := S r) (nm := M r) (show i < L r by omega)
    by_cases z : tx_sl (S r) (M r) i ≤ lo
    · have hlt : tx_s32 (tx_sl (S r) (M r) i) < nI lo := by
        by_cases z0 : tx_sl (S r) (M r) i = 0
        · rw [z0, tx_s32_0]
          rw [Int32.lt_iff_toInt_lt, nI_toInt (by omega)]
          have : (-1 : Int32).toInt = -1 := by decide
          rw [this]; omega
        · rw [tx_s32_p z0]; exact nI_lt (by omega) (by omega)
      obtain ⟨ns', nn', nc', f1, f2⟩ := xw_bd3 (i0 := i0) (i1 := i1) (ns0 := ns0) (nn0 := nn0) (nc0 := nc0) O C hr h1 hb hlo q (i + 1) ns nn nc (by omega) (by omega) ⟨g.1, g.2.1, fun j a b' c' => by
        by_cases ej : j = i
        · subst ej; omega
        · exact g.2.2 j a (by omega) c'⟩
      refine ⟨ns', nn', nc', f1, fun post n hn hp => ?_⟩
      obtain ⟨n, rfl⟩ : ∃ n', n = n' + 1 := ⟨n - 1, by omega⟩
      refine br_f (nI_ge (by omega) (by omega)) ⟨vp_in_nI (by omega) (by decide), ?_⟩
      rw [ecl, c3]
      exact br_t hlt (nm_r (nI_1 _) (f2 post n (by omega) hp))
    · have hlt : ¬ tx_s32 (tx_sl (S r) (M r) i) < nI lo := by
        rw [tx_s32_p (by omega)]; exact nI_nlt (by omega) (by omega)
      obtain ⟨nc1, q1, q2, q3, q4⟩ := xw_buildNode O C hr (show i < L r by omega) hb (show tx_sl (S r) (M r) i ≠ 0 by omega) ns nn nc
      obtain ⟨ns', nn', nc', f1, f2⟩ := xw_bd3 (i0 := i0) (i1 := i1) (ns0 := ns0) (nn0 := nn0) (nc0 := nc0) O C hr h1 hb hlo q (i + 1) _ _ nc1 (by omega) (by omega) (show bd_F S M r b lo i0 (i + 1) ns0 nn0 nc0 (upd ns (b + (tx_sl (S r) (M r) i - 1)) (S r i)) (upd nn (b + (tx_sl (S r) (M r) i - 1)) (M r i)) nc1 from ⟨fun n' hn' => by
        rw [pk_un (by omega), pk_un (by omega)]; exact g.1 n' hn', fun j hj => by
        rw [q1 j (by omega)]; exact g.2.1 j hj, fun j ja jb jc => by
        by_cases es : tx_sl (S r) (M r) j = tx_sl (S r) (M r) i
        · have hsame : S r j = S r i ∧ M r j = M r i ∧ (j = i ∨ S r i = -1) := by
            rcases tx_sl_inj es (by omega) with ⟨a1, a2, a3⟩ | ⟨a1, a2⟩
            · exact ⟨by rw [a1, a2], tx_nm_eq w (by omega) (by omega) a1 a2 a3, Or.inr a2⟩
            · subst a2; exact ⟨rfl, rfl, Or.inl rfl⟩
          obtain ⟨s1, s2, s3⟩ := hsame
          rw [es, pk_us, pk_us, s1, s2]
          refine ⟨rfl, rfl, ?_, q3⟩
          rcases s3 with s3 | s3
          · subst s3; exact q2
          · intro k hk
            rw [s3, tx_ar_m1] at hk; omega
        · obtain ⟨p1, p2, p3, p4⟩ := g.2.2 j ja (by
            by_cases ej : j = i
            · subst ej; exact absurd rfl es
            · omega) jc
          rw [pk_un (by omega), pk_un (by omega)]
          refine ⟨p1, p2, fun k hk => ?_, fun v => ?_⟩
          · have h3 := tx_tok_ar (w j (by omega))
            rw [q1 _ (by omega)]; exact p3 k hk
          · rw [q1 _ (by omega)]; exact p4 v⟩)
      refine ⟨ns', nn', nc', f1, fun post n hn hp => ?_⟩
      obtain ⟨n, rfl⟩ : ∃ n', n = n' + 1 := ⟨n - 1, by omega⟩
      refine br_f (nI_ge (by omega) (by omega)) ⟨vp_in_nI (by omega) (by decide), ?_⟩
      rw [ecl, c3]
      refine br_f hlt (q4 _ ?_)
      exact nm_r (nI_1 _) (f2 post n (by omega) hp)
theorem xw_build (O : sg_OK S M L m) (C : cx_OK S M L m sr cs cn cl ca ci) {r b lo i0 i1 : Nat} (hr : sg_VR m r) (h0 : i0 ≤ i1) (h1 : i1 ≤ L r) (hb : b + tx_ch (S r) (M r) (L r) ≤ 256) (hlo : lo ≤ 256) (ns nn : Nat → Int32) (nc : Nat → Int64) : ∃ (ns' nn' : Nat → Int32) (nc' : Nat → Int64), bd_F S M r b lo i0 i1 ns nn nc ns' nn' nc' ∧ ∀ {qB dB hS cL hL fL kL cls dT dO dC qT stt lm sc ac ev chc cF cTk hT tT chs : Int32} {ub nT aK nM cT : Int64} {kS kB kC kH dV qV tr fP fB fC fR fT fN hG hB hF hK hH hR hC hP : Nat → Int32} {kP kF pl pr : Nat → Int64} (post : SX → Prop), post (qB, dB, hS, ub, nT, aK, nM, cT, cL, hL, fL, kL, cls, dT, dO, dC, qT, stt, lm, sc, ac, ev, chc, cF, cTk, hT, tT, chs, cs, cn, cl, ca, ci, kS, kB, kC, kH, kP, kF, dV, qV, ns', nn', nc', tr, fP, fB, fC, fR, fT, fN, hG, hB, hF, hK, hH, hR, hC, hP, pl, pr) → wpX_build post (qB, dB, hS, ub, nT, aK, nM, cT, cL, hL, fL, kL, cls, dT, dO, dC, qT, stt, lm, sc, ac, ev, chc, cF, cTk, hT, tT, chs, cs, cn, cl, ca, ci, kS, kB, kC, kH, kP, kF, dV, qV, ns, nn, nc, tr, fP, fB, fC, fR, fT, fN, hG, hB, hF, hK, hH, hR, hC, hP, pl, pr) (nI (sr r + i0)) (nI (sr r + i1)) (nI b) (nI lo) := by
  obtain ⟨ns', nn', nc', f1, f2⟩ := xw_bd3 O C hr h1 hb hlo (i1 - i0) i0 ns nn nc (Nat.le_refl _) (by omega) (show bd_F S M r b lo i0 i0 ns nn nc ns nn nc from ⟨fun _ _ => ⟨rfl, rfl⟩, fun _ _ => rfl, fun j a b _ => by omega⟩)
  exact ⟨ns', nn', nc', f1, fun post hp => ⟨_, f2 post (i1 - i0 + 1) (by omega) hp⟩⟩
end
end
section
/-! pairs of the unification, binding -/
def pw_L (f : Nat → Int64) (lo hi : Nat) (v : Nat → Int64) : Nat → Int64 := fun x => if lo ≤ x ∧ x < hi then v x else f x
def pw_I (f : Nat → Int32) (lo hi : Nat) (v : Nat → Int32) : Nat → Int32 := fun x => if lo ≤ x ∧ x < hi then v x else f x
theorem pw_Lin {f : Nat → Int64} {lo hi x : Nat} {v : Nat → Int64} (h : lo ≤ x) (h' : x < hi) : pw_L f lo hi v x = v x := if_pos ⟨h, h'⟩
theorem pw_Iin {f : Nat → Int32} {lo hi x : Nat} {v : Nat → Int32} (h : lo ≤ x) (h' : x < hi) : pw_I f lo hi v x = v x := if_pos ⟨h, h'⟩
theorem pw_Lo {f : Nat → Int64} {lo hi x : Nat} {v : Nat → Int64} (h : x < lo ∨ hi ≤ x) : pw_L f lo hi v x = f x := if_neg (by omega)
theorem pw_Io {f : Nat → Int32} {lo hi x : Nat} {v : Nat → Int32} (h : x < lo ∨ hi ≤ x) : pw_I f lo hi v x = f x := if_neg (by omega)
theorem pw_L0 {f : Nat → Int64} {lo hi : Nat} {v : Nat → Int64} (h : hi ≤ lo) : pw_L f lo hi v = f := funext fun x => pw_Lo (by omega)
theorem pw_I0 {f : Nat → Int32} {lo hi : Nat} {v : Nat → Int32} (h : hi ≤ lo) : pw_I f lo hi v = f := funext fun x => pw_Io (by omega)
theorem pw_Lup {f : Nat → Int64} {lo hi : Nat} {v : Nat → Int64} (h : lo ≤ hi) : vp_updL (pw_L f lo hi v) hi (v hi) = pw_L f lo (hi + 1) v := by
  funext x
  by_cases e : x = hi
  · subst e; rw [pk_uLs, pw_Lin h (by omega)]
  · rw [pk_uLn e]
    by_cases z : lo ≤ x ∧ x < hi
    · rw [pw_Lin z.1 z.2, pw_Lin z.1 (by omega)]
    · rw [pw_Lo (by omega), pw_Lo (by omega)]
theorem pw_Iup {f : Nat → Int32} {lo hi : Nat} {v : Nat → Int32} (h : lo ≤ hi) : upd (pw_I f lo hi v) hi (v hi) = pw_I f lo (hi + 1) v := by
  funext x
  by_cases e : x = hi
  · subst e; rw [pk_us, pw_Iin h (by omega)]
  · rw [pk_un e]
    by_cases z : lo ≤ x ∧ x < hi
    · rw [pw_Iin z.1 z.2, pw_Iin z.1 (by omega)]
    · rw [pw_Io (by omega), pw_Io (by omega)]
theorem pw_Ldn {f : Nat → Int64} {lo hi : Nat} {v : Nat → Int64} (h : lo < hi) : vp_updL (pw_L f (lo + 1) hi v) lo (v lo) = pw_L f lo hi v := by
  funext x
  by_cases e : x = lo
  · subst e; rw [pk_uLs, pw_Lin (by omega) h]
  · rw [pk_uLn e]
    by_cases z : lo ≤ x ∧ x < hi
    · rw [pw_Lin (by omega) z.2, pw_Lin z.1 z.2]
    · rw [pw_Lo (by omega), pw_Lo (by omega)]
theorem tx_s32_m (q : Nat) : nI q + (-1) = tx_s32 q := (Int32.sub_eq_add_neg ..).symm
section
variable {qB dB hS : Int32} {ub nT aK nM cT : Int64} {cL hL fL kL cls dT dO dC qT stt lm sc ac ev chc cF cTk hT tT chs : Int32} {cs cn cl ca ci kS kB kC kH dV qV ns nn tr fP fB fC fR fT fN hG hB hF hK hH hR hC hP : Nat → Int32} {kP kF nc pl pr : Nat → Int64}
variable {S M : Nat → Nat → Int32} {L : Nat → Nat} {m top : Nat} {sr : Nat → Nat} {Lv : Nat → Prop}
theorem xw_pg24 (O : sg_OK S M L m) (C : cx_OK S M L m sr cs cn cl ca ci) {r i b r' i' b' a : Nat} (hr : sg_VR m r) (hr' : sg_VR m r') (hi : i < L r) (hi' : i' < L r') (hb : b ≤ 256) (hb' : b' ≤ 256) (ha : tx_ar (S r i) = a) (ha' : tx_ar (S r' i') = a) {post : Int32 → SX → Prop} {vl vr : Nat → Int64} (hvl : ∀ x, x < a → vl x = tm_xt S M (hr_cd r (tx_ag (S r) i (a - 1 - x)) b)) (hvr : ∀ x, x < a → vr x = tm_xt S M (hr_cd r' (tx_ag (S r') i' (a - 1 - x)) b')) (hp : post (nI a) (qB, dB, hS, ub, nT, aK, nM, cT, cL, hL, fL, kL, cls, dT, dO, dC, qT, stt, lm, sc, ac, ev, chc, cF, cTk, hT, tT, chs, cs, cn, cl, ca, ci, kS, kB, kC, kH, kP, kF, dV, qV, ns, nn, nc, tr, fP, fB, fC, fR, fT, fN, hG, hB, hF, hK, hH, hR, hC, hP, pw_L pl 0 a vl, pw_L pr 0 a vr)) : ∀ (q n : Nat), q ≤ a → q < n → wX_pushGoalPairs_24 post (nI b) (nI b') (nI a) qB dB hS ub nT aK nM cT cL hL fL kL cls dT dO dC qT stt lm sc ac ev chc cF cTk hT tT chs n (nI (sr r + tx_ag (S r) i (a - q))) (nI (sr r' + tx_ag (S r') i' (a - q))) (tx_s32 q) cs cn cl ca ci kS kB kC kH kP kF dV qV ns nn nc tr fP fB fC fR fT fN hG hB hF hK hH hR hC hP (pw_L pl q a vl) (pw_L pr q a vr)
  | _, 0, _, h => by omega
  | 0, n + 1, _, _ => by
    rw [tx_s32_0]
    exact br_t (by decide) hp
  | q + 1, n + 1, hq, hn => by
    obtain ⟨w, h40, hop, _⟩ := O.2 r hr
    obtain ⟨w', h40', hop', _⟩ := O.2 r' hr'
    have h3 := tx_tok_ar (w i hi)
    obtain ⟨_, _, a3, _⟩ := tx_ag_lt h40 hop hi (show a - (q + 1) < tx_ar (S r i) by omega)
    obtain ⟨_, _, a3', _⟩ := tx_ag_lt h40' hop' hi' (show a - (q + 1) < tx_ar (S r' i') by omega)
    obtain ⟨hs, c⟩ := C r hr
    obtain ⟨hs', c'⟩ := C r' hr'
    rw [tx_s32_s]
    refine br_f (nI_pos (by omega)) (xw_termAt O C hr a3 hb ⟨vp_in_nI (by omega) (by decide), nm_r (e' := pw_L pl q a vl) ?_ (xw_termAt O C hr' a3' hb' ⟨vp_in_nI (by omega) (by decide), nm_r (e' := pw_L pr q a vr) ?_ ⟨vp_in_nI (by omega) (by decide), nm_r (e' := nI (sr r + tx_ag (S r) i (a - q))) ?_ ⟨vp_in_nI (by omega) (by decide), nm_r (e' := nI (sr r' + tx_ag (S r') i' (a - q))) ?_ (nm_r (tx_s32_m q) ?_)⟩⟩⟩)⟩)
    · rw [nI_clamp (by omega), ← pw_Ldn (show q < a by omega), hvl q (by omega), show a - 1 - q = a - (q + 1) by omega]
    · rw [nI_clamp (by omega), ← pw_Ldn (show q < a by omega), hvr q (by omega), show a - 1 - q = a - (q + 1) by omega]
    · rw [nI_clamp (by omega), (c _ a3).2.2.2.1, show a - q = (a - (q + 1)) + 1 by omega]; rfl
    · rw [nI_clamp (by omega), (c' _ a3').2.2.2.1, show a - q = (a - (q + 1)) + 1 by omega]; rfl
    · exact xw_pg24 O C hr hr' hi hi' hb hb' ha ha' hvl hvr hp q n (by omega) (by omega)
theorem xw_pushGoal (O : sg_OK S M L m) (C : cx_OK S M L m sr cs cn cl ca ci) {r i b r' i' b' a : Nat} (hr : sg_VR m r) (hr' : sg_VR m r') (hi : i < L r) (hi' : i' < L r') (hb : b ≤ 256) (hb' : b' ≤ 256) (ha : S r i = nI a) (ha' : S r' i' = nI a) (h3 : a ≤ 3) {post : Int32 → SX → Prop} {vl vr : Nat → Int64} (hvl : ∀ x, x < a → vl x = tm_xt S M (hr_cd r (tx_ag (S r) i (a - 1 - x)) b)) (hvr : ∀ x, x < a → vr x = tm_xt S M (hr_cd r' (tx_ag (S r') i' (a - 1 - x)) b')) (hp : post (nI a) (qB, dB, hS, ub, nT, aK, nM, cT, cL, hL, fL, kL, cls, dT, dO, dC, qT, stt, lm, sc, ac, ev, chc, cF, cTk, hT, tT, chs, cs, cn, cl, ca, ci, kS, kB, kC, kH, kP, kF, dV, qV, ns, nn, nc, tr, fP, fB, fC, fR, fT, fN, hG, hB, hF, hK, hH, hR, hC, hP, pw_L pl 0 a vl, pw_L pr 0 a vr)) : wpX_pushGoalPairs post (qB, dB, hS, ub, nT, aK, nM, cT, cL, hL, fL, kL, cls, dT, dO, dC, qT, stt, lm, sc, ac, ev, chc, cF, cTk, hT, tT, chs, cs, cn, cl, ca, ci, kS, kB, kC, kH, kP, kF, dV, qV, ns, nn, nc, tr, fP, fB, fC, fR, fT, fN, hG, hB, hF, hK, hH, hR, hC, hP, pl, pr) (nI (sr r + i)) (nI b) (nI (sr r' + i')) (nI b') := by
  obtain ⟨hs, c⟩ := C r hr
  obtain ⟨hs', c'⟩ := C r' hr'
  have h40 := (O.2 r hr).2.1
  have h40' := (O.2 r' hr').2.1
  refine And.intro (vp_in_nI (by omega) (by decide)) (nm_r (e' := nI a) ?_ (nm_r (e' := nI (sr r + (i + 1))) (nI_1 _) (nm_r (e' := nI (sr r' + (i' + 1))) (nI_1 _) (nm_r (e' := tx_s32 a) rfl ⟨a + 1, ?_⟩))))
  · rw [nI_clamp (by omega), (c' i' hi').1, ha']
  · have := xw_pg24 (pl := pl) (pr := pr) O C hr hr' hi hi' hb hb' (show tx_ar (S r i) = a by rw [ha, tx_ar_n (by omega)]) (show tx_ar (S r' i') = a by rw [ha', tx_ar_n (by omega)]) hvl hvr hp a (a + 1) (Nat.le_refl _) (by omega)
    rw [pw_L0 (Nat.le_refl _), pw_L0 (Nat.le_refl _), Nat.sub_self] at this
    exact this
theorem xw_pa17 (O : sg_OK S M L m) (ht : top ≤ 256) (A : hr_A S M L m top Lv ns nn nc) {u w a d : Nat} (lu : Lv u) (lw : Lv w) (ha : tm_s S u = nI a) (ha' : tm_s S w = nI a) (h3 : a ≤ 3) (hd : d + 3 ≤ 208) {post : Int32 → SX → Prop} {vl vr : Nat → Int64} (hvl : ∀ x, x < a → vl (d + x) = tm_xt S M (tm_ag S u (a - 1 - x))) (hvr : ∀ x, x < a → vr (d + x) = tm_xt S M (tm_ag S w (a - 1 - x))) (hp : post (nI (d + a)) (qB, dB, hS, ub, nT, aK, nM, cT, cL, hL, fL, kL, cls, dT, dO, dC, qT, stt, lm, sc, ac, ev, chc, cF, cTk, hT, tT, chs, cs, cn, cl, ca, ci, kS, kB, kC, kH, kP, kF, dV, qV, ns, nn, nc, tr, fP, fB, fC, fR, fT, fN, hG, hB, hF, hK, hH, hR, hC, hP, pw_L pl d (d + a) vl, pw_L pr d (d + a) vr)) : ∀ (q n : Nat), q ≤ a → q < n → wX_pushArgumentPairs_17 post (tm_xt S M u) (tm_xt S M w) qB dB hS ub nT aK nM cT cL hL fL kL cls dT dO dC qT stt lm sc ac ev chc cF cTk hT tT chs n (nI (d + (a - q))) (tx_s32 q) cs cn cl ca ci kS kB kC kH kP kF dV qV ns nn nc tr fP fB fC fR fT fN hG hB hF hK hH hR hC hP (pw_L pl d (d + (a - q)) vl) (pw_L pr d (d + (a - q)) vr)
  | _, 0, _, h => by omega
  | 0, n + 1, _, _ => by
    rw [tx_s32_0]
    exact br_t (by decide) hp
  | q + 1, n + 1, hq, hn => by
    obtain ⟨gu, au, cu⟩ := A u lu
    obtain ⟨gw, aw, cw⟩ := A w lw
    have hk : q < tx_ar (tm_s S u) := by rw [ha, tx_ar_n (by omega)]; omega
    have hk' : q < tx_ar (tm_s S w) := by rw [ha', tx_ar_n (by omega)]; omega
    have su := tm_ar_sl O gu hk
    have sw := tm_ar_sl O gw hk'
    have nu := (au su).1
    have nw := (aw sw).1
    have eu : tm_xt S M u = lN (tm_nd S M u) := by unfold tm_xt; rw [if_neg su]
    have ew : tm_xt S M w = lN (tm_nd S M w) := by unfold tm_xt; rw [if_neg sw]
    have iu : (tm_xt S M u).toInt32 * 3 + nI q = nI (tm_nd S M u * 3 + q) := by rw [eu, lN_i, ← nI_add]; exact congrArg (· + nI q) (pk_mul _ 3)
    have iw : (tm_xt S M w).toInt32 * 3 + nI q = nI (tm_nd S M w * 3 + q) := by rw [ew, lN_i, ← nI_add]; exact congrArg (· + nI q) (pk_mul _ 3)
    rw [tx_s32_s]
    refine br_f (nI_pos (by omega)) ⟨?_, vp_in_nI (by omega) (by decide), nm_r (e' := pw_L pl d (d + (a - q)) vl) ?_ ⟨?_, vp_in_nI (by omega) (by decide), nm_r (e' := pw_L pr d (d + (a - q)) vr) ?_ (nm_r (e' := nI (d + (a - q))) ?_ (nm_r (tx_s32_m q) ?_))⟩⟩
    · rw [iu]; exact vp_in_nI (by omega) (by decide)
    · rw [iu, nI_clamp (by omega), nI_clamp (by omega), (cu q hk).2, show a - q = (a - (q + 1)) + 1 by omega, ← Nat.add_assoc, ← pw_Lup (by omega), hvl _ (by omega), show a - 1 - (a - (q + 1)) = q by omega]
    · rw [iw]; exact vp_in_nI (by omega) (by decide)
    · rw [iw, nI_clamp (by omega), nI_clamp (by omega), (cw q hk').2, show a - q = (a - (q + 1)) + 1 by omega, ← Nat.add_assoc, ← pw_Lup (by omega), hvr _ (by omega), show a - 1 - (a - (q + 1)) = q by omega]
    · rw [nI_1, show d + (a - (q + 1)) + 1 = d + (a - q) by omega]
    · exact xw_pa17 O ht A lu lw ha ha' h3 hd hvl hvr hp q n (by omega) (by omega)
theorem xw_pushArgs (O : sg_OK S M L m) (ht : top ≤ 256) (A : hr_A S M L m top Lv ns nn nc) {u w a d : Nat} (lu : Lv u) (lw : Lv w) (ha : tm_s S u = nI a) (ha' : tm_s S w = nI a) (h3 : a ≤ 3) (hd : d + 3 ≤ 208) {post : Int32 → SX → Prop} {vl vr : Nat → Int64} (hvl : ∀ x, x < a → vl (d + x) = tm_xt S M (tm_ag S u (a - 1 - x))) (hvr : ∀ x, x < a → vr (d + x) = tm_xt S M (tm_ag S w (a - 1 - x))) (hp : post (nI (d + a)) (qB, dB, hS, ub, nT, aK, nM, cT, cL, hL, fL, kL, cls, dT, dO, dC, qT, stt, lm, sc, ac, ev, chc, cF, cTk, hT, tT, chs, cs, cn, cl, ca, ci, kS, kB, kC, kH, kP, kF, dV, qV, ns, nn, nc, tr, fP, fB, fC, fR, fT, fN, hG, hB, hF, hK, hH, hR, hC, hP, pw_L pl d (d + a) vl, pw_L pr d (d + a) vr)) : wpX_pushArgumentPairs post (qB, dB, hS, ub, nT, aK, nM, cT, cL, hL, fL, kL, cls, dT, dO, dC, qT, stt, lm, sc, ac, ev, chc, cF, cTk, hT, tT, chs, cs, cn, cl, ca, ci, kS, kB, kC, kH, kP, kF, dV, qV, ns, nn, nc, tr, fP, fB, fC, fR, fT, fN, hG, hB, hF, hK, hH, hR, hC, hP, pl, pr) (tm_xt S M u) (tm_xt S M w) (nI d) := by
  have := xw_pa17 (pl := pl) (pr := pr) O ht A lu lw ha ha' h3 hd hvl hvr hp a (a + 1) (Nat.le_refl _) (by omega)
  rw [show d + (a - a) = d by omega, pw_L0 (Nat.le_refl _), pw_L0 (Nat.le_refl _)] at this
  unfold wpX_pushArgumentPairs
  refine xw_shapeOf O ht A lu (nm_r (e' := tx_s32 a) ?_ ⟨a + 1, this⟩)
  rw [ha]; rfl
end
section
variable {chs tT : Int32} {hH tr : Nat → Int32} {nc : Nat → Int64}
theorem xw_bind {H k hb T n : Nat} {x : Int64} (hk : chs = nI k) (hk32 : k ≤ 32) (hyH : (k = 0 ∧ H = 0) ∨ (0 < k ∧ hH (k - 1) = nI H)) (hHb : H ≤ hb) (hb256 : hb ≤ 256) (hyT : tT = nI T) (f : tf_ok tr T hb nc) (hn : n < 256) (hz : nc (n * 3) = -1) (hx : ¬ x = -1) : ∃ (tr' : Nat → Int32) (T' : Nat), us_ok H tr T nc tr' T' (vp_updL nc (n * 3) x) ∧ tf_ok tr' T' hb (vp_updL nc (n * 3) x) ∧ ∀ {qB dB hS cL hL fL kL cls dT dO dC qT stt lm sc ac ev chc cF cTk hT : Int32} {ub nT aK nM cT : Int64} {cs cn cl ca ci kS kB kC kH dV qV ns nn fP fB fC fR fT fN hG hB hF hK hR hC hP : Nat → Int32} {kP kF pl pr : Nat → Int64} (post : SX → Prop), post (qB, dB, hS, ub, nT, aK, nM, cT, cL, hL, fL, kL, cls, dT, dO, dC, qT, stt, lm, sc, ac, ev, chc, cF, cTk, hT, nI T', chs, cs, cn, cl, ca, ci, kS, kB, kC, kH, kP, kF, dV, qV, ns, nn, vp_updL nc (n * 3) x, tr', fP, fB, fC, fR, fT, fN, hG, hB, hF, hK, hH, hR, hC, hP, pl, pr) → wpX_bind post (qB, dB, hS, ub, nT, aK, nM, cT, cL, hL, fL, kL, cls, dT, dO, dC, qT, stt, lm, sc, ac, ev, chc, cF, cTk, hT, tT, chs, cs, cn, cl, ca, ci, kS, kB, kC, kH, kP, kF, dV, qV, ns, nn, nc, tr, fP, fB, fC, fR, fT, fN, hG, hB, hF, hK, hH, hR, hC, hP, pl, pr) (lN n) x := by
  have e3 : (lN n).toInt32 * 3 = nI (n * 3) := by rw [lN_i]; exact pk_mul n 3
  have hT256 := tf_lt f hb256 hn hz
  subst hk hyT
  rcases hyH with ⟨k0, H0⟩ | ⟨k0, hH0⟩
  · subst k0 H0
    refine ⟨tr, T, us_un (Nat.zero_le _), tf_bind f hx, fun post hp => ?_⟩
    refine And.intro (by rw [e3]; exact vp_in_nI (by omega) (by decide)) (nm_r (e' := vp_updL nc (n * 3) x) (by rw [e3, nI_clamp (by omega)]) ?_)
    exact br_t (by decide) hp
  · have ek : nI k - 1 = nI (k - 1) := pk_sub (b := 1) k0
    by_cases c : H ≤ n
    · refine ⟨tr, T, us_un c, tf_bind f hx, fun post hp => ?_⟩
      refine And.intro (by rw [e3]; exact vp_in_nI (by omega) (by decide)) (nm_r (e' := vp_updL nc (n * 3) x) (by rw [e3, nI_clamp (by omega)]) ?_)
      refine br_f (nI_nle k0 (by omega)) ?_
      rw [ek, nI_clamp (by omega), hH0, lN_i]
      exact ⟨vp_in_nI (by omega) (by decide), br_t (nI_le c (by omega)) hp⟩
    · refine ⟨upd tr T (nI n), T + 1, us_ad (by omega) hz, tf_push f hx hb256 (by omega) hz, fun post hp => ?_⟩
      refine And.intro (by rw [e3]; exact vp_in_nI (by omega) (by decide)) (nm_r (e' := vp_updL nc (n * 3) x) (by rw [e3, nI_clamp (by omega)]) ?_)
      refine br_f (nI_nle k0 (by omega)) ?_
      rw [ek, nI_clamp (by omega), hH0, lN_i]
      refine ⟨vp_in_nI (by omega) (by decide), br_f (nI_ge (by omega) (by omega)) (pk_le 256 T (fun h => by omega) (fun _ => ⟨vp_in_nI hT256 (by decide), nm_r (e' := upd tr T (nI n)) ?_ (nm_r (nI_1 T) hp)⟩))⟩
      rw [nI_clamp (by omega)]
end
section
variable {cL hL fL kL cls stt lm sc ac ev chc hT yd chs : Int32} {sh nm ln bi lR lB lC lP lI gA hB hH hC hP gD gb gr gs gc gp gi yl yr : Nat → Int32} {nb : Nat}
variable {S M : Nat → Nat → Int32} {L : Nat → Nat} {m : Nat} {J78 : Int32 → Int32 → (Nat → Int32) → (Nat → Int32) → (Nat → Int32) → (Nat → Int32) → (Nat → Int32) → (Nat → Int32) → (Nat → Int32) → (Nat → Int32) → (Nat → Int32) → (Nat → Int32) → (Nat → Int32) → (Nat → Int32) → (Nat → Int32) → (Nat → Int32) → (Nat → Int32) → (Nat → Int32) → (Nat → Int32) → (Nat → Int32) → (Nat → Int32) → (Nat → Int32) → (Nat → Int32) → (Nat → Int32) → (Nat → Int32) → Prop} {post : Int32 → SY → Prop}
theorem yw_cd {r i b : Nat} : nI (r * 40 + i) * 512 + nI b = nI (hr_cd r i b) := by
  have e : nI (r * 40 + i) * 512 = nI ((r * 40 + i) * 512) := pk_mul _ 512
  rw [e, nI_add]; rfl
theorem yw_u294 (O : sg_OK S M L m) (C : cy_OK S M L m sh nm ln) {u w a d : Nat} {x6 : Int32} (gu : tm_G S L m u) (gw : tm_G S L m w) (ha : tm_s S u = nI a) (ha' : tm_s S w = nI a) (h3 : a ≤ 3) (hd : d + 3 ≤ 303) {vl vr : Nat → Int32} (hvl : ∀ x, x < a → vl (d + x) = nI (tm_ag S u (a - 1 - x))) (hvr : ∀ x, x < a → vr (d + x) = nI (tm_ag S w (a - 1 - x))) (hp : J78 (nI (d + a)) (x6 + 1) sh nm ln bi lR lB lC lP lI gA hB hH hC hP gD gb gr gs gc gp gi (pw_I yl d (d + a) vl) (pw_I yr d (d + a) vr)) : ∀ (q n : Nat), q ≤ a → q < n → wY_unify_294 post J78 x6 (nI u) (nI w) (nI (u / 512)) (nI (w / 512)) cL hL fL kL cls stt lm sc ac ev chc hT yd chs nb n (nI (d + (a - q))) (nI q) sh nm ln bi lR lB lC lP lI gA hB hH hC hP gD gb gr gs gc gp gi (pw_I yl d (d + (a - q)) vl) (pw_I yr d (d + (a - q)) vr)
  | _, 0, _, h => by omega
  | 0, n + 1, _, _ => br_t (by decide) (nm_e hp)
  | q + 1, n + 1, hq, hn => by
    have lu := (tm_lt O gu).1
    have lw := (tm_lt O gw).1
    have hk : q < tx_ar (tm_s S u) := by rw [ha, tx_ar_n (by omega)]; omega
    have hk' : q < tx_ar (tm_s S w) := by rw [ha', tx_ar_n (by omega)]; omega
    refine br_f (nI_nlt (b := 1) (by omega) (by omega)) ?_
    rw [hr_div u, hr_div w]
    refine yw_argument O C gu.1 gu.2.1 hk (yw_argument O C gw.1 gw.2.1 hk' ⟨by decide, vp_in_nI (by omega) (by decide), nm_r (e' := pw_I yl d (d + (a - q)) vl) ?_ ⟨by decide, vp_in_nI (by omega) (by decide), nm_r (e' := pw_I yr d (d + (a - q)) vr) ?_ (nm_r (e' := nI (d + (a - q))) ?_ (nm_r (pk_m1 q) ?_))⟩⟩)
    · rw [yw_m512 (by omega), yw_cd, nI_clamp (by omega), show a - q = (a - (q + 1)) + 1 by omega, ← Nat.add_assoc, ← pw_Iup (by omega), hvl _ (by omega), show a - 1 - (a - (q + 1)) = q by omega]; rfl
    · rw [yw_m512 (by omega), yw_cd, nI_clamp (by omega), show a - q = (a - (q + 1)) + 1 by omega, ← Nat.add_assoc, ← pw_Iup (by omega), hvr _ (by omega), show a - 1 - (a - (q + 1)) = q by omega]; rfl
    · rw [nI_1, show d + (a - (q + 1)) + 1 = d + (a - q) by omega]
    · rw [← hr_div u, ← hr_div w]
      exact yw_u294 O C gu gw ha ha' h3 hd hvl hvr hp q n (by omega) (by omega)
theorem yw_u11 (O : sg_OK S M L m) (C : cy_OK S M L m sh nm ln) {r i b r' i' b' a : Nat} (hr : sg_VR m r) (hr' : sg_VR m r') (hi : i < L r) (hi' : i' < L r') (hb : b ≤ 256) (hb' : b' ≤ 256) (ha : S r i = nI a) (ha' : S r' i' = nI a) (h3 : a ≤ 3) {vl vr : Nat → Int32} (hvl : ∀ x, x < a → vl x = nI (hr_cd r (tx_ag (S r) i (a - 1 - x)) b)) (hvr : ∀ x, x < a → vr x = nI (hr_cd r' (tx_ag (S r') i' (a - 1 - x)) b')) (hp : ∃ n78, wY_unify_78 post cL hL fL kL cls stt lm sc ac ev chc hT yd chs nb n78 (nI a) 0 sh nm ln bi lR lB lC lP lI gA hB hH hC hP gD gb gr gs gc gp gi (pw_I yl 0 a vl) (pw_I yr 0 a vr)) : ∀ (q n : Nat), q ≤ a → q < n → wY_unify_11 post (nI (r * 40 + i)) (nI b) (nI (r' * 40 + i')) (nI b') cL hL fL kL cls stt lm sc ac ev chc hT yd chs nb n (nI (a - q)) (nI q) sh nm ln bi lR lB lC lP lI gA hB hH hC hP gD gb gr gs gc gp gi (pw_I yl 0 (a - q) vl) (pw_I yr 0 (a - q) vr)
  | _, 0, _, h => by omega
  | 0, n + 1, _, _ => br_t (by decide) hp
  | q + 1, n + 1, hq, hn => by
    have hk : q < tx_ar (S r i) := by rw [ha, tx_ar_n (by omega)]; omega
    have hk' : q < tx_ar (S r' i') := by rw [ha', tx_ar_n (by omega)]; omega
    refine br_f (nI_nlt (b := 1) (by omega) (by omega)) ?_
    refine yw_argument O C hr hi hk (yw_argument O C hr' hi' hk' ⟨vp_in_nI (by omega) (by decide), nm_r (e' := pw_I yl 0 (a - q) vl) ?_ ⟨vp_in_nI (by omega) (by decide), nm_r (e' := pw_I yr 0 (a - q) vr) ?_ (nm_r (e' := nI (a - q)) ?_ (nm_r (pk_m1 q) ?_))⟩⟩)
    · rw [yw_cd, nI_clamp (by omega), show a - q = (a - (q + 1)) + 1 by omega, ← pw_Iup (by omega), hvl _ (by omega), show a - 1 - (a - (q + 1)) = q by omega]
    · rw [yw_cd, nI_clamp (by omega), show a - q = (a - (q + 1)) + 1 by omega, ← pw_Iup (by omega), hvr _ (by omega), show a - 1 - (a - (q + 1)) = q by omega]
    · rw [nI_1, show a - (q + 1) + 1 = a - q by omega]
    · exact yw_u11 O C hr hr' hi hi' hb hb' ha ha' h3 hvl hvr hp q n (by omega) (by omega)
end
end
section
/-! the unification of both sides, in lockstep -/
def pr_OK (S M : Nat → Nat → Int32) (Lv : Nat → Prop) (d : Nat) (pl pr : Nat → Int64) (yl yr : Nat → Int32) : Prop := ∀ j, j < d → ∃ s t, Lv s ∧ Lv t ∧ pl j = tm_xt S M s ∧ pr j = tm_xt S M t ∧ yl j = nI s ∧ yr j = nI t
section
variable {qB dB hS : Int32} {ub nT aK nM cT : Int64} {cL hL fL kL cls dT dO dC qT stt lm sc ac ev chc cF cTk hT tT chs : Int32} {cs cn cl ca ci kS kB kC kH dV qV ns nn tr fP fB fC fR fT fN hG hB hF hK hH hR hC hP : Nat → Int32} {kP kF nc pl pr : Nat → Int64}
variable {S M : Nat → Nat → Int32} {L : Nat → Nat} {m top : Nat} {Lv : Nat → Prop} {post : Int32 → SX → Prop} {u w d wk n : Nat}
theorem xw_u_mis (O : sg_OK S M L m) (ht : top ≤ 256) (A : hr_A S M L m top Lv ns nn nc) (lu : Lv u) (lw : Lv w) (hd : d < 208) (hw : wk < 100) (D1 : ∀ post : Int64 → Prop, post (tm_xt S M u) → wpX_dereference post (qB, dB, hS, ub, nT, aK, nM, cT, cL, hL, fL, kL, cls, dT, dO, dC, qT, stt, lm, sc, ac, ev, chc, cF, cTk, hT, tT, chs, cs, cn, cl, ca, ci, kS, kB, kC, kH, kP, kF, dV, qV, ns, nn, nc, tr, fP, fB, fC, fR, fT, fN, hG, hB, hF, hK, hH, hR, hC, hP, pl, pr) (pl d)) (D2 : ∀ post : Int64 → Prop, post (tm_xt S M w) → wpX_dereference post (qB, dB, hS, ub, nT, aK, nM, cT, cL, hL, fL, kL, cls, dT, dO, dC, qT, stt, lm, sc, ac, ev, chc, cF, cTk, hT, tT, chs, cs, cn, cl, ca, ci, kS, kB, kC, kH, kP, kF, dV, qV, ns, nn, nc, tr, fP, fB, fC, fR, fT, fN, hG, hB, hF, hK, hH, hR, hC, hP, pl, pr) (pr d)) (vu : tm_s S u ≠ -1) (vw : tm_s S w ≠ -1) (hne : ¬ kk_mk (tm_s M u) (tm_s S u) = kk_mk (tm_s M w) (tm_s S w)) (hp : post 2 (qB, dB, hS, ub, nT, aK, nM, cT, cL, hL, fL, kL, cls, dT, dO, dC, qT, stt, lm, sc, ac, ev, chc, cF, cTk, hT, tT, chs, cs, cn, cl, ca, ci, kS, kB, kC, kH, kP, kF, dV, qV, ns, nn, nc, tr, fP, fB, fC, fR, fT, fN, hG, hB, hF, hK, hH, hR, hC, hP, pl, pr)) : wX_unifyHead_14 post (n + 1) (nI (d + 1)) (nI wk) qB dB hS ub nT aK nM cT cL hL fL kL cls dT dO dC qT stt lm sc ac ev chc cF cTk hT tT chs cs cn cl ca ci kS kB kC kH kP kF dV qV ns nn nc tr fP fB fC fR fT fN hG hB hF hK hH hR hC hP pl pr := by
  refine br_f (nI_ge (b := 100) hw (by decide)) (br_f (nI_nle (by omega) (by omega)) (nm_r (pk_m1 d) ⟨vp_in_nI hd (by decide), ?_⟩))
  rw [nI_clamp (by omega)]
  refine D1 _ ⟨vp_in_nI hd (by decide), D2 _ ?_⟩
  exact xw_isVar0 O ht A lu vu (xw_isVar0 O ht A lw vw (br_t rfl (br_t rfl (xw_fkey O ht A lu vu (xw_fkey O ht A lw vw (br_f hne hp))))))
theorem xw_u_fun (O : sg_OK S M L m) (ht : top ≤ 256) (A : hr_A S M L m top Lv ns nn nc) (lu : Lv u) (lw : Lv w) (hd : d + 3 ≤ 208) (hw : wk < 100) (D1 : ∀ post : Int64 → Prop, post (tm_xt S M u) → wpX_dereference post (qB, dB, hS, ub, nT, aK, nM, cT, cL, hL, fL, kL, cls, dT, dO, dC, qT, stt, lm, sc, ac, ev, chc, cF, cTk, hT, tT, chs, cs, cn, cl, ca, ci, kS, kB, kC, kH, kP, kF, dV, qV, ns, nn, nc, tr, fP, fB, fC, fR, fT, fN, hG, hB, hF, hK, hH, hR, hC, hP, pl, pr) (pl d)) (D2 : ∀ post : Int64 → Prop, post (tm_xt S M w) → wpX_dereference post (qB, dB, hS, ub, nT, aK, nM, cT, cL, hL, fL, kL, cls, dT, dO, dC, qT, stt, lm, sc, ac, ev, chc, cF, cTk, hT, tT, chs, cs, cn, cl, ca, ci, kS, kB, kC, kH, kP, kF, dV, qV, ns, nn, nc, tr, fP, fB, fC, fR, fT, fN, hG, hB, hF, hK, hH, hR, hC, hP, pl, pr) (pr d)) {a : Nat} (ha : tm_s S u = nI a) (ha' : tm_s S w = nI a) (h3 : a ≤ 3) (hn : tm_s M u = tm_s M w) {vl vr : Nat → Int64} (hvl : ∀ x, x < a → vl (d + x) = tm_xt S M (tm_ag S u (a - 1 - x))) (hvr : ∀ x, x < a → vr (d + x) = tm_xt S M (tm_ag S w (a - 1 - x))) (hp : wX_unifyHead_14 post n (nI (d + a)) (nI (wk + 1)) qB dB hS ub nT aK nM cT cL hL fL kL cls dT dO dC qT stt lm sc ac ev chc cF cTk hT tT chs cs cn cl ca ci kS kB kC kH kP kF dV qV ns nn nc tr fP fB fC fR fT fN hG hB hF hK hH hR hC hP (pw_L pl d (d + a) vl) (pw_L pr d (d + a) vr)) : wX_unifyHead_14 post (n + 1) (nI (d + 1)) (nI wk) qB dB hS ub nT aK nM cT cL hL fL kL cls dT dO dC qT stt lm sc ac ev chc cF cTk hT tT chs cs cn cl ca ci kS kB kC kH kP kF dV qV ns nn nc tr fP fB fC fR fT fN hG hB hF hK hH hR hC hP pl pr := by
  have vu : tm_s S u ≠ -1 := by rw [ha]; exact tm_nI_ne h3
  have vw : tm_s S w ≠ -1 := by rw [ha']; exact tm_nI_ne h3
  refine br_f (nI_ge (b := 100) hw (by decide)) (br_f (nI_nle (by omega) (by omega)) (nm_r (pk_m1 d) ⟨vp_in_nI (by omega) (by decide), ?_⟩))
  rw [nI_clamp (by omega)]
  refine D1 _ ⟨vp_in_nI (by omega) (by decide), D2 _ ?_⟩
  refine xw_isVar0 O ht A lu vu (xw_isVar0 O ht A lw vw (br_t rfl (br_t rfl (xw_fkey O ht A lu vu (xw_fkey O ht A lw vw (br_t ?_ (xw_pushArgs O ht A lu lw ha ha' h3 hd hvl hvr (nm_r (nI_1 wk) hp))))))))
  rw [ha, ha', hn]
theorem xw_u_same (O : sg_OK S M L m) (ht : top ≤ 256) (A : hr_A S M L m top Lv ns nn nc) (lu : Lv u) (lw : Lv w) (hd : d < 208) (hw : wk < 100) (D1 : ∀ post : Int64 → Prop, post (tm_xt S M u) → wpX_dereference post (qB, dB, hS, ub, nT, aK, nM, cT, cL, hL, fL, kL, cls, dT, dO, dC, qT, stt, lm, sc, ac, ev, chc, cF, cTk, hT, tT, chs, cs, cn, cl, ca, ci, kS, kB, kC, kH, kP, kF, dV, qV, ns, nn, nc, tr, fP, fB, fC, fR, fT, fN, hG, hB, hF, hK, hH, hR, hC, hP, pl, pr) (pl d)) (D2 : ∀ post : Int64 → Prop, post (tm_xt S M w) → wpX_dereference post (qB, dB, hS, ub, nT, aK, nM, cT, cL, hL, fL, kL, cls, dT, dO, dC, qT, stt, lm, sc, ac, ev, chc, cF, cTk, hT, tT, chs, cs, cn, cl, ca, ci, kS, kB, kC, kH, kP, kF, dV, qV, ns, nn, nc, tr, fP, fB, fC, fR, fT, fN, hG, hB, hF, hK, hH, hR, hC, hP, pl, pr) (pr d)) (vu : tm_s S u = -1) (vw : tm_s S w = -1) (he : tm_xt S M u = tm_xt S M w) (hp : wX_unifyHead_14 post n (nI d) (nI (wk + 1)) qB dB hS ub nT aK nM cT cL hL fL kL cls dT dO dC qT stt lm sc ac ev chc cF cTk hT tT chs cs cn cl ca ci kS kB kC kH kP kF dV qV ns nn nc tr fP fB fC fR fT fN hG hB hF hK hH hR hC hP pl pr) : wX_unifyHead_14 post (n + 1) (nI (d + 1)) (nI wk) qB dB hS ub nT aK nM cT cL hL fL kL cls dT dO dC qT stt lm sc ac ev chc cF cTk hT tT chs cs cn cl ca ci kS kB kC kH kP kF dV qV ns nn nc tr fP fB fC fR fT fN hG hB hF hK hH hR hC hP pl pr := by
  refine br_f (nI_ge (b := 100) hw (by decide)) (br_f (nI_nle (by omega) (by omega)) (nm_r (pk_m1 d) ⟨vp_in_nI hd (by decide), ?_⟩))
  rw [nI_clamp (by omega)]
  refine D1 _ ⟨vp_in_nI hd (by decide), D2 _ ?_⟩
  exact xw_isVar1 O ht A lu vu (xw_isVar1 O ht A lw vw (br_f (by decide) (br_t he (nm_r (nI_1 wk) hp))))
theorem xw_u_bind (O : sg_OK S M L m) (ht : top ≤ 256) (A : hr_A S M L m top Lv ns nn nc) (lu : Lv u) (lw : Lv w) (hd : d < 208) (hw : wk < 100) (D1 : ∀ post : Int64 → Prop, post (tm_xt S M u) → wpX_dereference post (qB, dB, hS, ub, nT, aK, nM, cT, cL, hL, fL, kL, cls, dT, dO, dC, qT, stt, lm, sc, ac, ev, chc, cF, cTk, hT, tT, chs, cs, cn, cl, ca, ci, kS, kB, kC, kH, kP, kF, dV, qV, ns, nn, nc, tr, fP, fB, fC, fR, fT, fN, hG, hB, hF, hK, hH, hR, hC, hP, pl, pr) (pl d)) (D2 : ∀ post : Int64 → Prop, post (tm_xt S M w) → wpX_dereference post (qB, dB, hS, ub, nT, aK, nM, cT, cL, hL, fL, kL, cls, dT, dO, dC, qT, stt, lm, sc, ac, ev, chc, cF, cTk, hT, tT, chs, cs, cn, cl, ca, ci, kS, kB, kC, kH, kP, kF, dV, qV, ns, nn, nc, tr, fP, fB, fC, fR, fT, fN, hG, hB, hF, hK, hH, hR, hC, hP, pl, pr) (pr d)) (he : ¬ tm_xt S M u = tm_xt S M w) {p q : Nat} (ho : (p = u ∧ q = w ∧ tm_s S u = -1 ∧ (tm_s S w = -1 → tm_nd S M w < tm_nd S M u)) ∨ (p = w ∧ q = u ∧ tm_s S w = -1 ∧ (tm_s S u = -1 → tm_nd S M u < tm_nd S M w))) {tT' : Int32} {tr' : Nat → Int32} {nc' : Nat → Int64} (B : ∀ post : SX → Prop, post (qB, dB, hS, ub, nT, aK, nM, cT, cL, hL, fL, kL, cls, dT, dO, dC, qT, stt, lm, sc, ac, ev, chc, cF, cTk, hT, tT', chs, cs, cn, cl, ca, ci, kS, kB, kC, kH, kP, kF, dV, qV, ns, nn, nc', tr', fP, fB, fC, fR, fT, fN, hG, hB, hF, hK, hH, hR, hC, hP, pl, pr) → wpX_bind post (qB, dB, hS, ub, nT, aK, nM, cT, cL, hL, fL, kL, cls, dT, dO, dC, qT, stt, lm, sc, ac, ev, chc, cF, cTk, hT, tT, chs, cs, cn, cl, ca, ci, kS, kB, kC, kH, kP, kF, dV, qV, ns, nn, nc, tr, fP, fB, fC, fR, fT, fN, hG, hB, hF, hK, hH, hR, hC, hP, pl, pr) (tm_xt S M p) (tm_xt S M q)) (hp : wX_unifyHead_14 post n (nI d) (nI (wk + 1)) qB dB hS ub nT aK nM cT cL hL fL kL cls dT dO dC qT stt lm sc ac ev chc cF cTk hT tT' chs cs cn cl ca ci kS kB kC kH kP kF dV qV ns nn nc' tr' fP fB fC fR fT fN hG hB hF hK hH hR hC hP pl pr) : wX_unifyHead_14 post (n + 1) (nI (d + 1)) (nI wk) qB dB hS ub nT aK nM cT cL hL fL kL cls dT dO dC qT stt lm sc ac ev chc cF cTk hT tT chs cs cn cl ca ci kS kB kC kH kP kF dV qV ns nn nc tr fP fB fC fR fT fN hG hB hF hK hH hR hC hP pl pr := by
  have gu := (A u lu).1
  have gw := (A w lw).1
  refine br_f (nI_ge (b := 100) hw (by decide)) (br_f (nI_nle (by omega) (by omega)) (nm_r (pk_m1 d) ⟨vp_in_nI hd (by decide), ?_⟩))
  rw [nI_clamp (by omega)]
  refine D1 _ ⟨vp_in_nI hd (by decide), D2 _ ?_⟩
  by_cases vu : tm_s S u = -1
  · have nu := ((A u lu).2.1 (tm_V_sl O gu vu)).1
    refine xw_isVar1 O ht A lu vu ?_
    by_cases vw : tm_s S w = -1
    · have nw := ((A w lw).2.1 (tm_V_sl O gw vw)).1
      refine xw_isVar1 O ht A lw vw (br_f (by decide) (br_f he (br_f (by decide) (br_f (by decide) ?_))))
      rcases ho with ⟨e1, e2, _, o⟩ | ⟨e1, e2, _, o⟩
      · subst e1 e2
        have := o vw
        refine br_f ?_ (B _ (nm_r (nI_1 wk) hp))
        rw [tm_xt_V O gu vu, tm_xt_V O gw vw, lN_le (by omega) (by omega)]; omega
      · subst e1 e2
        have := o vu
        refine br_t ?_ (B _ (nm_r (nI_1 wk) hp))
        rw [tm_xt_V O gu vu, tm_xt_V O gw vw, lN_le (by omega) (by omega)]; omega
    · rcases ho with ⟨e1, e2, _, o⟩ | ⟨_, _, v, _⟩
      · subst e1 e2
        exact xw_isVar0 O ht A lw vw (br_f (by decide) (br_f he (br_f (by decide) (br_t rfl (B _ (nm_r (nI_1 wk) hp))))))
      · exact absurd v vw
  · rcases ho with ⟨_, _, v, _⟩ | ⟨e1, e2, vw, _⟩
    · exact absurd v vu
    · subst e1 e2
      exact xw_isVar0 O ht A lu vu (xw_isVar1 O ht A lw vw (br_t rfl (br_f (by decide) (br_f he (br_t rfl (B _ (nm_r (nI_1 wk) hp)))))))
end
section
variable {cL hL fL kL cls stt lm sc ac ev chc hT yd chs : Int32} {sh nm ln bi lR lB lC lP lI gA hB hH hC hP gD gb gr gs gc gp gi yl yr : Nat → Int32} {nb : Nat}
variable {S M : Nat → Nat → Int32} {L : Nat → Nat} {m : Nat} {post : Int32 → SY → Prop} {u w d wk n : Nat}
theorem yw_u_pre (O : sg_OK S M L m) (C : cy_OK S M L m sh nm ln) (gu : tm_G S L m u) (gw : tm_G S L m w) : nI u / 512 = nI (u / 512) ∧ nI w / 512 = nI (w / 512) ∧ vp_in (nI (u / 512)) 1360 ∧ vp_in (nI (w / 512)) 1360 ∧ sh (nI (u / 512)).toNatClampNeg = tm_s S u ∧ sh (nI (w / 512)).toNatClampNeg = tm_s S w ∧ nm (nI (u / 512)).toNatClampNeg = tm_s M u ∧ nm (nI (w / 512)).toNatClampNeg = tm_s M w := by
  obtain ⟨hu, _, _, h13⟩ := tm_lt O gu
  obtain ⟨hw, _, _, h13'⟩ := tm_lt O gw
  obtain ⟨r1, r2⟩ := yw_rd O C gu
  obtain ⟨r1', r2'⟩ := yw_rd O C gw
  refine ⟨yw_512 (by omega), yw_512 (by omega), vp_in_nI h13 (by decide), vp_in_nI h13' (by decide), ?_, ?_, ?_, ?_⟩
  · rw [nI_clamp (by omega), r1]
  · rw [nI_clamp (by omega), r1']
  · rw [nI_clamp (by omega), r2]
  · rw [nI_clamp (by omega), r2']
theorem yw_u_mis (O : sg_OK S M L m) (C : cy_OK S M L m sh nm ln) (gu : tm_G S L m u) (gw : tm_G S L m w) (hd : d < 303) (hw : wk < 100) (D1 : ∀ post : Int32 → Prop, post (nI u) → wpY_follow post (cL, hL, fL, kL, cls, stt, lm, sc, ac, ev, chc, hT, yd, chs, sh, nm, ln, bi, lR, lB, lC, lP, lI, gA, hB, hH, hC, hP, gD, gb, gr, gs, gc, gp, gi, yl, yr, nb) (yl d)) (D2 : ∀ post : Int32 → Prop, post (nI w) → wpY_follow post (cL, hL, fL, kL, cls, stt, lm, sc, ac, ev, chc, hT, yd, chs, sh, nm, ln, bi, lR, lB, lC, lP, lI, gA, hB, hH, hC, hP, gD, gb, gr, gs, gc, gp, gi, yl, yr, nb) (yr d)) (vu : tm_s S u ≠ -1) (vw : tm_s S w ≠ -1) (hne : ¬ (tm_s S u = tm_s S w ∧ tm_s M u = tm_s M w)) (hp : post 2 (cL, hL, fL, kL, cls, stt, lm, sc, ac, ev, chc, hT, yd, chs, sh, nm, ln, bi, lR, lB, lC, lP, lI, gA, hB, hH, hC, hP, gD, gb, gr, gs, gc, gp, gi, yl, yr, nb)) : wY_unify_78 post cL hL fL kL cls stt lm sc ac ev chc hT yd chs nb (n + 1) (nI (d + 1)) (nI wk) sh nm ln bi lR lB lC lP lI gA hB hH hC hP gD gb gr gs gc gp gi yl yr := by
  obtain ⟨a1, a2, a3, a4, a5, a6, a7, a8⟩ := yw_u_pre O C gu gw
  refine br_f (nI_nlt (b := wk) (a := 100) (by omega) (by decide)) (br_f (nI_ne0 (by omega) (by omega)) (br_f (fun e => by have := (nI_eq (a := wk) (b := 100) (by omega) (by decide)).mp e; omega) (nm_r (pk_m1 d) ⟨vp_in_nI hd (by decide), ?_⟩)))
  rw [nI_clamp (by omega)]
  refine D1 _ ⟨vp_in_nI hd (by decide), D2 _ ⟨by decide, nm_r a1 ⟨by decide, nm_r a2 ⟨a3, ?_⟩⟩⟩⟩
  rw [a5, a6, a7, a8]
  refine br_f vu ⟨a4, br_f vw ⟨a3, a4, ?_⟩⟩
  by_cases e : tm_s S u = tm_s S w
  · exact br_t e ⟨a3, a4, br_f (fun e' => hne ⟨e, e'⟩) hp⟩
  · exact br_f e hp
theorem yw_u_fun (O : sg_OK S M L m) (C : cy_OK S M L m sh nm ln) (gu : tm_G S L m u) (gw : tm_G S L m w) (hd : d + 3 ≤ 303) (hw : wk < 100) (D1 : ∀ post : Int32 → Prop, post (nI u) → wpY_follow post (cL, hL, fL, kL, cls, stt, lm, sc, ac, ev, chc, hT, yd, chs, sh, nm, ln, bi, lR, lB, lC, lP, lI, gA, hB, hH, hC, hP, gD, gb, gr, gs, gc, gp, gi, yl, yr, nb) (yl d)) (D2 : ∀ post : Int32 → Prop, post (nI w) → wpY_follow post (cL, hL, fL, kL, cls, stt, lm, sc, ac, ev, chc, hT, yd, chs, sh, nm, ln, bi, lR, lB, lC, lP, lI, gA, hB, hH, hC, hP, gD, gb, gr, gs, gc, gp, gi, yl, yr, nb) (yr d)) {a : Nat} (ha : tm_s S u = nI a) (ha' : tm_s S w = nI a) (h3 : a ≤ 3) (hn : tm_s M u = tm_s M w) {vl vr : Nat → Int32} (hvl : ∀ x, x < a → vl (d + x) = nI (tm_ag S u (a - 1 - x))) (hvr : ∀ x, x < a → vr (d + x) = nI (tm_ag S w (a - 1 - x))) (hp : wY_unify_78 post cL hL fL kL cls stt lm sc ac ev chc hT yd chs nb n (nI (d + a)) (nI (wk + 1)) sh nm ln bi lR lB lC lP lI gA hB hH hC hP gD gb gr gs gc gp gi (pw_I yl d (d + a) vl) (pw_I yr d (d + a) vr)) : wY_unify_78 post cL hL fL kL cls stt lm sc ac ev chc hT yd chs nb (n + 1) (nI (d + 1)) (nI wk) sh nm ln bi lR lB lC lP lI gA hB hH hC hP gD gb gr gs gc gp gi yl yr := by
  have vu : tm_s S u ≠ -1 := by rw [ha]; exact tm_nI_ne h3
  have vw : tm_s S w ≠ -1 := by rw [ha']; exact tm_nI_ne h3
  obtain ⟨a1, a2, a3, a4, a5, a6, a7, a8⟩ := yw_u_pre O C gu gw
  refine br_f (nI_nlt (b := wk) (a := 100) (by omega) (by decide)) (br_f (nI_ne0 (by omega) (by omega)) (br_f (fun e => by have := (nI_eq (a := wk) (b := 100) (by omega) (by decide)).mp e; omega) (nm_r (pk_m1 d) ⟨vp_in_nI (by omega) (by decide), ?_⟩)))
  rw [nI_clamp (by omega)]
  refine D1 _ ⟨vp_in_nI (by omega) (by decide), D2 _ ⟨by decide, nm_r a1 ⟨by decide, nm_r a2 ⟨a3, ?_⟩⟩⟩⟩
  rw [a5, a6, a7, a8]
  refine br_f vu ⟨a4, br_f vw ⟨a3, a4, br_t (by rw [ha, ha']) ⟨a3, a4, br_t hn ⟨a3, nm_r ha ⟨a + 1, ?_⟩⟩⟩⟩⟩
  have := yw_u294 (cL := cL) (hL := hL) (fL := fL) (kL := kL) (cls := cls) (stt := stt) (lm := lm) (sc := sc) (ac := ac) (ev := ev) (chc := chc) (hT := hT) (yd := yd) (chs := chs) (nb := nb) (post := post) (J78 := wY_unify_78 post cL hL fL kL cls stt lm sc ac ev chc hT yd chs nb n) (x6 := nI wk) (yl := yl) (yr := yr) O C gu gw ha ha' h3 hd hvl hvr (by rw [nI_1]; exact hp) a (a + 1) (Nat.le_refl _) (by omega)
  rw [show d + (a - a) = d by omega, pw_I0 (Nat.le_refl _), pw_I0 (Nat.le_refl _)] at this
  exact this
theorem yw_u_same (O : sg_OK S M L m) (C : cy_OK S M L m sh nm ln) (gu : tm_G S L m u) (gw : tm_G S L m w) (hd : d < 303) (hw : wk < 100) (D1 : ∀ post : Int32 → Prop, post (nI u) → wpY_follow post (cL, hL, fL, kL, cls, stt, lm, sc, ac, ev, chc, hT, yd, chs, sh, nm, ln, bi, lR, lB, lC, lP, lI, gA, hB, hH, hC, hP, gD, gb, gr, gs, gc, gp, gi, yl, yr, nb) (yl d)) (D2 : ∀ post : Int32 → Prop, post (nI w) → wpY_follow post (cL, hL, fL, kL, cls, stt, lm, sc, ac, ev, chc, hT, yd, chs, sh, nm, ln, bi, lR, lB, lC, lP, lI, gA, hB, hH, hC, hP, gD, gb, gr, gs, gc, gp, gi, yl, yr, nb) (yr d)) (vu : tm_s S u = -1) (vw : tm_s S w = -1) (he : tm_ce M u = tm_ce M w) (hp : wY_unify_78 post cL hL fL kL cls stt lm sc ac ev chc hT yd chs nb n (nI d) (nI (wk + 1)) sh nm ln bi lR lB lC lP lI gA hB hH hC hP gD gb gr gs gc gp gi yl yr) : wY_unify_78 post cL hL fL kL cls stt lm sc ac ev chc hT yd chs nb (n + 1) (nI (d + 1)) (nI wk) sh nm ln bi lR lB lC lP lI gA hB hH hC hP gD gb gr gs gc gp gi yl yr := by
  obtain ⟨a1, a2, a3, a4, a5, a6, a7, a8⟩ := yw_u_pre O C gu gw
  refine br_f (nI_nlt (b := wk) (a := 100) (by omega) (by decide)) (br_f (nI_ne0 (by omega) (by omega)) (br_f (fun e => by have := (nI_eq (a := wk) (b := 100) (by omega) (by decide)).mp e; omega) (nm_r (pk_m1 d) ⟨vp_in_nI hd (by decide), ?_⟩)))
  rw [nI_clamp (by omega)]
  refine D1 _ ⟨vp_in_nI hd (by decide), D2 _ ⟨by decide, nm_r a1 ⟨by decide, nm_r a2 ⟨a3, ?_⟩⟩⟩⟩
  rw [a5, a6]
  refine br_t vu (yw_cellOf O C gu vu ⟨a4, br_t vw (yw_cellOf O C gw vw (br_t (by rw [he]) ?_))⟩)
  exact br_f (by decide) (nm_r (nI_1 wk) hp)
theorem yw_u_bindL (O : sg_OK S M L m) (C : cy_OK S M L m sh nm ln) (gu : tm_G S L m u) (gw : tm_G S L m w) (hd : d < 303) (hw : wk < 100) (D1 : ∀ post : Int32 → Prop, post (nI u) → wpY_follow post (cL, hL, fL, kL, cls, stt, lm, sc, ac, ev, chc, hT, yd, chs, sh, nm, ln, bi, lR, lB, lC, lP, lI, gA, hB, hH, hC, hP, gD, gb, gr, gs, gc, gp, gi, yl, yr, nb) (yl d)) (D2 : ∀ post : Int32 → Prop, post (nI w) → wpY_follow post (cL, hL, fL, kL, cls, stt, lm, sc, ac, ev, chc, hT, yd, chs, sh, nm, ln, bi, lR, lB, lC, lP, lI, gA, hB, hH, hC, hP, gD, gb, gr, gs, gc, gp, gi, yl, yr, nb) (yr d)) (vu : tm_s S u = -1) (he : tm_s S w = -1 → tm_ce M u ≠ tm_ce M w) (hp : wY_unify_78 post cL hL fL kL cls stt lm sc ac ev chc hT yd chs nb n (nI d) (nI (wk + 1)) sh nm ln (upd bi (tm_ce M u) (nI w)) lR lB lC lP lI gA hB hH hC hP gD gb gr gs gc gp gi yl yr) : wY_unify_78 post cL hL fL kL cls stt lm sc ac ev chc hT yd chs nb (n + 1) (nI (d + 1)) (nI wk) sh nm ln bi lR lB lC lP lI gA hB hH hC hP gD gb gr gs gc gp gi yl yr := by
  obtain ⟨a1, a2, a3, a4, a5, a6, a7, a8⟩ := yw_u_pre O C gu gw
  have cu := tm_ce_lt O gu vu
  refine br_f (nI_nlt (b := wk) (a := 100) (by omega) (by decide)) (br_f (nI_ne0 (by omega) (by omega)) (br_f (fun e => by have := (nI_eq (a := wk) (b := 100) (by omega) (by decide)).mp e; omega) (nm_r (pk_m1 d) ⟨vp_in_nI hd (by decide), ?_⟩)))
  rw [nI_clamp (by omega)]
  refine D1 _ ⟨vp_in_nI hd (by decide), D2 _ ⟨by decide, nm_r a1 ⟨by decide, nm_r a2 ⟨a3, ?_⟩⟩⟩⟩
  rw [a5, a6]
  refine br_t vu (yw_cellOf O C gu vu ⟨a4, ?_⟩)
  by_cases vw : tm_s S w = -1
  · have cw := tm_ce_lt O gw vw
    refine br_t vw (yw_cellOf O C gw vw (br_f (fun e => he vw ((nI_eq (by omega) (by omega)).mp e)) (br_t rfl ⟨vp_in_nI cu (by decide), nm_r (e' := upd bi (tm_ce M u) (nI w)) (by rw [nI_clamp (by omega)]) (nm_r (nI_1 wk) hp)⟩)))
  · exact br_f vw (br_t rfl ⟨vp_in_nI cu (by decide), nm_r (e' := upd bi (tm_ce M u) (nI w)) (by rw [nI_clamp (by omega)]) (nm_r (nI_1 wk) hp)⟩)
theorem yw_u_bindR (O : sg_OK S M L m) (C : cy_OK S M L m sh nm ln) (gu : tm_G S L m u) (gw : tm_G S L m w) (hd : d < 303) (hw : wk < 100) (D1 : ∀ post : Int32 → Prop, post (nI u) → wpY_follow post (cL, hL, fL, kL, cls, stt, lm, sc, ac, ev, chc, hT, yd, chs, sh, nm, ln, bi, lR, lB, lC, lP, lI, gA, hB, hH, hC, hP, gD, gb, gr, gs, gc, gp, gi, yl, yr, nb) (yl d)) (D2 : ∀ post : Int32 → Prop, post (nI w) → wpY_follow post (cL, hL, fL, kL, cls, stt, lm, sc, ac, ev, chc, hT, yd, chs, sh, nm, ln, bi, lR, lB, lC, lP, lI, gA, hB, hH, hC, hP, gD, gb, gr, gs, gc, gp, gi, yl, yr, nb) (yr d)) (vu : tm_s S u ≠ -1) (vw : tm_s S w = -1) (hp : wY_unify_78 post cL hL fL kL cls stt lm sc ac ev chc hT yd chs nb n (nI d) (nI (wk + 1)) sh nm ln (upd bi (tm_ce M w) (nI u)) lR lB lC lP lI gA hB hH hC hP gD gb gr gs gc gp gi yl yr) : wY_unify_78 post cL hL fL kL cls stt lm sc ac ev chc hT yd chs nb (n + 1) (nI (d + 1)) (nI wk) sh nm ln bi lR lB lC lP lI gA hB hH hC hP gD gb gr gs gc gp gi yl yr := by
  obtain ⟨a1, a2, a3, a4, a5, a6, a7, a8⟩ := yw_u_pre O C gu gw
  have cw := tm_ce_lt O gw vw
  refine br_f (nI_nlt (b := wk) (a := 100) (by omega) (by decide)) (br_f (nI_ne0 (by omega) (by omega)) (br_f (fun e => by have := (nI_eq (a := wk) (b := 100) (by omega) (by decide)).mp e; omega) (nm_r (pk_m1 d) ⟨vp_in_nI hd (by decide), ?_⟩)))
  rw [nI_clamp (by omega)]
  refine D1 _ ⟨vp_in_nI hd (by decide), D2 _ ⟨by decide, nm_r a1 ⟨by decide, nm_r a2 ⟨a3, ?_⟩⟩⟩⟩
  rw [a5, a6]
  exact br_f vu ⟨a4, br_t vw (yw_cellOf O C gw vw ⟨vp_in_nI cw (by decide), nm_r (e' := upd bi (tm_ce M w) (nI u)) (by rw [nI_clamp (by omega)]) (nm_r (nI_1 wk) hp)⟩)⟩
end
end
section
/-! the lockstep of the unification -/
section
variable {chs : Int32} {hH ns nn sh nm ln : Nat → Int32}
variable {S M : Nat → Nat → Int32} {L : Nat → Nat} {m top H k hb : Nat} {Lv : Nat → Prop}
/-- the outcome of the unification: both walks end with res -/
def ju_R (S M : Nat → Nat → Int32) (L : Nat → Nat) (m top H hb : Nat) (Lv : Nat → Prop) (chs : Int32) (hH ns nn sh nm ln : Nat → Int32) (q wk d T : Nat) (tr : Nat → Int32) (nc pl pr : Nat → Int64) (bi yl yr : Nat → Int32) : Prop :=
  ∃ (res : Int32) (T' : Nat) (tr' : Nat → Int32) (nc' pl' pr' : Nat → Int64) (bi' yl' yr' : Nat → Int32), (res = 1 ∨ res = 2 ∨ res = 5) ∧ us_ok H tr T nc tr' T' nc' ∧ tf_ok tr' T' hb nc' ∧ hr_HR S M L m top Lv ns nn nc' bi' ∧ (∀ c, (∀ t, Lv t → tm_s S t = -1 → tm_ce M t ≠ c) → bi' c = bi c) ∧
    (∀ {qB dB hS cL hL fL kL cls dT dO dC qT stt lm sc ac ev chc cF cTk hT : Int32} {ub nT aK nM cT : Int64} {cs cn cl ca ci kS kB kC kH dV qV fP fB fC fR fT fN hG hB hF hK hR hC hP : Nat → Int32} {kP kF : Nat → Int64} (post : Int32 → SX → Prop) (n : Nat), q < n → post res (qB, dB, hS, ub, nT, aK, nM, cT, cL, hL, fL, kL, cls, dT, dO, dC, qT, stt, lm, sc, ac, ev, chc, cF, cTk, hT, nI T', chs, cs, cn, cl, ca, ci, kS, kB, kC, kH, kP, kF, dV, qV, ns, nn, nc', tr', fP, fB, fC, fR, fT, fN, hG, hB, hF, hK, hH, hR, hC, hP, pl', pr') → wX_unifyHead_14 post n (nI d) (nI wk) qB dB hS ub nT aK nM cT cL hL fL kL cls dT dO dC qT stt lm sc ac ev chc cF cTk hT (nI T) chs cs cn cl ca ci kS kB kC kH kP kF dV qV ns nn nc tr fP fB fC fR fT fN hG hB hF hK hH hR hC hP pl pr) ∧
    (∀ {cL hL fL kL cls stt lm sc ac ev chc hT yd : Int32} {lR lB lC lP lI gA hB hC hP gD gb gr gs gc gp gi : Nat → Int32} {nb : Nat} (post : Int32 → SY → Prop) (n : Nat), q < n → post res (cL, hL, fL, kL, cls, stt, lm, sc, ac, ev, chc, hT, yd, chs, sh, nm, ln, bi', lR, lB, lC, lP, lI, gA, hB, hH, hC, hP, gD, gb, gr, gs, gc, gp, gi, yl', yr', nb) → wY_unify_78 post cL hL fL kL cls stt lm sc ac ev chc hT yd chs nb n (nI d) (nI wk) sh nm ln bi lR lB lC lP lI gA hB hH hC hP gD gb gr gs gc gp gi yl yr)
theorem tm_xt_eqV (O : sg_OK S M L m) {nc : Nat → Int64} (ht : top ≤ 256) (A : hr_A S M L m top Lv ns nn nc) {u w : Nat} (lu : Lv u) (lw : Lv w) (vu : tm_s S u = -1) (e : tm_xt S M u = tm_xt S M w) : tm_s S w = -1 ∧ tm_nd S M u = tm_nd S M w := by
  have gu := (A u lu).1
  have nu := (A u lu).2.1 (tm_V_sl O gu vu)
  rw [tm_xt_V O gu vu] at e
  unfold tm_xt at e
  by_cases z : tm_sl S M w = 0
  · rw [if_pos z, kk_ct_n] at e
    have h1 := kk_u_lt (tm_s M w)
    rw [pk_lEQ (by omega) (by omega)] at e
    omega
  · rw [if_neg z] at e
    have nw := (A w lw).2.1 z
    rw [lN_eq (by omega) (by omega)] at e
    refine ⟨?_, e⟩
    rw [← nw.2.1, ← e, nu.2.1, vu]
theorem ju_step {q wk d d' T T1 : Nat} {tr tr1 : Nat → Int32} {nc nc1 pl pl1 pr pr1 : Nat → Int64} {bi bi1 yl yl1 yr yr1 : Nat → Int32} (h1 : ju_R S M L m top H hb Lv chs hH ns nn sh nm ln q (wk + 1) d' T1 tr1 nc1 pl1 pr1 bi1 yl1 yr1) (U : us_ok H tr T nc tr1 T1 nc1) (B : ∀ c, (∀ t, Lv t → tm_s S t = -1 → tm_ce M t ≠ c) → bi1 c = bi c)
    (hX : ∀ {qB dB hS cL hL fL kL cls dT dO dC qT stt lm sc ac ev chc cF cTk hT : Int32} {ub nT aK nM cT : Int64} {cs cn cl ca ci kS kB kC kH dV qV fP fB fC fR fT fN hG hB hF hK hR hC hP : Nat → Int32} {kP kF : Nat → Int64} (post : Int32 → SX → Prop) (n : Nat), wX_unifyHead_14 post n (nI d') (nI (wk + 1)) qB dB hS ub nT aK nM cT cL hL fL kL cls dT dO dC qT stt lm sc ac ev chc cF cTk hT (nI T1) chs cs cn cl ca ci kS kB kC kH kP kF dV qV ns nn nc1 tr1 fP fB fC fR fT fN hG hB hF hK hH hR hC hP pl1 pr1 → wX_unifyHead_14 post (n + 1) (nI d) (nI wk) qB dB hS ub nT aK nM cT cL hL fL kL cls dT dO dC qT stt lm sc ac ev chc cF cTk hT (nI T) chs cs cn cl ca ci kS kB kC kH kP kF dV qV ns nn nc tr fP fB fC fR fT fN hG hB hF hK hH hR hC hP pl pr)
    (hY : ∀ {cL hL fL kL cls stt lm sc ac ev chc hT yd : Int32} {lR lB lC lP lI gA hB hC hP gD gb gr gs gc gp gi : Nat → Int32} {nb : Nat} (post : Int32 → SY → Prop) (n : Nat), wY_unify_78 post cL hL fL kL cls stt lm sc ac ev chc hT yd chs nb n (nI d') (nI (wk + 1)) sh nm ln bi1 lR lB lC lP lI gA hB hH hC hP gD gb gr gs gc gp gi yl1 yr1 → wY_unify_78 post cL hL fL kL cls stt lm sc ac ev chc hT yd chs nb (n + 1) (nI d) (nI wk) sh nm ln bi lR lB lC lP lI gA hB hH hC hP gD gb gr gs gc gp gi yl yr) : ju_R S M L m top H hb Lv chs hH ns nn sh nm ln (q + 1) wk d T tr nc pl pr bi yl yr := by
  obtain ⟨res, T', tr', nc', pl', pr', bi', yl', yr', a1, a2, a3, a4, a5, a6, a7⟩ := h1
  refine ⟨res, T', tr', nc', pl', pr', bi', yl', yr', a1, us_tr U a2, a3, a4, fun c hc => by rw [a5 c hc, B c hc], fun post n hn hp => ?_, fun post n hn hp => ?_⟩
  · obtain ⟨n, rfl⟩ : ∃ n', n = n' + 1 := ⟨n - 1, by omega⟩
    exact hX post n (a6 post n (by omega) hp)
  · obtain ⟨n, rfl⟩ : ∃ n', n = n' + 1 := ⟨n - 1, by omega⟩
    exact hY post n (a7 post n (by omega) hp)
theorem ju_all (O : sg_OK S M L m) (C : cy_OK S M L m sh nm ln) (hk : chs = nI k) (hk32 : k ≤ 32) (hyH : (k = 0 ∧ H = 0) ∨ (0 < k ∧ hH (k - 1) = nI H)) (hHb : H ≤ hb) (hb256 : hb ≤ 256) : ∀ (q wk d T : Nat) (tr : Nat → Int32) (nc pl pr : Nat → Int64) (bi yl yr : Nat → Int32), wk + q = 100 → d ≤ 3 + 2 * wk → hr_HR S M L m top Lv ns nn nc bi → tf_ok tr T hb nc → pr_OK S M Lv d pl pr yl yr → ju_R S M L m top H hb Lv chs hH ns nn sh nm ln q wk d T tr nc pl pr bi yl yr
  | q, wk, 0, T, tr, nc, pl, pr, bi, yl, yr, hq, hd, HR, TF, P => by
    refine ⟨1, T, tr, nc, pl, pr, bi, yl, yr, Or.inl rfl, us_rf, TF, HR, fun _ _ => rfl, fun post n hn hp => ?_, fun post n hn hp => ?_⟩
    · obtain ⟨n, rfl⟩ : ∃ n', n = n' + 1 := ⟨n - 1, by omega⟩
      exact br_c (fun _ => br_t (by decide) hp) (fun _ => br_t (by decide) (br_t (by decide) hp))
    · obtain ⟨n, rfl⟩ : ∃ n', n = n' + 1 := ⟨n - 1, by omega⟩
      exact br_f (nI_nlt (b := wk) (a := 100) (by omega) (by decide)) (br_t rfl hp)
  | 0, wk, d + 1, T, tr, nc, pl, pr, bi, yl, yr, hq, hd, HR, TF, P => by
    have ew : wk = 100 := by omega
    subst ew
    refine ⟨5, T, tr, nc, pl, pr, bi, yl, yr, Or.inr (Or.inr rfl), us_rf, TF, HR, fun _ _ => rfl, fun post n hn hp => ?_, fun post n hn hp => ?_⟩
    · obtain ⟨n, rfl⟩ : ∃ n', n = n' + 1 := ⟨n - 1, by omega⟩
      exact br_t (by decide) (br_f (nI_nle (by omega) (by omega)) hp)
    · obtain ⟨n, rfl⟩ : ∃ n', n = n' + 1 := ⟨n - 1, by omega⟩
      exact br_f (by decide) (br_f (nI_ne0 (by omega) (by omega)) (br_t rfl hp))
  | q + 1, wk, d + 1, T, tr, nc, pl, pr, bi, yl, yr, hq, hd, HR, TF, P => by
    have HR0 := HR
    obtain ⟨ht, A, I, FY, FX, F⟩ := HR
    obtain ⟨s, t, ls, lt, p1, p2, p3, p4⟩ := P d (by omega)
    have P' : pr_OK S M Lv d pl pr yl yr := fun j hj => P j (by omega)
    obtain ⟨LYs, qYs⟩ := hr_FY_L F ls
    obtain ⟨LYt, qYt⟩ := hr_FY_L F lt
    obtain ⟨LXs, qXs⟩ := hr_FX_L F ls
    obtain ⟨LXt, qXt⟩ := hr_FX_L F lt
    obtain ⟨_, _, fs1, fs2⟩ := F.1 s ls
    obtain ⟨_, _, ft1, ft2⟩ := F.1 t lt
    have gYs := (A _ LYs).1
    have gYt := (A _ LYt).1
    have DX1 : ∀ {qB dB hS cL hL fL kL cls dT dO dC qT stt lm sc ac ev chc cF cTk hT tT chs : Int32} {ub nT aK nM cT : Int64} {cs cn cl ca ci kS kB kC kH dV qV tr fP fB fC fR fT fN hG hB hF hK hH hR hC hP : Nat → Int32} {kP kF : Nat → Int64} (post : Int64 → Prop), post (tm_xt S M (FX s)) → wpX_dereference post (qB, dB, hS, ub, nT, aK, nM, cT, cL, hL, fL, kL, cls, dT, dO, dC, qT, stt, lm, sc, ac, ev, chc, cF, cTk, hT, tT, chs, cs, cn, cl, ca, ci, kS, kB, kC, kH, kP, kF, dV, qV, ns, nn, nc, tr, fP, fB, fC, fR, fT, fN, hG, hB, hF, hK, hH, hR, hC, hP, pl, pr) (pl d) := fun post hp => by rw [p1]; exact xw_deref O ht A F ls hp
    have DX2 : ∀ {qB dB hS cL hL fL kL cls dT dO dC qT stt lm sc ac ev chc cF cTk hT tT chs : Int32} {ub nT aK nM cT : Int64} {cs cn cl ca ci kS kB kC kH dV qV tr fP fB fC fR fT fN hG hB hF hK hH hR hC hP : Nat → Int32} {kP kF : Nat → Int64} (post : Int64 → Prop), post (tm_xt S M (FX t)) → wpX_dereference post (qB, dB, hS, ub, nT, aK, nM, cT, cL, hL, fL, kL, cls, dT, dO, dC, qT, stt, lm, sc, ac, ev, chc, cF, cTk, hT, tT, chs, cs, cn, cl, ca, ci, kS, kB, kC, kH, kP, kF, dV, qV, ns, nn, nc, tr, fP, fB, fC, fR, fT, fN, hG, hB, hF, hK, hH, hR, hC, hP, pl, pr) (pr d) := fun post hp => by rw [p2]; exact xw_deref O ht A F lt hp
    have DY1 : ∀ {cL hL fL kL cls stt lm sc ac ev chc hT yd chs : Int32} {lR lB lC lP lI gA hB hH hC hP gD gb gr gs gc gp gi : Nat → Int32} {nb : Nat} (post : Int32 → Prop), post (nI (FY s)) → wpY_follow post (cL, hL, fL, kL, cls, stt, lm, sc, ac, ev, chc, hT, yd, chs, sh, nm, ln, bi, lR, lB, lC, lP, lI, gA, hB, hH, hC, hP, gD, gb, gr, gs, gc, gp, gi, yl, yr, nb) (yl d) := fun post hp => by rw [p3]; exact yw_follow O C A F ls hp
    have DY2 : ∀ {cL hL fL kL cls stt lm sc ac ev chc hT yd chs : Int32} {lR lB lC lP lI gA hB hH hC hP gD gb gr gs gc gp gi : Nat → Int32} {nb : Nat} (post : Int32 → Prop), post (nI (FY t)) → wpY_follow post (cL, hL, fL, kL, cls, stt, lm, sc, ac, ev, chc, hT, yd, chs, sh, nm, ln, bi, lR, lB, lC, lP, lI, gA, hB, hH, hC, hP, gD, gb, gr, gs, gc, gp, gi, yl, yr, nb) (yr d) := fun post hp => by rw [p4]; exact yw_follow O C A F lt hp
    by_cases vs : tm_s S (FY s) = -1
    · by_cases hsame : tm_s S (FY t) = -1 ∧ tm_ce M (FY s) = tm_ce M (FY t)
      · -- the same variable
        obtain ⟨vt, hce⟩ := hsame
        have hnd := (F.2 s t ls lt vs vt).mp hce
        have vXs := fs2 vs
        have vXt := ft2 vt
        have he : tm_xt S M (FX s) = tm_xt S M (FX t) := by rw [tm_xt_V O (A _ LXs).1 vXs, tm_xt_V O (A _ LXt).1 vXt, hnd]
        exact ju_step (ju_all O C hk hk32 hyH hHb hb256 q (wk + 1) d T tr nc pl pr bi yl yr (by omega) (by omega) HR0 TF P') us_rf (fun _ _ => rfl)
          (fun post n hp => xw_u_same O ht A LXs LXt (by omega) (by omega) DX1 DX2 vXs vXt he hp)
          (fun post n hp => yw_u_same O C gYs gYt (by omega) (by omega) DY1 DY2 vs vt hce hp)
      · -- the left one is a variable
        have vXs := fs2 vs
        have gXs := (A _ LXs).1
        have gXt := (A _ LXt).1
        have nXs := (A _ LXs).2.1 (tm_V_sl O gXs vXs)
        have hd2 : tm_s S (FY t) = -1 → tm_ce M (FY s) ≠ tm_ce M (FY t) := fun v e => hsame ⟨v, e⟩
        have key2 : tm_s S (FX t) = -1 → tm_s S (FY t) = -1 := fun h => Decidable.byContradiction fun h' => (ft1 h').2 h
        have hne : ¬ tm_xt S M (FX s) = tm_xt S M (FX t) := by
          intro e
          obtain ⟨v, en⟩ := tm_xt_eqV O ht A LXs LXt vXs e
          have vt := key2 v
          exact hd2 vt ((F.2 s t ls lt vs vt).mpr en)
        by_cases ho : tm_s S (FX t) = -1 ∧ tm_nd S M (FX s) < tm_nd S M (FX t)
        · obtain ⟨vXt, ho⟩ := ho
          have vt := key2 vXt
          have nXt := (A _ LXt).2.1 (tm_V_sl O gXt vXt)
          have hz : nc (tm_nd S M (FX t) * 3) = -1 := by rcases qXt with h | h
                                                         · exact absurd vXt h
                                                         · exact h
          obtain ⟨tr1, T1, b1, b2, b3⟩ := xw_bind (n := tm_nd S M (FX t)) (x := tm_xt S M (FX s)) hk hk32 hyH hHb hb256 (show nI T = nI T from rfl) TF (by omega) hz (tm_xt_ne O gXs (fun _ => by omega))
          rw [← tm_xt_V O gXt vXt] at b3
          have HR1 := hr_bind O ht A I F ls lt vs hd2 (Or.inr ⟨rfl, rfl, vt⟩) (fun _ => ho)
          refine ju_step (ju_all O C hk hk32 hyH hHb hb256 q (wk + 1) d T1 tr1 _ pl pr _ yl yr (by omega) (by omega) HR1 b2 P') b1 (fun c hc => pk_un (fun e => hc _ LYs vs e.symm))
            (fun post n hp => xw_u_bind O ht A LXs LXt (by omega) (by omega) DX1 DX2 hne (Or.inr ⟨rfl, rfl, vXt, fun _ => ho⟩) b3 hp)
            (fun post n hp => yw_u_bindL O C gYs gYt (by omega) (by omega) DY1 DY2 vs hd2 hp)
        · have hord : tm_s S (FX t) = -1 → tm_nd S M (FX t) < tm_nd S M (FX s) := by
            intro v
            have : tm_nd S M (FX s) ≠ tm_nd S M (FX t) := fun e => hd2 (key2 v) ((F.2 s t ls lt vs (key2 v)).mpr e)
            have : ¬ tm_nd S M (FX s) < tm_nd S M (FX t) := fun h => ho ⟨v, h⟩
            omega
          have hz : nc (tm_nd S M (FX s) * 3) = -1 := by rcases qXs with h | h
                                                         · exact absurd vXs h
                                                         · exact h
          obtain ⟨tr1, T1, b1, b2, b3⟩ := xw_bind (n := tm_nd S M (FX s)) (x := tm_xt S M (FX t)) hk hk32 hyH hHb hb256 (show nI T = nI T from rfl) TF (by omega) hz (tm_xt_ne O gXt (fun h => by have := ((A _ LXt).2.1 h).1; omega))
          rw [← tm_xt_V O gXs vXs] at b3
          have HR1 := hr_bind O ht A I F ls lt vs hd2 (Or.inl ⟨rfl, rfl⟩) hord
          refine ju_step (ju_all O C hk hk32 hyH hHb hb256 q (wk + 1) d T1 tr1 _ pl pr _ yl yr (by omega) (by omega) HR1 b2 P') b1 (fun c hc => pk_un (fun e => hc _ LYs vs e.symm))
            (fun post n hp => xw_u_bind O ht A LXs LXt (by omega) (by omega) DX1 DX2 hne (Or.inl ⟨rfl, rfl, vXs, hord⟩) b3 hp)
            (fun post n hp => yw_u_bindL O C gYs gYt (by omega) (by omega) DY1 DY2 vs hd2 hp)
    · obtain ⟨es, vXs⟩ := fs1 vs
      rw [es] at DX1
      by_cases vt : tm_s S (FY t) = -1
      · -- the right one alone is a variable
        have vXt := ft2 vt
        have gXt := (A _ LXt).1
        have nXt := (A _ LXt).2.1 (tm_V_sl O gXt vXt)
        have hne : ¬ tm_xt S M (FY s) = tm_xt S M (FX t) := by
          intro e
          exact vs (tm_xt_eqV O ht A LXt LYs vXt e.symm).1
        have hz : nc (tm_nd S M (FX t) * 3) = -1 := by rcases qXt with h | h
                                                       · exact absurd vXt h
                                                       · exact h
        obtain ⟨tr1, T1, b1, b2, b3⟩ := xw_bind (n := tm_nd S M (FX t)) (x := tm_xt S M (FX s)) hk hk32 hyH hHb hb256 (show nI T = nI T from rfl) TF (by omega) hz (by rw [es]; exact tm_xt_ne O gYs (fun h => by have := ((A _ LYs).2.1 h).1; omega))
        rw [← tm_xt_V O gXt vXt] at b3
        have HR1 := hr_bind O ht A I F lt ls vt (fun v => absurd v vs) (Or.inl ⟨rfl, rfl⟩) (fun v => absurd v vXs)
        rw [es] at b1 b2 b3 HR1
        refine ju_step (ju_all O C hk hk32 hyH hHb hb256 q (wk + 1) d T1 tr1 _ pl pr _ yl yr (by omega) (by omega) HR1 b2 P') b1 (fun c hc => pk_un (fun e => hc _ LYt vt e.symm))
          (fun post n hp => xw_u_bind O ht A LYs LXt (by omega) (by omega) DX1 DX2 hne (Or.inr ⟨rfl, rfl, vXt, fun v => absurd v vs⟩) b3 hp)
          (fun post n hp => yw_u_bindR O C gYs gYt (by omega) (by omega) DY1 DY2 vs vt hp)
      · obtain ⟨et, vXt⟩ := ft1 vt
        rw [et] at DX2
        have kind : ∀ u, tm_G S L m u → tm_s S u ≠ -1 → ∃ a, a ≤ 3 ∧ tm_s S u = nI a := by
          intro u g v
          rcases tm_kind O g with ⟨e, _⟩ | ⟨e, _⟩ | ⟨a, _, ha, e, _⟩
          · exact absurd e v
          · exact ⟨0, by omega, e⟩
          · exact ⟨a, ha, e⟩
        obtain ⟨a, ha3, ha⟩ := kind _ gYs vs
        obtain ⟨a', ha3', ha'⟩ := kind _ gYt vt
        by_cases heq : tm_s S (FY s) = tm_s S (FY t) ∧ tm_s M (FY s) = tm_s M (FY t)
        · have ha2 : tm_s S (FY t) = nI a := by rw [← heq.1, ha]
          have hars : tx_ar (tm_s S (FY s)) = a := by rw [ha, tx_ar_n (by omega)]
          have hart : tx_ar (tm_s S (FY t)) = a := by rw [ha2, tx_ar_n (by omega)]
          refine ju_step (d' := d + a) (pl1 := pw_L pl d (d + a) (fun x => tm_xt S M (tm_ag S (FY s) (a - 1 - (x - d))))) (pr1 := pw_L pr d (d + a) (fun x => tm_xt S M (tm_ag S (FY t) (a - 1 - (x - d))))) (yl1 := pw_I yl d (d + a) (fun x => nI (tm_ag S (FY s) (a - 1 - (x - d))))) (yr1 := pw_I yr d (d + a) (fun x => nI (tm_ag S (FY t) (a - 1 - (x - d)))))
            (ju_all O C hk hk32 hyH hHb hb256 q (wk + 1) (d + a) T tr nc _ _ bi _ _ (by omega) (by omega) HR0 TF ?_) us_rf (fun _ _ => rfl)
            (fun post n hp => xw_u_fun O ht A LYs LYt (by omega) (by omega) DX1 DX2 ha ha2 ha3 heq.2 (fun x _ => by rw [Nat.add_sub_cancel_left]) (fun x _ => by rw [Nat.add_sub_cancel_left]) hp)
            (fun post n hp => yw_u_fun O C gYs gYt (by omega) (by omega) DY1 DY2 ha ha2 ha3 heq.2 (fun x _ => by rw [Nat.add_sub_cancel_left]) (fun x _ => by rw [Nat.add_sub_cancel_left]) hp)
          intro j hj
          by_cases z : j < d
          · obtain ⟨s', t', c1, c2, c3, c4, c5, c6⟩ := P' j z
            exact ⟨s', t', c1, c2, by rw [pw_Lo (Or.inl z)]; exact c3, by rw [pw_Lo (Or.inl z)]; exact c4, by rw [pw_Io (Or.inl z)]; exact c5, by rw [pw_Io (Or.inl z)]; exact c6⟩
          · refine ⟨tm_ag S (FY s) (a - 1 - (j - d)), tm_ag S (FY t) (a - 1 - (j - d)), ((A _ LYs).2.2 _ (by rw [hars]; omega)).1, ((A _ LYt).2.2 _ (by rw [hart]; omega)).1, ?_, ?_, ?_, ?_⟩
            · rw [pw_Lin (by omega) hj]
            · rw [pw_Lin (by omega) hj]
            · rw [pw_Iin (by omega) hj]
            · rw [pw_Iin (by omega) hj]
        · refine ⟨2, T, tr, nc, pl, pr, bi, yl, yr, Or.inr (Or.inl rfl), us_rf, TF, HR0, fun _ _ => rfl, fun post n hn hp => ?_, fun post n hn hp => ?_⟩
          · obtain ⟨n, rfl⟩ : ∃ n', n = n' + 1 := ⟨n - 1, by omega⟩
            refine xw_u_mis O ht A LYs LYt (by omega) (by omega) DX1 DX2 vs vt ?_ hp
            rw [ha, ha', kk_mk_inj (by omega) (by omega)]
            rw [ha, ha'] at heq
            exact heq
          · obtain ⟨n, rfl⟩ : ∃ n', n = n' + 1 := ⟨n - 1, by omega⟩
            exact yw_u_mis O C gYs gYt (by omega) (by omega) DY1 DY2 vs vt heq hp
end
end
section
/-! the scans of a row by the reference: terms wanted, charge -/
def rw_OK (sh nm ln : Nat → Int32) (r N : Nat) (s t : Nat → Int32) : Prop := r < 34 ∧ N ≤ 40 ∧ ln r = nI N ∧ (∀ i, i < N → sh (r * 40 + i) = s i ∧ nm (r * 40 + i) = t i) ∧ tx_WT s t N
section
variable {cL hL fL kL cls stt lm sc ac ev chc hT yd chs : Int32} {sh nm ln bi lR lB lC lP lI gA hB hH hC hP gD gb gr gs gc gp gi yl yr : Nat → Int32} {nb : Nat}
variable {s t : Nat → Int32} {r N : Nat}
theorem rw_ix (R : rw_OK sh nm ln r N s t) {i : Nat} (hi : i < N) : nI r * 40 + nI i = nI (r * 40 + i) ∧ vp_in (nI (r * 40 + i)) 1360 ∧ (nI (r * 40 + i)).toNatClampNeg = r * 40 + i := by
  obtain ⟨h1, h2, _⟩ := R
  have e : nI r * 40 = nI (r * 40) := pk_mul r 40
  exact ⟨by rw [e, nI_add], vp_in_nI (by omega) (by decide), nI_clamp (by omega)⟩
theorem yw_on4 (R : rw_OK sh nm ln r N s t) {post : Int32 → Prop} (hp : post (nI (tx_op s N))) : ∀ (q i n : Nat), i + q = N → q < n → wY_openNumber_4 post (nI r) cL hL fL kL cls stt lm sc ac ev chc hT yd chs sh nm ln bi lR lB lC lP lI gA hB hH hC hP gD gb gr gs gc gp gi yl yr nb n (nI (tx_op s i)) (nI i)
  | _, _, 0, _, h => by omega
  | 0, i, n + 1, hi, _ => by
    obtain ⟨h1, h2, h3, h4, h5⟩ := R
    have e : i = N := by omega
    subst e
    refine And.intro (vp_in_nI h1 (by decide)) ?_
    rw [nI_clamp (by omega), h3]
    exact br_t (nI_le (Nat.le_refl _) (by omega)) hp
  | q + 1, i, n + 1, hi, hn => by
    obtain ⟨e1, e2, e3⟩ := rw_ix R (show i < N by omega)
    have R0 := R
    obtain ⟨h1, h2, h3, h4, h5⟩ := R
    have ho := tx_op_le (n := i) (fun j hj => h5 j (show j < N by omega))
    refine And.intro (vp_in_nI h1 (by decide)) ?_
    rw [nI_clamp (by omega), h3]
    refine br_f (nI_ge (by omega) (by omega)) ?_
    rw [e1, e3, (h4 i (by omega)).1]
    refine ⟨e2, nm_e ?_⟩
    have IH := fun n h => yw_on4 R0 hp q (i + 1) n (by omega) h
    simp only [tx_op] at IH
    rcases h5 i (by omega) with ⟨a1, a2, _⟩ | ⟨a1, a2, _⟩ | ⟨a, ha, a1⟩
    · rw [a1, tx_ar_m2, a2] at IH
      rw [a1, a2]
      exact br_f (by decide) (br_t (by decide) (nm_r (nI_1 _) (IH n (by omega))))
    · rw [a1, tx_ar_m1] at IH
      rw [a1]
      exact br_t rfl (nm_r (pk_sub (b := 1) a2) (nm_r (nI_1 _) (IH n (by omega))))
    · rw [a1, tx_ar_n (by omega)] at IH
      rw [a1]
      refine br_f (tm_nI_ne ha) (br_f (nI_pos (by omega)) ?_)
      rcases Nat.eq_zero_or_pos (tx_op s i) with z | z
      · rw [z] at IH ⊢
        refine br_t rfl (nm_r (nI_1 _) ?_)
        have := IH n (by omega)
        rw [show 0 - 1 + a = a by omega] at this
        exact this
      · refine br_f (nI_ne0 z (by omega)) (nm_r (e' := nI (tx_op s i - 1 + a)) ?_ (nm_r (nI_1 _) (IH n (by omega))))
        rw [show nI (tx_op s i) - 1 = nI (tx_op s i - 1) from pk_sub (b := 1) z]
        exact nI_add _ _
theorem yw_open (R : rw_OK sh nm ln r N s t) {post : Int32 → Prop} (hp : post (nI (tx_op s N))) : wpY_openNumber post (cL, hL, fL, kL, cls, stt, lm, sc, ac, ev, chc, hT, yd, chs, sh, nm, ln, bi, lR, lB, lC, lP, lI, gA, hB, hH, hC, hP, gD, gb, gr, gs, gc, gp, gi, yl, yr, nb) (nI r) :=
  ⟨N + 1, yw_on4 R hp N 0 (N + 1) (by omega) (by omega)⟩
theorem yw_ch86 (R : rw_OK sh nm ln r N s t) {c0 : Nat} (hc : c0 ≤ 8) {post : Int32 → Prop} (hp : post (nI (c0 + tx_cp s N))) : ∀ (q i n : Nat), i + q = N → q < n → wY_chargeOf_86 post (nI r) cL hL fL kL cls stt lm sc ac ev chc hT yd chs sh nm ln bi lR lB lC lP lI gA hB hH hC hP gD gb gr gs gc gp gi yl yr nb n (nI (c0 + tx_cp s i)) (nI (tx_op s i)) (nI i)
  | _, _, 0, _, h => by omega
  | 0, i, n + 1, hi, _ => by
    obtain ⟨h1, h2, h3, h4, h5⟩ := R
    have e : i = N := by omega
    subst e
    refine And.intro (vp_in_nI h1 (by decide)) ?_
    rw [nI_clamp (by omega), h3]
    exact br_t (nI_le (Nat.le_refl _) (by omega)) hp
  | q + 1, i, n + 1, hi, hn => by
    obtain ⟨e1, e2, e3⟩ := rw_ix R (show i < N by omega)
    have R0 := R
    obtain ⟨h1, h2, h3, h4, h5⟩ := R
    have ho := tx_op_le (n := i) (fun j hj => h5 j (show j < N by omega))
    refine And.intro (vp_in_nI h1 (by decide)) ?_
    rw [nI_clamp (by omega), h3]
    refine br_f (nI_ge (by omega) (by omega)) ?_
    rw [e1, e3, (h4 i (by omega)).1]
    refine ⟨e2, nm_e ?_⟩
    have IH := fun n h => yw_ch86 R0 hc hp q (i + 1) n (by omega) h
    simp only [tx_op, tx_cp] at IH
    rcases h5 i (by omega) with ⟨a1, a2, _⟩ | ⟨a1, a2, _⟩ | ⟨a, ha, a1⟩
    · rw [a1, tx_ar_m2, a2, if_neg (by omega)] at IH
      rw [a1, a2]
      exact br_f (by decide) (br_t (by decide) (nm_r (nI_1 _) (IH n (by omega))))
    · rw [a1, tx_ar_m1, if_neg (by omega)] at IH
      rw [a1]
      exact br_t rfl (nm_r (pk_sub (b := 1) a2) (nm_r (nI_1 _) (IH n (by omega))))
    · rw [a1, tx_ar_n (by omega)] at IH
      rw [a1]
      refine br_f (tm_nI_ne ha) (br_f (nI_pos (by omega)) ?_)
      rcases Nat.eq_zero_or_pos (tx_op s i) with z | z
      · rw [z, if_neg (by omega)] at IH
        rw [z]
        refine br_t rfl (nm_r (nI_1 _) ?_)
        have := IH n (by omega)
        rw [show 0 - 1 + a = a by omega] at this
        exact this
      · refine br_f (nI_ne0 z (by omega)) (nm_r (e' := nI (tx_op s i - 1 + a)) ?_ ?_)
        · rw [show nI (tx_op s i) - 1 = nI (tx_op s i - 1) from pk_sub (b := 1) z]
          exact nI_add _ _
        · rcases Nat.eq_zero_or_pos a with za | za
          · subst za
            rw [if_neg (by omega)] at IH
            exact br_t (by decide) (nm_r (nI_1 _) (IH n (by omega)))
          · rw [if_pos ⟨za, z⟩] at IH
            refine br_f (nI_nlt (b := 1) za (by omega)) (nm_r (e' := nI (c0 + (tx_cp s i + 1))) ?_ (nm_r (nI_1 _) (IH n (by omega))))
            rw [nI_1]; rfl
theorem yw_ch16 (R : rw_OK sh nm ln r N s t) {v c : Nat} (hv : v < 8) {post : Int32 → Prop} {J4 : Int32 → Int32 → Prop} (hp : J4 (nI (c + tx_b (tx_vs s t N v))) (nI (v + 1))) : ∀ (q i n : Nat), i + q = N → q < n → wY_chargeOf_16 post J4 (nI r) (nI c) (nI v) cL hL fL kL cls stt lm sc ac ev chc hT yd chs sh nm ln bi lR lB lC lP lI gA hB hH hC hP gD gb gr gs gc gp gi yl yr nb n (nI (tx_b (tx_vs s t i v))) (nI i)
  | _, _, 0, _, h => by omega
  | 0, i, n + 1, hi, _ => by
    obtain ⟨h1, h2, h3, h4, h5⟩ := R
    have e : i = N := by omega
    subst e
    refine And.intro (vp_in_nI h1 (by decide)) ?_
    rw [nI_clamp (by omega), h3]
    refine br_t (nI_le (Nat.le_refl _) (by omega)) ?_
    by_cases z : tx_vs s t i v = 0
    · rw [z] at hp ⊢
      exact br_t rfl (nm_r (nI_1 _) hp)
    · have eb : tx_b (tx_vs s t i v) = 1 := if_neg z
      rw [eb] at hp ⊢
      exact br_f (by decide) (nm_r (nI_1 _) (nm_r (nI_1 _) hp))
  | q + 1, i, n + 1, hi, hn => by
    obtain ⟨e1, e2, e3⟩ := rw_ix R (show i < N by omega)
    have R0 := R
    obtain ⟨h1, h2, h3, h4, h5⟩ := R
    refine And.intro (vp_in_nI h1 (by decide)) ?_
    rw [nI_clamp (by omega), h3]
    refine br_f (nI_ge (by omega) (by omega)) (nm_r e1 ⟨e2, ?_⟩)
    rw [e3, (h4 i (by omega)).1, (h4 i (by omega)).2]
    have IH := fun n h => yw_ch16 (post := post) R0 hv hp q (i + 1) n (by omega) h
    by_cases a1 : s i = -1
    · refine br_t a1 ⟨e2, ?_⟩
      obtain ⟨x, hx, ex⟩ : ∃ x, x < 8 ∧ t i = nI x := by
        rcases h5 i (by omega) with ⟨b1, _⟩ | ⟨_, _, b⟩ | ⟨a, ha, b1⟩
        · rw [a1] at b1; exact absurd b1 (by decide)
        · exact b
        · rw [a1] at b1; exact absurd b1.symm (tm_nI_ne ha)
      have hcl : (t i).toNatClampNeg = x := by rw [ex, nI_clamp (by omega)]
      by_cases hxv : x = v
      · have : tx_b (tx_vs s t (i + 1) v) = 1 := if_neg (tx_occ1.mpr (Or.inr ⟨a1, by rw [hcl, hxv]⟩))
        rw [this] at IH
        exact br_t (by rw [ex, hxv]) (nm_r (nI_1 _) (IH n (by omega)))
      · have : tx_b (tx_vs s t (i + 1) v) = tx_b (tx_vs s t i v) := by
          unfold tx_b
          by_cases z : tx_vs s t i v = 0
          · rw [if_pos z, if_pos]
            exact Decidable.byContradiction fun h => by
              rcases tx_occ1.mp h with h' | ⟨_, h'⟩
              · exact h' z
              · rw [hcl] at h'; exact hxv h'
          · rw [if_neg z, if_neg (tx_occ1.mpr (Or.inl z))]
        rw [this] at IH
        refine br_f (fun e => hxv ?_) (nm_r (nI_1 _) (IH n (by omega)))
        rw [ex] at e
        exact (nI_eq (by omega) (by omega)).mp e
    · have : tx_b (tx_vs s t (i + 1) v) = tx_b (tx_vs s t i v) := by
        unfold tx_b
        by_cases z : tx_vs s t i v = 0
        · rw [if_pos z, if_pos]
          exact Decidable.byContradiction fun h => by
            rcases tx_occ1.mp h with h' | ⟨h', _⟩
            · exact h' z
            · exact a1 h'
        · rw [if_neg z, if_neg (tx_occ1.mpr (Or.inl z))]
      rw [this] at IH
      exact br_f a1 (nm_r (nI_1 _) (IH n (by omega)))
theorem yw_ch4 (R : rw_OK sh nm ln r N s t) {post : Int32 → Prop} (hp : post (nI (tx_ch s t N))) : ∀ (q v n : Nat), v + q = 8 → q < n → wY_chargeOf_4 post (nI r) cL hL fL kL cls stt lm sc ac ev chc hT yd chs sh nm ln bi lR lB lC lP lI gA hB hH hC hP gD gb gr gs gc gp gi yl yr nb n (nI (tx_cnt (tx_vs s t N) v)) (nI v)
  | _, _, 0, _, h => by omega
  | 0, v, n + 1, hv, _ => by
    have e : v = 8 := by omega
    subst e
    refine br_t (by decide) ⟨N + 1, ?_⟩
    have h5 := R.2.2.2.2
    rw [tx_chY h5] at hp
    have h8 : ∀ (f : Nat → Nat) (k : Nat), tx_cnt f k ≤ k := by
      intro f k
      induction k with
      | zero => exact Nat.le_refl _
      | succ k ih =>
        simp only [tx_cnt]
        have : tx_b (f k) ≤ 1 := by unfold tx_b; split <;> omega
        omega
    exact yw_ch86 R (h8 _ 8) hp N 0 (N + 1) (by omega) (by omega)
  | q + 1, v, n + 1, hv, hn => by
    refine br_f (nI_ge (b := 8) (by omega) (by decide)) ⟨N + 1, ?_⟩
    refine yw_ch16 R (by omega) ?_ N 0 (N + 1) (by omega) (by omega)
    exact yw_ch4 R hp q (v + 1) n (by omega) (by omega)
theorem yw_charge (R : rw_OK sh nm ln r N s t) {post : Int32 → Prop} (hp : post (nI (tx_ch s t N))) : wpY_chargeOf post (cL, hL, fL, kL, cls, stt, lm, sc, ac, ev, chc, hT, yd, chs, sh, nm, ln, bi, lR, lB, lC, lP, lI, gA, hB, hH, hC, hP, gD, gb, gr, gs, gc, gp, gi, yl, yr, nb) (nI r) :=
  ⟨9, yw_ch4 R hp 8 0 9 (by omega) (by omega)⟩
theorem rw_of {S M : Nat → Nat → Int32} {L : Nat → Nat} {m : Nat} (O : sg_OK S M L m) (C : cy_OK S M L m sh nm ln) (hr : sg_VR m r) : rw_OK sh nm ln r (L r) (S r) (M r) := by
  obtain ⟨w, h40, _, _⟩ := O.2 r hr
  obtain ⟨c1, c2⟩ := C r hr
  exact ⟨(sg_row O.1 hr).1, h40, c1, c2, w⟩
end
end
section
/-! choosing clauses -/
def cd_P (S M : Nat → Nat → Int32) (r i u c : Nat) : Prop := S (c + 2) 0 = S r i ∧ M (c + 2) 0 = M r i ∧ (tx_ar (S r i) = 0 ∨ tm_s S u = -1 ∨ S (c + 2) 1 = -1 ∨ (S (c + 2) 1 = tm_s S u ∧ M (c + 2) 1 = tm_s M u))
def cd_key (S M : Nat → Nat → Int32) (r i u : Nat) : Int64 := if tx_ar (S r i) = 0 ∨ tm_s S u = -1 then -1 else kk_mk (tm_s M u) (tm_s S u)
def nx_OK (P : Nat → Prop) (m from' : Nat) (res : Int32) : Prop := res = -1 ∨ ∃ c, from' ≤ c ∧ c < m ∧ P c ∧ res = nI c
section
variable {S M : Nat → Nat → Int32} {L : Nat → Nat} {m top : Nat} {sr : Nat → Nat} {Lv : Nat → Prop} {FY FX : Nat → Nat}
theorem gl_a (O : sg_OK S M L m) {r i b : Nat} (g : gl_OK S L m Lv r i b) : ∃ a, a ≤ 3 ∧ S r i = nI a := by
  obtain ⟨h1, h2, h3, h4, _⟩ := g
  rcases (O.2 r h1).1 i h2 with ⟨e, _⟩ | ⟨_, e, _⟩ | e
  · exact absurd e h4
  · omega
  · exact e
theorem gl_arg (O : sg_OK S M L m) {r i b k : Nat} (g : gl_OK S L m Lv r i b) (hk : k < tx_ar (S r i)) : tx_ag (S r) i k < L r ∧ Lv (hr_cd r (tx_ag (S r) i k) b) := by
  obtain ⟨h1, h2, h3, h4, h5, h6⟩ := g
  obtain ⟨_, h40, hop, _⟩ := O.2 r h1
  obtain ⟨a1, a2, a3, a4⟩ := tx_ag_lt h40 hop h2 hk
  exact ⟨a3, h6 _ a1 a2⟩
theorem cd_hd (O : sg_OK S M L m) {c : Nat} (hc : c < m) : sg_VR m (c + 2) ∧ 0 < L (c + 2) ∧ ∃ a, a ≤ 3 ∧ S (c + 2) 0 = nI a ∧ (0 < a → 1 < L (c + 2) ∧ (S (c + 2) 1 = -1 ∨ ∃ a1, a1 ≤ 3 ∧ S (c + 2) 1 = nI a1)) := by
  have hr : sg_VR m (c + 2) := Or.inr ⟨by omega, by omega⟩
  obtain ⟨w, h40, hop, h⟩ := O.2 _ hr
  obtain ⟨h0, hne⟩ := h (by omega)
  refine ⟨hr, h0, ?_⟩
  rcases w 0 h0 with ⟨e, _⟩ | ⟨_, e, _⟩ | ⟨a, ha, e⟩
  · exact absurd e hne
  · exact absurd e (by simp only [tx_op]; omega)
  · refine ⟨a, ha, e, fun hp => ?_⟩
    have hk : 0 < tx_ar (S (c + 2) 0) := by rw [e, tx_ar_n (by omega)]; exact hp
    obtain ⟨_, _, a3, a4⟩ := tx_ag_lt h40 hop h0 hk
    have a3' : 1 < L (c + 2) := a3
    have a4' : 0 < tx_op (S (c + 2)) 1 := a4
    refine ⟨a3', ?_⟩
    rcases w 1 a3' with ⟨_, e, _⟩ | ⟨e, _⟩ | e
    · omega
    · exact Or.inl e
    · exact Or.inr e
end
section
variable {qB dB hS : Int32} {ub nT aK nM cT : Int64} {cL hL fL kL cls dT dO dC qT stt lm sc ac ev chc cF cTk hT tT chs : Int32} {cs cn cl ca ci kS kB kC kH dV qV ns nn tr fP fB fC fR fT fN hG hB hF hK hH hR hC hP : Nat → Int32} {kP kF nc pl pr : Nat → Int64}
variable {S M : Nat → Nat → Int32} {L : Nat → Nat} {m top : Nat} {sr : Nat → Nat} {Lv : Nat → Prop} {FY FX : Nat → Nat} {bi : Nat → Int32}
theorem xw_gkey (O : sg_OK S M L m) (C : cx_OK S M L m sr cs cn cl ca ci) (ht : top ≤ 256) (A : hr_A S M L m top Lv ns nn nc) (F : hr_F S M Lv nc bi FY FX) {r i b : Nat} (g : gl_OK S L m Lv r i b) {post : Int64 → Prop} (hp : post (cd_key S M r i (FY (hr_cd r (i + 1) b)))) : wpX_goalFirstKey post (qB, dB, hS, ub, nT, aK, nM, cT, cL, hL, fL, kL, cls, dT, dO, dC, qT, stt, lm, sc, ac, ev, chc, cF, cTk, hT, tT, chs, cs, cn, cl, ca, ci, kS, kB, kC, kH, kP, kF, dV, qV, ns, nn, nc, tr, fP, fB, fC, fR, fT, fN, hG, hB, hF, hK, hH, hR, hC, hP, pl, pr) (nI (sr r + i)) (nI b) := by
  obtain ⟨a, ha3, ha⟩ := gl_a O g
  obtain ⟨hs, c⟩ := C r g.1
  have h40 := (O.2 r g.1).2.1
  have hi := g.2.1
  refine And.intro (vp_in_nI (by omega) (by decide)) ?_
  rw [nI_clamp (by omega), (c i hi).1, ha]
  rcases Nat.eq_zero_or_pos a with z | z
  · subst z
    refine br_f (by decide) ?_
    unfold cd_key at hp
    rw [if_pos (Or.inl (by rw [ha]; exact tx_ar_n (by decide)))] at hp
    exact hp
  · refine br_t (nI_le (a := 1) z (by omega)) ?_
    have hk : 0 < tx_ar (S r i) := by rw [ha, tx_ar_n (by omega)]; exact z
    obtain ⟨g1, g2⟩ := gl_arg O g hk
    have g1' : i + 1 < L r := g1
    have g2' : Lv (hr_cd r (i + 1) b) := g2
    rw [nI_1]
    obtain ⟨LY, _⟩ := hr_FY_L F g2'
    obtain ⟨LX, _⟩ := hr_FX_L F g2'
    obtain ⟨_, _, f1, f2⟩ := F.1 _ g2'
    refine xw_termAt O C g.1 g1' g.2.2.2.2.1 (xw_deref O ht A F g2' ?_)
    by_cases v : tm_s S (FY (hr_cd r (i + 1) b)) = -1
    · refine xw_isVar1 O ht A LX (f2 v) (br_f (by decide) ?_)
      unfold cd_key at hp
      rw [if_pos (Or.inr v)] at hp
      exact hp
    · obtain ⟨e1, e2⟩ := f1 v
      rw [e1]
      refine xw_isVar0 O ht A LY v (br_t rfl (xw_fkey O ht A LY v ?_))
      unfold cd_key at hp
      rw [if_neg (by rw [ha, tx_ar_n (by omega)]; exact fun h => h.elim (by omega) v)] at hp
      exact hp
end
section
variable {cL hL fL kL cls stt lm sc ac ev chc hT yd chs : Int32} {sh nm ln bi lR lB lC lP lI gA hB hH hC hP gD gb gr gs gc gp gi yl yr : Nat → Int32} {nb : Nat}
variable {S M : Nat → Nat → Int32} {L : Nat → Nat} {m top : Nat} {Lv : Nat → Prop} {FY FX : Nat → Nat} {ns nn : Nat → Int32} {nc : Nat → Int64}
theorem yw_isCand (O : sg_OK S M L m) (C : cy_OK S M L m sh nm ln) (A : hr_A S M L m top Lv ns nn nc) (F : hr_F S M Lv nc bi FY FX) {r i b c : Nat} (g : gl_OK S L m Lv r i b) (hc : c < m) {post : Int32 → Prop} (h1 : cd_P S M r i (FY (hr_cd r (i + 1) b)) c → post 1) (h0 : ¬ cd_P S M r i (FY (hr_cd r (i + 1) b)) c → post 0) : wpY_isCandidate post (cL, hL, fL, kL, cls, stt, lm, sc, ac, ev, chc, hT, yd, chs, sh, nm, ln, bi, lR, lB, lC, lP, lI, gA, hB, hH, hC, hP, gD, gb, gr, gs, gc, gp, gi, yl, yr, nb) (nI (r * 40 + i)) (nI b) (nI c) := by
  obtain ⟨a, ha3, ha⟩ := gl_a O g
  obtain ⟨hv, hl0, a', ha3', ha', h1a⟩ := cd_hd O hc
  have hm := O.1
  have hrow := sg_row hm g.1
  have h40 := (O.2 r g.1).2.1
  have hi := g.2.1
  obtain ⟨c1, c2⟩ := (C r g.1).2 i hi
  obtain ⟨d1, d2⟩ := (C _ hv).2 0 hl0
  rw [Nat.add_zero] at d1 d2
  have e4 : (nI c + 2) * 40 = nI ((c + 2) * 40) := by
    have : nI c + 2 = nI (c + 2) := nI_add c 2
    rw [this]; exact pk_mul _ 40
  have v1 : vp_in (nI ((c + 2) * 40)) 1360 := vp_in_nI (by omega) (by decide)
  have v2 : vp_in (nI (r * 40 + i)) 1360 := vp_in_nI (by omega) (by decide)
  refine nm_r e4 ⟨v1, v2, ?_⟩
  rw [nI_clamp (by omega), nI_clamp (by omega), c1, c2, d1, d2]
  by_cases q1 : S (c + 2) 0 = S r i
  · refine br_t q1 ⟨v1, v2, ?_⟩
    by_cases q2 : M (c + 2) 0 = M r i
    · refine br_t q2 ⟨v2, ?_⟩
      rcases Nat.eq_zero_or_pos a with z | z
      · subst z
        refine br_f (by rw [ha]; decide) (h1 ⟨q1, q2, Or.inl (by rw [ha]; exact tx_ar_n (by decide))⟩)
      · refine br_t (by rw [ha]; exact nI_le (a := 1) z (by omega)) ?_
        have hk : 0 < tx_ar (S r i) := by rw [ha, tx_ar_n (by omega)]; exact z
        obtain ⟨g1, g2⟩ := gl_arg O g hk
        have g2' : Lv (hr_cd r (i + 1) b) := g2
        have ecd : (nI (r * 40 + i) + 1) * 512 + nI b = nI (hr_cd r (i + 1) b) := by rw [show nI (r * 40 + i) + 1 = nI (r * 40 + (i + 1)) from nI_1 _]; exact yw_cd
        rw [ecd]
        refine yw_follow O C A F g2' ?_
        obtain ⟨LY, _⟩ := hr_FY_L F g2'
        have gY := (A _ LY).1
        obtain ⟨hu, _, _, h13⟩ := tm_lt O gY
        obtain ⟨r1, r2⟩ := yw_rd O C gY
        refine ⟨by decide, nm_r (yw_512 (by omega)) ⟨vp_in_nI h13 (by decide), ?_⟩⟩
        rw [nI_clamp (by omega), r1, r2]
        by_cases q3 : tm_s S (FY (hr_cd r (i + 1) b)) = -1
        · exact br_t q3 (h1 ⟨q1, q2, Or.inr (Or.inl q3)⟩)
        · have haa : a = a' := by
            rw [ha, ha'] at q1
            exact ((nI_eq (by omega) (by omega)).mp q1).symm
          obtain ⟨l1, _⟩ := h1a (by omega)
          obtain ⟨b1, b2⟩ := (C _ hv).2 1 l1
          rw [nI_1, nI_clamp (by omega), b1, b2]
          have v3 : vp_in (nI ((c + 2) * 40 + 1)) 1360 := vp_in_nI (by omega) (by decide)
          refine br_f q3 ⟨v3, ?_⟩
          by_cases q4 : S (c + 2) 1 = -1
          · exact br_t q4 (h1 ⟨q1, q2, Or.inr (Or.inr (Or.inl q4))⟩)
          · refine br_f q4 ⟨v3, vp_in_nI h13 (by decide), ?_⟩
            have hne : tx_ar (S r i) ≠ 0 := by omega
            by_cases q5 : S (c + 2) 1 = tm_s S (FY (hr_cd r (i + 1) b))
            · refine br_t q5 ⟨v3, vp_in_nI h13 (by decide), ?_⟩
              by_cases q6 : M (c + 2) 1 = tm_s M (FY (hr_cd r (i + 1) b))
              · exact br_t q6 (h1 ⟨q1, q2, Or.inr (Or.inr (Or.inr ⟨q5, q6⟩))⟩)
              · exact br_f q6 (h0 (fun ⟨_, _, h⟩ => h.elim hne (fun h => h.elim q3 (fun h => h.elim q4 (fun h => q6 h.2)))))
            · exact br_f q5 (h0 (fun ⟨_, _, h⟩ => h.elim hne (fun h => h.elim q3 (fun h => h.elim q4 (fun h => q5 h.1)))))
    · exact br_f q2 (h0 (fun h => q2 h.2.1))
  · exact br_f q1 (h0 (fun h => q1 h.1))
end
section
variable {cls : Int32} {kS kB kC kH cs cn cl ca ci sh nm ln bi ns nn : Nat → Int32} {kP kF nc : Nat → Int64}
variable {S M : Nat → Nat → Int32} {L : Nat → Nat} {m top : Nat} {sr : Nat → Nat} {Lv : Nat → Prop} {FY FX : Nat → Nat}
theorem jc_22 (O : sg_OK S M L m) (hcl : cls = nI m) (CK : ck_OK S M L m sr kS kB kC kH kP kF) (C : cy_OK S M L m sh nm ln) (A : hr_A S M L m top Lv ns nn nc) (F : hr_F S M Lv nc bi FY FX) {r i b : Nat} (g : gl_OK S L m Lv r i b) : ∀ (q fr : Nat), fr + q = m → ∃ res : Int32, nx_OK (cd_P S M r i (FY (hr_cd r (i + 1) b))) m fr res ∧ (∀ {qB dB hS cL hL fL kL dT dO dC qT stt lm sc ac ev chc cF cTk hT tT chs : Int32} {ub nT aK nM cT : Int64} {cs cn cl ca ci kS kB kC kH dV qV ns nn tr fP fB fC fR fT fN hG hB hF hK hH hR hC hP : Nat → Int32} {nc pl pr : Nat → Int64} (post : Int32 → Prop) (n : Nat), q < n → post res → wX_nextCandidate_22 post (cd_key S M r i (FY (hr_cd r (i + 1) b))) (kk_mk (M r i) (S r i)) qB dB hS ub nT aK nM cT cL hL fL kL cls dT dO dC qT stt lm sc ac ev chc cF cTk hT tT chs cs cn cl ca ci kS kB kC kH kP kF dV qV ns nn nc tr fP fB fC fR fT fN hG hB hF hK hH hR hC hP pl pr n (nI fr)) ∧ (∀ {cL hL fL kL stt lm sc ac ev chc hT yd chs : Int32} {lR lB lC lP lI gA hB hH hC hP gD gb gr gs gc gp gi yl yr : Nat → Int32} {nb : Nat} (post : Int32 → Prop) (n : Nat), q < n → post res → wY_candidate_3 post (nI (r * 40 + i)) (nI b) cL hL fL kL cls stt lm sc ac ev chc hT yd chs sh nm ln bi lR lB lC lP lI gA hB hH hC hP gD gb gr gs gc gp gi yl yr nb n (nI fr))
  | 0, fr, hf => by
    have hm := O.1
    subst hcl
    have e : fr = m := by omega
    subst e
    refine ⟨-1, Or.inl rfl, fun post n hn hp => ?_, fun post n hn hp => ?_⟩
    · obtain ⟨n, rfl⟩ : ∃ n', n = n' + 1 := ⟨n - 1, by omega⟩
      exact br_t (nI_le (Nat.le_refl _) (by omega)) hp
    · obtain ⟨n, rfl⟩ : ∃ n', n = n' + 1 := ⟨n - 1, by omega⟩
      exact br_t (nI_le (Nat.le_refl _) (by omega)) hp
  | q + 1, fr, hf => by
    have hm := O.1
    have hcl0 := hcl
    obtain ⟨a, ha3, ha⟩ := gl_a O g
    obtain ⟨hv, hl0, a', ha3', ha', h1a⟩ := cd_hd O (show fr < m by omega)
    obtain ⟨_, _, _, _, kk⟩ := CK
    obtain ⟨_, _, _, _, k5, k6⟩ := kk fr (by omega)
    have CK : ck_OK S M L m sr kS kB kC kH kP kF := ⟨‹_›, ‹_›, ‹_›, ‹_›, kk⟩
    have kinj : kP fr = kk_mk (M r i) (S r i) ↔ (S (fr + 2) 0 = S r i ∧ M (fr + 2) 0 = M r i) := by
      rw [k5, ha, ha', kk_mk_inj (by omega) (by omega)]
    have hin : vp_in (nI fr) 32 := vp_in_nI (by omega) (by decide)
    have hge : ¬ cls ≤ nI fr := by rw [hcl]; exact nI_ge (by omega) (by omega)
    have ecl : (nI fr).toNatClampNeg = fr := nI_clamp (by omega)
    -- the component's test
    generalize hU : FY (hr_cd r (i + 1) b) = U
    by_cases hP : cd_P S M r i U fr
    · refine ⟨nI fr, Or.inr ⟨fr, Nat.le_refl _, by omega, hP, rfl⟩, fun post n hn hp => ?_, fun post n hn hp => ?_⟩
      · obtain ⟨n, rfl⟩ : ∃ n', n = n' + 1 := ⟨n - 1, by omega⟩
        refine br_f hge ⟨hin, ?_⟩
        rw [ecl]
        refine br_t (kinj.mpr ⟨hP.1, hP.2.1⟩) ⟨hin, nm_r k6 ?_⟩
        unfold cd_key
        by_cases q1 : tx_ar (S r i) = 0 ∨ tm_s S U = -1
        · rw [if_pos q1]; exact br_t rfl hp
        · rw [if_neg q1]
          refine br_c (fun _ => hp) (fun _ => ?_)
          by_cases q2 : 0 < tx_ar (S (fr + 2) 0) ∧ S (fr + 2) 1 ≠ -1
          · rw [if_pos q2]
            refine br_c (fun _ => hp) (fun _ => ?_)
            rcases hP.2.2 with h | h | h | ⟨h, h'⟩
            · exact absurd (Or.inl h) q1
            · exact absurd (Or.inr h) q1
            · exact absurd h q2.2
            · exact br_t (by rw [h, h']) hp
          · rw [if_neg q2]; exact br_t rfl hp
      · obtain ⟨n, rfl⟩ : ∃ n', n = n' + 1 := ⟨n - 1, by omega⟩
        refine br_f hge ?_
        refine yw_isCand O C A F g (by omega) (fun _ => br_f (by decide) hp) (fun h => absurd (by rw [hU]; exact hP) h)
    · obtain ⟨res, r1, r2, r3⟩ := jc_22 O hcl CK C A F g q (fr + 1) (by omega)
      rw [hU] at r1 r2
      refine ⟨res, ?_, fun post n hn hp => ?_, fun post n hn hp => ?_⟩
      · rcases r1 with h | ⟨c, h1, h2, h3, h4⟩
        · exact Or.inl h
        · exact Or.inr ⟨c, by omega, h2, h3, h4⟩
      · obtain ⟨n, rfl⟩ : ∃ n', n = n' + 1 := ⟨n - 1, by omega⟩
        refine br_f hge ⟨hin, ?_⟩
        rw [ecl]
        by_cases q0 : kP fr = kk_mk (M r i) (S r i)
        · refine br_t q0 ⟨hin, nm_r k6 ?_⟩
          have q0' := kinj.mp q0
          have haa : a = a' := by
            have := q0'.1
            rw [ha, ha'] at this
            exact ((nI_eq (by omega) (by omega)).mp this).symm
          have n1 : ¬ tx_ar (S r i) = 0 := fun h => hP ⟨q0'.1, q0'.2, Or.inl h⟩
          have n2 : ¬ tm_s S U = -1 := fun h => hP ⟨q0'.1, q0'.2, Or.inr (Or.inl h)⟩
          have n3 : ¬ S (fr + 2) 1 = -1 := fun h => hP ⟨q0'.1, q0'.2, Or.inr (Or.inr (Or.inl h))⟩
          have n4 : ¬ (S (fr + 2) 1 = tm_s S U ∧ M (fr + 2) 1 = tm_s M U) := fun h => hP ⟨q0'.1, q0'.2, Or.inr (Or.inr (Or.inr h))⟩
          have z : 0 < a := by
            rw [ha, tx_ar_n (by omega)] at n1; omega
          obtain ⟨_, h1b⟩ := h1a (by omega)
          obtain ⟨a1, ha1, e1⟩ := h1b.resolve_left n3
          have gUk : ∃ a2, a2 ≤ 3 ∧ tm_s S U = nI a2 := by
            have hk : 0 < tx_ar (S r i) := by omega
            have g2 := (gl_arg O g hk).2
            have LY := (hr_FY_L F g2).1
            have gY := (A _ LY).1
            have eU : FY (hr_cd r (tx_ag (S r) i 0) b) = U := hU
            rw [eU] at gY
            rcases tm_kind O gY with ⟨e, _⟩ | ⟨e, _⟩ | ⟨x, _, hx, e, _⟩
            · exact absurd e n2
            · exact ⟨0, by omega, e⟩
            · exact ⟨x, hx, e⟩
          obtain ⟨a2, ha2, e2⟩ := gUk
          have ek : cd_key S M r i U = kk_mk (tm_s M U) (tm_s S U) := if_neg (fun h => h.elim n1 n2)
          rw [ek] at r2 ⊢
          rw [if_pos ⟨by rw [ha', tx_ar_n (by omega)]; omega, n3⟩]
          refine br_f (by rw [e2]; exact kk_mk_ne (by omega)) (br_f (by rw [e1]; exact kk_mk_ne (by omega)) (br_f ?_ (nm_r (nI_1 _) (r2 post n (by omega) hp))))
          rw [e1, e2, kk_mk_inj (by omega) (by omega)]
          rw [e1, e2] at n4
          exact n4
        · exact br_f q0 (nm_r (nI_1 _) (r2 post n (by omega) hp))
      · obtain ⟨n, rfl⟩ : ∃ n', n = n' + 1 := ⟨n - 1, by omega⟩
        refine br_f hge ?_
        exact yw_isCand O C A F g (by omega) (fun h => absurd (by rw [hU] at h; exact h) hP) (fun _ => br_t rfl (nm_r (nI_1 _) (r3 post n (by omega) hp)))
theorem jc_all (O : sg_OK S M L m) (hcl : cls = nI m) (CX : cx_OK S M L m sr cs cn cl ca ci) (CK : ck_OK S M L m sr kS kB kC kH kP kF) (C : cy_OK S M L m sh nm ln) (A : hr_A S M L m top Lv ns nn nc) (F : hr_F S M Lv nc bi FY FX) {r i b : Nat} (g : gl_OK S L m Lv r i b) {fr : Nat} (hf : fr ≤ m) : ∃ res : Int32, nx_OK (cd_P S M r i (FY (hr_cd r (i + 1) b))) m fr res ∧ (∀ {qB dB hS cL hL fL kL dT dO dC qT stt lm sc ac ev chc cF cTk hT tT chs : Int32} {ub nT aK nM cT : Int64} {kS kB kC kH dV qV ns nn tr fP fB fC fR fT fN hG hB hF hK hH hR hC hP : Nat → Int32} {nc pl pr : Nat → Int64} (post : Int32 → Prop), post res → wpX_nextCandidate post (qB, dB, hS, ub, nT, aK, nM, cT, cL, hL, fL, kL, cls, dT, dO, dC, qT, stt, lm, sc, ac, ev, chc, cF, cTk, hT, tT, chs, cs, cn, cl, ca, ci, kS, kB, kC, kH, kP, kF, dV, qV, ns, nn, nc, tr, fP, fB, fC, fR, fT, fN, hG, hB, hF, hK, hH, hR, hC, hP, pl, pr) (nI (sr r + i)) (cd_key S M r i (FY (hr_cd r (i + 1) b))) (nI fr)) ∧ (∀ {cL hL fL kL stt lm sc ac ev chc hT yd chs : Int32} {lR lB lC lP lI gA hB hH hC hP gD gb gr gs gc gp gi yl yr : Nat → Int32} {nb : Nat} (post : Int32 → Prop), post res → wpY_candidate post (cL, hL, fL, kL, cls, stt, lm, sc, ac, ev, chc, hT, yd, chs, sh, nm, ln, bi, lR, lB, lC, lP, lI, gA, hB, hH, hC, hP, gD, gb, gr, gs, gc, gp, gi, yl, yr, nb) (nI (r * 40 + i)) (nI b) (nI fr)) := by
  obtain ⟨res, r1, r2, r3⟩ := jc_22 O hcl CK C A F g (m - fr) fr (by omega)
  refine ⟨res, r1, fun post hp => ?_, fun post hp => ⟨_, r3 post (m - fr + 1) (by omega) hp⟩⟩
  obtain ⟨hs, c⟩ := CX r g.1
  have hi := g.2.1
  have hin : vp_in (nI (sr r + i)) 240 := vp_in_nI (by omega) (by decide)
  refine And.intro hin ⟨hin, ?_⟩
  rw [nI_clamp (by omega), (c i hi).1, (c i hi).2.1]
  exact ⟨_, r2 post (m - fr + 1) (by omega) hp⟩
end
end
section
/-! small walks: limits, frames, heights, undoing, failing -/
def pp_H (K : List fr_L) (G : Nat → cp_R) (k : Nat) : Nat := if k = 0 then fr_p K else max (fr_p K) (cp_p (G (k - 1)))
section
variable {S M : Nat → Nat → Int32} {L : Nat → Nat} {m : Nat} {sr : Nat → Nat} {Lv : Nat → Prop} {fP fB fC fR fT fN lR lB lC lP lI : Nat → Int32}
theorem fr_X_p {K : List fr_L} {f t : Int32} (h : fr_X S L sr fP fB fC fR fT fN f t K) : f = nI (fr_p K) := by
  rcases K with _ | ⟨⟨r, b, c, p, i⟩, K⟩
  · exact h
  · exact h.1
theorem fr_Y_p {K : List fr_L} (h : fr_Y lR lB lC lP lI K) (hk : 0 < K.length) : lP (K.length - 1) = nI (fr_p K) := by
  rcases K with _ | ⟨⟨r, b, c, p, i⟩, K⟩
  · exact absurd hk (Nat.lt_irrefl _)
  · exact h.2.2.2.1
theorem fr_p_pos {K : List fr_L} (h : fr_V S L m Lv K) : fr_p K = 0 ↔ K = [] := by
  rcases K with _ | ⟨⟨r, b, c, p, i⟩, K⟩
  · exact ⟨fun _ => rfl, fun _ => rfl⟩
  · obtain ⟨_, _, _, _, _, _, h7, _⟩ := h
    constructor
    · intro e
      have : p = 0 := e
      omega
    · intro e; exact absurd e (by simp)
end
section
variable {qB dB hS : Int32} {ub nT aK nM cT : Int64} {cL hL fL kL cls dT dO dC qT stt lm sc ac ev chc cF cTk hT tT chs : Int32} {cs cn cl ca ci kS kB kC kH dV qV ns nn tr fP fB fC fR fT fN hG hB hF hK hH hR hC hP : Nat → Int32} {kP kF nc pl pr : Nat → Int64}
variable {S M : Nat → Nat → Int32} {L : Nat → Nat} {m : Nat} {sr : Nat → Nat} {Lv : Nat → Prop} {K : List fr_L} {G : Nat → cp_R} {k T : Nat}
theorem xw_end {w : Int32} {post : SX → Prop} (hp : post (qB, dB, hS, ub, nT, aK, nM, cT, cL, hL, fL, kL, cls, dT, dO, dC, qT, 5, w, sc, ac, 5, chc, 0, 0, 0, 0, 0, cs, cn, cl, ca, ci, kS, kB, kC, kH, kP, kF, dV, qV, ns, nn, nc, tr, fP, fB, fC, fR, fT, fN, hG, hB, hF, hK, hH, hR, hC, hP, pl, pr)) : wpX_endWithLimit post (qB, dB, hS, ub, nT, aK, nM, cT, cL, hL, fL, kL, cls, dT, dO, dC, qT, stt, lm, sc, ac, ev, chc, cF, cTk, hT, tT, chs, cs, cn, cl, ca, ci, kS, kB, kC, kH, kP, kF, dV, qV, ns, nn, nc, tr, fP, fB, fC, fR, fT, fN, hG, hB, hF, hK, hH, hR, hC, hP, pl, pr) w := hp
theorem xw_protH (hcF : cF = nI (fr_p K)) (hK32 : fr_p K ≤ 32) (hk : chs = nI k) (hk32 : k ≤ 32) (hg : 0 < k → hP (k - 1) = nI (cp_p (G (k - 1))) ∧ cp_p (G (k - 1)) ≤ 32) {post : Int32 → Prop} (hp : post (nI (pp_H K G k))) : wpX_protectedHeight post (qB, dB, hS, ub, nT, aK, nM, cT, cL, hL, fL, kL, cls, dT, dO, dC, qT, stt, lm, sc, ac, ev, chc, cF, cTk, hT, tT, chs, cs, cn, cl, ca, ci, kS, kB, kC, kH, kP, kF, dV, qV, ns, nn, nc, tr, fP, fB, fC, fR, fT, fN, hG, hB, hF, hK, hH, hR, hC, hP, pl, pr) := by
  subst hcF hk
  unfold pp_H at hp
  rcases Nat.eq_zero_or_pos k with z | z
  · subst z
    exact br_t (by decide) hp
  · rw [if_neg (by omega)] at hp
    obtain ⟨g1, g2⟩ := hg z
    refine br_f (nI_nle z (by omega)) ?_
    rw [show nI k - 1 = nI (k - 1) from pk_sub (b := 1) z, nI_clamp (by omega), g1]
    refine ⟨vp_in_nI (by omega) (by decide), ?_⟩
    by_cases c : cp_p (G (k - 1)) ≤ fr_p K
    · refine br_t (nI_le c (by omega)) ?_
      rw [Nat.max_eq_left c] at hp; exact hp
    · refine br_f (nI_ge (by omega) (by omega)) ⟨vp_in_nI (by omega) (by decide), nm_e ?_⟩
      rw [Nat.max_eq_right (by omega)] at hp; exact hp
theorem xw_pend (O : sg_OK S M L m) (C : cx_OK S M L m sr cs cn cl ca ci) (hX : fr_X S L sr fP fB fC fR fT fN cF cTk K) (V : fr_V S L m Lv K) {post : Int32 → Prop} (hp : post (nI (fr_pd S L K))) : wpX_pendingNumber post (qB, dB, hS, ub, nT, aK, nM, cT, cL, hL, fL, kL, cls, dT, dO, dC, qT, stt, lm, sc, ac, ev, chc, cF, cTk, hT, tT, chs, cs, cn, cl, ca, ci, kS, kB, kC, kH, kP, kF, dV, qV, ns, nn, nc, tr, fP, fB, fC, fR, fT, fN, hG, hB, hF, hK, hH, hR, hC, hP, pl, pr) := by
  rcases K with _ | ⟨⟨r, b, c, p, i⟩, K⟩
  · exact br_t hX hp
  · obtain ⟨h1, h2, h3, h4, h5, h6, h7⟩ := hX
    obtain ⟨v1, v2, v3, v4, v5, v6, v7, v8, v9⟩ := V
    obtain ⟨hs, cc⟩ := C r v1
    subst h1 h2
    refine br_f (nI_ne0 (by omega) (by omega)) ⟨vp_in_nI (by omega) (by decide), vp_in_nI (by omega) (by decide), ?_⟩
    rw [nI_clamp (by omega), nI_clamp (by omega), (cc i v2).2.2.2.2, h6, nI_add]
    exact hp
theorem xw_makeFrame (O : sg_OK S M L m) (C : cx_OK S M L m sr cs cn cl ca ci) (hX : fr_X S L sr fP fB fC fR fT fN cF cTk K) (V : fr_V S L m Lv K) {p : Nat} {a b c : Int32} (hp32 : p ≤ 32) (hlt : fr_p K < p) {post : SX → Prop} (hp : post (qB, dB, hS, ub, nT, aK, nM, cT, cL, hL, fL, kL, cls, dT, dO, dC, qT, stt, lm, sc, ac, ev, chc, cF, cTk, hT, tT, chs, cs, cn, cl, ca, ci, kS, kB, kC, kH, kP, kF, dV, qV, ns, nn, nc, tr, upd fP p a, upd fB p b, upd fC p c, upd fR p cF, upd fT p cTk, upd fN p (nI (fr_pd S L K)), hG, hB, hF, hK, hH, hR, hC, hP, pl, pr)) : wpX_makeFrame post (qB, dB, hS, ub, nT, aK, nM, cT, cL, hL, fL, kL, cls, dT, dO, dC, qT, stt, lm, sc, ac, ev, chc, cF, cTk, hT, tT, chs, cs, cn, cl, ca, ci, kS, kB, kC, kH, kP, kF, dV, qV, ns, nn, nc, tr, fP, fB, fC, fR, fT, fN, hG, hB, hF, hK, hH, hR, hC, hP, pl, pr) (nI p) a b c := by
  have hin : vp_in (nI p) 33 := vp_in_nI (by omega) (by decide)
  have ecl : (nI p).toNatClampNeg = p := nI_clamp (by omega)
  refine And.intro hin (nm_r (e' := upd fP p a) (by rw [ecl]) ⟨hin, nm_r (e' := upd fB p b) (by rw [ecl]) ⟨hin, nm_r (e' := upd fC p c) (by rw [ecl]) ⟨hin, nm_r (e' := upd fR p cF) (by rw [ecl]) ⟨hin, nm_r (e' := upd fT p cTk) (by rw [ecl]) ?_⟩⟩⟩⟩)
  have hX' : fr_X S L sr (upd fP p a) (upd fB p b) (upd fC p c) (upd fR p cF) (upd fT p cTk) fN cF cTk K := fr_X_cg V (fun q hq => ⟨pk_un (by omega), pk_un (by omega), pk_un (by omega), pk_un (by omega), pk_un (by omega), rfl⟩) hX
  exact xw_pend O C hX' V ⟨hin, nm_r (e' := upd fN p (nI (fr_pd S L K))) (by rw [ecl]) hp⟩
theorem xw_undo7 {lo : Nat} (hT256 : lo ≤ 256) (f : ∀ i, i < T → ∃ n, n < 256 ∧ tr i = nI n) (hTle : T ≤ 256) {post : SX → Prop} : ∀ (q n : Nat) (nc : Nat → Int64), lo + q ≤ T → q < n → post (qB, dB, hS, ub, nT, aK, nM, cT, cL, hL, fL, kL, cls, dT, dO, dC, qT, stt, lm, sc, ac, ev, chc, cF, cTk, hT, nI lo, chs, cs, cn, cl, ca, ci, kS, kB, kC, kH, kP, kF, dV, qV, ns, nn, ud_o tr lo q nc, tr, fP, fB, fC, fR, fT, fN, hG, hB, hF, hK, hH, hR, hC, hP, pl, pr) → wX_undoTrail_7 post (nI lo) qB dB hS ub nT aK nM cT cL hL fL kL cls dT dO dC qT stt lm sc ac ev chc cF cTk hT tT chs n (tx_s32 (lo + q)) cs cn cl ca ci kS kB kC kH kP kF dV qV ns nn nc tr fP fB fC fR fT fN hG hB hF hK hH hR hC hP pl pr
  | _, 0, _, _, h, _ => by omega
  | 0, n + 1, nc, hq, _, hp => by
    refine br_t ?_ hp
    rw [Nat.add_zero]
    rcases Nat.eq_zero_or_pos lo with z | z
    · subst z; decide
    · rw [tx_s32_p (by omega)]; exact nI_lt (by omega) (by omega)
  | q + 1, n + 1, nc, hq, hn, hp => by
    obtain ⟨w, hw, ew⟩ := f (lo + q) (by omega)
    have e3 : nI w * 3 = nI (w * 3) := pk_mul w 3
    rw [show lo + (q + 1) = (lo + q) + 1 by omega, tx_s32_s]
    refine br_f (nI_nlt (by omega) (by omega)) ⟨vp_in_nI (by omega) (by decide), ?_⟩
    rw [nI_clamp (by omega), ew, e3]
    refine ⟨vp_in_nI (by omega) (by decide), nm_r (e' := vp_updL nc ((tr (lo + q)).toNatClampNeg * 3) (-1)) ?_ (nm_r (tx_s32_m _) ?_)⟩
    · rw [nI_clamp (by omega), ew, nI_clamp (by omega)]
    · exact xw_undo7 hT256 f hTle q n _ (by omega) (by omega) hp
theorem xw_undo {lo : Nat} (hlo : lo ≤ T) (f : ∀ i, i < T → ∃ n, n < 256 ∧ tr i = nI n) (hTle : T ≤ 256) {post : SX → Prop} (hp : post (qB, dB, hS, ub, nT, aK, nM, cT, cL, hL, fL, kL, cls, dT, dO, dC, qT, stt, lm, sc, ac, ev, chc, cF, cTk, hT, nI lo, chs, cs, cn, cl, ca, ci, kS, kB, kC, kH, kP, kF, dV, qV, ns, nn, ud_o tr lo (T - lo) nc, tr, fP, fB, fC, fR, fT, fN, hG, hB, hF, hK, hH, hR, hC, hP, pl, pr)) : wpX_undoTrail post (qB, dB, hS, ub, nT, aK, nM, cT, cL, hL, fL, kL, cls, dT, dO, dC, qT, stt, lm, sc, ac, ev, chc, cF, cTk, hT, nI T, chs, cs, cn, cl, ca, ci, kS, kB, kC, kH, kP, kF, dV, qV, ns, nn, nc, tr, fP, fB, fC, fR, fT, fN, hG, hB, hF, hK, hH, hR, hC, hP, pl, pr) (nI lo) := by
  refine nm_r (e' := tx_s32 (lo + (T - lo))) ?_ ⟨T - lo + 1, ?_⟩
  · rw [show lo + (T - lo) = T by omega]; rfl
  · exact xw_undo7 (T := T) (by omega) f hTle (T - lo) (T - lo + 1) nc (by omega) (by omega) hp
end
section
variable {cL hL fL kL cls stt lm sc ac ev chc hT yd chs : Int32} {sh nm ln bi lR lB lC lP lI gA hB hH hC hP gD gb gr gs gc gp gi yl yr : Nat → Int32} {nb : Nat}
variable {S M : Nat → Nat → Int32} {L : Nat → Nat} {m : Nat} {Lv : Nat → Prop} {K : List fr_L} {G : Nat → cp_R} {k : Nat}
theorem yw_endW {w : Int32} {post : SY → Prop} (hp : post (cL, hL, fL, kL, cls, 5, w, sc, ac, 5, chc, 0, 0, 0, sh, nm, ln, bi, lR, lB, lC, lP, lI, gA, hB, hH, hC, hP, gD, gb, gr, gs, gc, gp, gi, yl, yr, nb)) : wpY_endWith post (cL, hL, fL, kL, cls, stt, lm, sc, ac, ev, chc, hT, yd, chs, sh, nm, ln, bi, lR, lB, lC, lP, lI, gA, hB, hH, hC, hP, gD, gb, gr, gs, gc, gp, gi, yl, yr, nb) w := hp
theorem yw_height (V : fr_V S L m Lv K) (hY : fr_Y lR lB lC lP lI K) (hd : yd = nI K.length) (hk : chs = nI k) (hk32 : k ≤ 32) (hg : 0 < k → hP (k - 1) = nI (cp_p (G (k - 1))) ∧ cp_p (G (k - 1)) ≤ 32) {post : Int32 → Prop} (hp : post (nI (pp_H K G k))) : wpY_height post (cL, hL, fL, kL, cls, stt, lm, sc, ac, ev, chc, hT, yd, chs, sh, nm, ln, bi, lR, lB, lC, lP, lI, gA, hB, hH, hC, hP, gD, gb, gr, gs, gc, gp, gi, yl, yr, nb) := by
  have hlen := fr_len V
  have aux : ∀ x, x = nI (fr_p K) → wY_height_21 post x cL hL fL kL cls stt lm sc ac ev chc hT yd chs sh nm ln bi lR lB lC lP lI gA hB hH hC hP gD gb gr gs gc gp gi yl yr nb := by
    intro x ex
    subst ex hk
    unfold pp_H at hp
    rcases Nat.eq_zero_or_pos k with z | z
    · subst z
      exact br_t (by decide) hp
    · rw [if_neg (by omega)] at hp
      obtain ⟨g1, g2⟩ := hg z
      refine br_f (nI_nle z (by omega)) ?_
      rw [show nI k - 1 = nI (k - 1) from pk_sub (b := 1) z, nI_clamp (by omega), g1]
      refine ⟨vp_in_nI (by omega) (by decide), ?_⟩
      by_cases c : cp_p (G (k - 1)) ≤ fr_p K
      · refine br_t (nI_le c (by omega)) ?_
        rw [Nat.max_eq_left c] at hp; exact hp
      · refine br_f (nI_ge (by omega) (by omega)) ⟨vp_in_nI (by omega) (by decide), nm_e ?_⟩
        rw [Nat.max_eq_right (by omega)] at hp; exact hp
  rcases Nat.eq_zero_or_pos K.length with z | z
  · have e : K = [] := List.length_eq_zero_iff.mp z
    subst e
    exact br_t (by rw [hd]; decide) (aux 0 rfl)
  · refine br_f (by rw [hd]; exact nI_nle z (by omega)) ?_
    rw [hd, show nI K.length - 1 = nI (K.length - 1) from pk_sub (b := 1) z] at *
    refine ⟨vp_in_nI (by omega) (by decide), nm_e ?_⟩
    rw [nI_clamp (by omega)]
    exact aux _ (fr_Y_p hY z)
theorem yw_f84 {c D : Nat} (hc : c < 32) (hD : D ≤ 32) {post : SY → Prop} (hp : post (cL, hL, fL, kL, cls, stt, lm, sc, ac, ev, chc, hT, nI D, chs, sh, nm, ln, bi, pw_I lR 0 D (fun i => gr (c * 32 + i)), pw_I lB 0 D (fun i => gs (c * 32 + i)), pw_I lC 0 D (fun i => gc (c * 32 + i)), pw_I lP 0 D (fun i => gp (c * 32 + i)), pw_I lI 0 D (fun i => gi (c * 32 + i)), gA, hB, hH, hC, hP, gD, gb, gr, gs, gc, gp, gi, yl, yr, nb)) : ∀ (q i n : Nat), i + q = D → q < n → wY_fail_84 post (nI c) cL hL fL kL cls stt lm sc ac ev chc hT (nI D) chs nb n (nI i) sh nm ln bi (pw_I lR 0 i (fun i => gr (c * 32 + i))) (pw_I lB 0 i (fun i => gs (c * 32 + i))) (pw_I lC 0 i (fun i => gc (c * 32 + i))) (pw_I lP 0 i (fun i => gp (c * 32 + i))) (pw_I lI 0 i (fun i => gi (c * 32 + i))) gA hB hH hC hP gD gb gr gs gc gp gi yl yr
  | _, _, 0, _, h => by omega
  | 0, i, n + 1, hi, _ => by
    have e : i = D := by omega
    subst e
    exact br_t (nI_le (Nat.le_refl _) (by omega)) hp
  | q + 1, i, n + 1, hi, hn => by
    have e1 : nI c * 32 + nI i = nI (c * 32 + i) := by
      have : nI c * 32 = nI (c * 32) := pk_mul c 32
      rw [this, nI_add]
    have v1 : vp_in (nI c * 32 + nI i) 1024 := by rw [e1]; exact vp_in_nI (by omega) (by decide)
    have v2 : vp_in (nI i) 32 := vp_in_nI (by omega) (by decide)
    have ec : (nI c * 32 + nI i).toNatClampNeg = c * 32 + i := by rw [e1]; exact nI_clamp (by omega)
    have ei : (nI i).toNatClampNeg = i := nI_clamp (by omega)
    refine br_f (nI_ge (by omega) (by omega)) ⟨v1, v2, nm_r (e' := pw_I lR 0 (i + 1) (fun i => gr (c * 32 + i))) ?_ ⟨v1, v2, nm_r (e' := pw_I lB 0 (i + 1) (fun i => gs (c * 32 + i))) ?_ ⟨v1, v2, nm_r (e' := pw_I lC 0 (i + 1) (fun i => gc (c * 32 + i))) ?_ ⟨v1, v2, nm_r (e' := pw_I lP 0 (i + 1) (fun i => gp (c * 32 + i))) ?_ ⟨v1, v2, nm_r (e' := pw_I lI 0 (i + 1) (fun i => gi (c * 32 + i))) ?_ (nm_r (nI_1 _) ?_)⟩⟩⟩⟩⟩
    · rw [ei, ec, ← pw_Iup (Nat.zero_le _)]
    · rw [ei, ec, ← pw_Iup (Nat.zero_le _)]
    · rw [ei, ec, ← pw_Iup (Nat.zero_le _)]
    · rw [ei, ec, ← pw_Iup (Nat.zero_le _)]
    · rw [ei, ec, ← pw_Iup (Nat.zero_le _)]
    · exact yw_f84 hc hD hp q (i + 1) n (by omega) (by omega)
theorem yw_f51 {c D : Nat} (hc : c < 32) (hD : D ≤ 32) (hnb : nb = 65792) {post : SY → Prop} (hp : post (cL, hL, fL, kL, cls, stt, lm, sc, ac, ev, chc, hT, nI D, chs, sh, nm, ln, pw_I bi 0 2056 (fun i => gb (c * 2056 + i)), pw_I lR 0 D (fun i => gr (c * 32 + i)), pw_I lB 0 D (fun i => gs (c * 32 + i)), pw_I lC 0 D (fun i => gc (c * 32 + i)), pw_I lP 0 D (fun i => gp (c * 32 + i)), pw_I lI 0 D (fun i => gi (c * 32 + i)), gA, hB, hH, hC, hP, gD, gb, gr, gs, gc, gp, gi, yl, yr, nb)) : ∀ (q i n : Nat), i + q = 2056 → q < n → wY_fail_51 post (nI c) cL hL fL kL cls stt lm sc ac ev chc hT (nI D) chs nb n (nI i) sh nm ln (pw_I bi 0 i (fun i => gb (c * 2056 + i))) lR lB lC lP lI gA hB hH hC hP gD gb gr gs gc gp gi yl yr
  | _, _, 0, _, h => by omega
  | 0, i, n + 1, hi, _ => by
    have e : i = 2056 := by omega
    subst e
    refine br_t (by decide) ⟨D + 1, ?_⟩
    have := yw_f84 hc hD hp D 0 (D + 1) (by omega) (by omega)
    rw [pw_I0 (Nat.le_refl _), pw_I0 (Nat.le_refl _), pw_I0 (Nat.le_refl _), pw_I0 (Nat.le_refl _), pw_I0 (Nat.le_refl _)] at this
    exact this
  | q + 1, i, n + 1, hi, hn => by
    have e1 : nI c * 2056 + nI i = nI (c * 2056 + i) := by
      have : nI c * 2056 = nI (c * 2056) := pk_mul c 2056
      rw [this, nI_add]
    have v1 : vp_in (nI c * 2056 + nI i) nb := by rw [e1, hnb]; exact vp_in_nI (by omega) (by decide)
    have v2 : vp_in (nI i) 2056 := vp_in_nI (by omega) (by decide)
    have ec : (nI c * 2056 + nI i).toNatClampNeg = c * 2056 + i := by rw [e1]; exact nI_clamp (by omega)
    have ei : (nI i).toNatClampNeg = i := nI_clamp (by omega)
    refine br_f (nI_ge (b := 2056) (by omega) (by decide)) ⟨v1, v2, nm_r (e' := pw_I bi 0 (i + 1) (fun i => gb (c * 2056 + i))) ?_ (nm_r (nI_1 _) ?_)⟩
    · rw [ei, ec, ← pw_Iup (Nat.zero_le _)]
    · exact yw_f51 hc hD hnb hp q (i + 1) n (by omega) (by omega)
theorem yw_fail {c D : Nat} (hc : c < 32) (hD : D ≤ 32) (hnb : nb = 65792) (hk : chs = nI (c + 1)) (hgD : gD c = nI D) {post : SY → Prop} (hp : post (cL, hL, fL, kL, cls, 2, lm, sc, ac, ev, chc, hH c, nI D, chs, sh, nm, ln, pw_I bi 0 2056 (fun i => gb (c * 2056 + i)), pw_I lR 0 D (fun i => gr (c * 32 + i)), pw_I lB 0 D (fun i => gs (c * 32 + i)), pw_I lC 0 D (fun i => gc (c * 32 + i)), pw_I lP 0 D (fun i => gp (c * 32 + i)), pw_I lI 0 D (fun i => gi (c * 32 + i)), gA, hB, hH, hC, hP, gD, gb, gr, gs, gc, gp, gi, yl, yr, nb)) : wpY_fail post (cL, hL, fL, kL, cls, stt, lm, sc, ac, ev, chc, hT, yd, chs, sh, nm, ln, bi, lR, lB, lC, lP, lI, gA, hB, hH, hC, hP, gD, gb, gr, gs, gc, gp, gi, yl, yr, nb) := by
  have v : vp_in (nI c) 32 := vp_in_nI hc (by decide)
  have ec : (nI c).toNatClampNeg = c := nI_clamp (by omega)
  refine br_f (by rw [hk]; exact nI_ne0 (by omega) (by omega)) (nm_r (e' := nI c) (by rw [hk]; exact nI_pred c) ⟨v, nm_r (e' := hH c) (by rw [ec]) ⟨v, nm_r (e' := nI D) (by rw [ec, hgD]) ⟨2057, ?_⟩⟩⟩)
  have := yw_f51 hc hD hnb hp 2056 0 2057 (by omega) (by omega)
  rw [pw_I0 (Nat.le_refl _)] at this
  exact this
end
end
section
/-! the relation of the two states -/
def dr_OK (dT dO dC : Int32) (cs cn cl dV sh nm ln : Nat → Int32) : Prop :=
  ∃ (N : Nat) (DS DM : Nat → Int32), N ≤ 40 ∧ dT = nI N ∧ ln 1 = nI N ∧ tx_WT DS DM N ∧ (∀ i, i < N → cs (200 + i) = DS i ∧ cn (200 + i) = DM i ∧ cl (200 + i) = tx_s32 (tx_sl DS DM i) ∧ sh (40 + i) = DS i ∧ nm (40 + i) = DM i) ∧ dO = nI (tx_op DS N) ∧ dC = nI (tx_ch DS DM N) ∧ (∀ v, v < 8 → dV v = tx_s32 (tx_vs DS DM N v))
def lm_OK (cL hL fL kL : Int32) : Prop := ∃ n1 n2 n3 n4 : Nat, cL = nI n1 ∧ n1 ≤ 160 ∧ hL = nI n2 ∧ n2 ≤ 256 ∧ fL = nI n3 ∧ n3 ≤ 32 ∧ kL = nI n4 ∧ n4 ≤ 32
def rl_C (S M : Nat → Nat → Int32) (L : Nat → Nat) (m : Nat) (sr : Nat → Nat) (cL hL fL kL cls dT dO dC qT : Int32) (cs cn cl ca ci kS kB kC kH : Nat → Int32) (kP kF : Nat → Int64) (dV sh nm ln : Nat → Int32) (nb : Nat) : Prop :=
  lm_OK cL hL fL kL ∧ nb = 65792 ∧ cls = nI m ∧ sg_OK S M L m ∧ cx_OK S M L m sr cs cn cl ca ci ∧ cy_OK S M L m sh nm ln ∧ ck_OK S M L m sr kS kB kC kH kP kF ∧ qT = nI (L 0) ∧ dr_OK dT dO dC cs cn cl dV sh nm ln
def qv_OK (S M : Nat → Nat → Int32) (L : Nat → Nat) (qV : Nat → Int32) : Prop := ∀ v, v < 8 → qV v = tx_s32 (tx_vs (S 0) (M 0) (L 0) v)
def sf_OK (S M : Nat → Nat → Int32) (L : Nat → Nat) (K : List fr_L) (G : Nat → cp_R) (Lv : Nat → Prop) (T k h : Nat) (stt lm : Int32) (qV : Nat → Int32) : Prop :=
  (stt ≠ 5 → lm = 0) ∧
  (((stt = 0 ∨ stt = 4 ∨ stt = 5) ∧ K = [] ∧ k = 0 ∧ h = 0) ∨
   (ql_OK S L Lv ∧ qv_OK S M L qV ∧ ((stt = 1 ∧ K ≠ []) ∨ (stt = 2 ∧ ∃ c, k = c + 1 ∧ h = cp_h (G c) ∧ T = cp_t (G c) ∧ K = cp_K (G c) ∧ ∀ t, cp_V (G c) t → Lv t) ∨ (stt = 3 ∧ K = []))))
def rl_R (S M : Nat → Nat → Int32) (L : Nat → Nat) (m : Nat) (sr : Nat → Nat) (stt lm cF cTk yd hT tT chs : Int32) (qV ns nn tr : Nat → Int32) (nc : Nat → Int64) (fP fB fC fR fT fN hG hB hF hK hH hR hC hP bi lR lB lC lP lI gA gD gb gr gs gc gp gi : Nat → Int32) : Prop :=
  ∃ (K : List fr_L) (G : Nat → cp_R) (Lv : Nat → Prop) (T k h : Nat), rn_OK S M L m sr K G Lv T k h cF cTk yd hT tT chs ns nn tr nc fP fB fC fR fT fN hG hB hF hK hH hR hC hP bi lR lB lC lP lI gA gD gb gr gs gc gp gi ∧ sf_OK S M L K G Lv T k h stt lm qV
def rl_A (qB : Int32) (dB : Int32) (hS : Int32) (ub : Int64) (nT : Int64) (aK : Int64) (nM : Int64) (cT : Int64) (cL : Int32) (hL : Int32) (fL : Int32) (kL : Int32) (cls : Int32) (dT : Int32) (dO : Int32) (dC : Int32) (qT : Int32) (stt : Int32) (lm : Int32) (sc : Int32) (ac : Int32) (ev : Int32) (chc : Int32) (cF : Int32) (cTk : Int32) (hT : Int32) (tT : Int32) (chs : Int32) (cs : Nat → Int32) (cn : Nat → Int32) (cl : Nat → Int32) (ca : Nat → Int32) (ci : Nat → Int32) (kS : Nat → Int32) (kB : Nat → Int32) (kC : Nat → Int32) (kH : Nat → Int32) (kP : Nat → Int64) (kF : Nat → Int64) (dV : Nat → Int32) (qV : Nat → Int32) (ns : Nat → Int32) (nn : Nat → Int32) (nc : Nat → Int64) (tr : Nat → Int32) (fP : Nat → Int32) (fB : Nat → Int32) (fC : Nat → Int32) (fR : Nat → Int32) (fT : Nat → Int32) (fN : Nat → Int32) (hG : Nat → Int32) (hB : Nat → Int32) (hF : Nat → Int32) (hK : Nat → Int32) (hH : Nat → Int32) (hR : Nat → Int32) (hC : Nat → Int32) (hP : Nat → Int32) (pl : Nat → Int64) (pr : Nat → Int64) (yd : Int32) (sh : Nat → Int32) (nm : Nat → Int32) (ln : Nat → Int32) (bi : Nat → Int32) (lR : Nat → Int32) (lB : Nat → Int32) (lC : Nat → Int32) (lP : Nat → Int32) (lI : Nat → Int32) (gA : Nat → Int32) (gD : Nat → Int32) (gb : Nat → Int32) (gr : Nat → Int32) (gs : Nat → Int32) (gc : Nat → Int32) (gp : Nat → Int32) (gi : Nat → Int32) (yl : Nat → Int32) (yr : Nat → Int32) (nb : Nat) : Prop :=
  ∃ (S M : Nat → Nat → Int32) (L : Nat → Nat) (m : Nat) (sr : Nat → Nat), rl_C S M L m sr cL hL fL kL cls dT dO dC qT cs cn cl ca ci kS kB kC kH kP kF dV sh nm ln nb ∧ rl_R S M L m sr stt lm cF cTk yd hT tT chs qV ns nn tr nc fP fB fC fR fT fN hG hB hF hK hH hR hC hP bi lR lB lC lP lI gA gD gb gr gs gc gp gi
/-- the relation -/
def zz_R (u : SX) (v : SY) : Prop := ∃ (qB : Int32), ∃ (dB : Int32), ∃ (hS : Int32), ∃ (ub : Int64), ∃ (nT : Int64), ∃ (aK : Int64), ∃ (nM : Int64), ∃ (cT : Int64), ∃ (cL : Int32), ∃ (hL : Int32), ∃ (fL : Int32), ∃ (kL : Int32), ∃ (cls : Int32), ∃ (dT : Int32), ∃ (dO : Int32), ∃ (dC : Int32), ∃ (qT : Int32), ∃ (stt : Int32), ∃ (lm : Int32), ∃ (sc : Int32), ∃ (ac : Int32), ∃ (ev : Int32), ∃ (chc : Int32), ∃ (cF : Int32), ∃ (cTk : Int32), ∃ (hT : Int32), ∃ (tT : Int32), ∃ (chs : Int32), ∃ (cs : Nat → Int32), ∃ (cn : Nat → Int32), ∃ (cl : Nat → Int32), ∃ (ca : Nat → Int32), ∃ (ci : Nat → Int32), ∃ (kS : Nat → Int32), ∃ (kB : Nat → Int32), ∃ (kC : Nat → Int32), ∃ (kH : Nat → Int32), ∃ (kP : Nat → Int64), ∃ (kF : Nat → Int64), ∃ (dV : Nat → Int32), ∃ (qV : Nat → Int32), ∃ (ns : Nat → Int32), ∃ (nn : Nat → Int32), ∃ (nc : Nat → Int64), ∃ (tr : Nat → Int32), ∃ (fP : Nat → Int32), ∃ (fB : Nat → Int32), ∃ (fC : Nat → Int32), ∃ (fR : Nat → Int32), ∃ (fT : Nat → Int32), ∃ (fN : Nat → Int32), ∃ (hG : Nat → Int32), ∃ (hB : Nat → Int32), ∃ (hF : Nat → Int32), ∃ (hK : Nat → Int32), ∃ (hH : Nat → Int32), ∃ (hR : Nat → Int32), ∃ (hC : Nat → Int32), ∃ (hP : Nat → Int32), ∃ (pl : Nat → Int64), ∃ (pr : Nat → Int64), ∃ (yd : Int32), ∃ (sh : Nat → Int32), ∃ (nm : Nat → Int32), ∃ (ln : Nat → Int32), ∃ (bi : Nat → Int32), ∃ (lR : Nat → Int32), ∃ (lB : Nat → Int32), ∃ (lC : Nat → Int32), ∃ (lP : Nat → Int32), ∃ (lI : Nat → Int32), ∃ (gA : Nat → Int32), ∃ (gD : Nat → Int32), ∃ (gb : Nat → Int32), ∃ (gr : Nat → Int32), ∃ (gs : Nat → Int32), ∃ (gc : Nat → Int32), ∃ (gp : Nat → Int32), ∃ (gi : Nat → Int32), ∃ (yl : Nat → Int32), ∃ (yr : Nat → Int32), ∃ (nb : Nat), u = (qB, dB, hS, ub, nT, aK, nM, cT, cL, hL, fL, kL, cls, dT, dO, dC, qT, stt, lm, sc, ac, ev, chc, cF, cTk, hT, tT, chs, cs, cn, cl, ca, ci, kS, kB, kC, kH, kP, kF, dV, qV, ns, nn, nc, tr, fP, fB, fC, fR, fT, fN, hG, hB, hF, hK, hH, hR, hC, hP, pl, pr) ∧ v = (cL, hL, fL, kL, cls, stt, lm, sc, ac, ev, chc, hT, yd, chs, sh, nm, ln, bi, lR, lB, lC, lP, lI, gA, hB, hH, hC, hP, gD, gb, gr, gs, gc, gp, gi, yl, yr, nb) ∧ rl_A qB dB hS ub nT aK nM cT cL hL fL kL cls dT dO dC qT stt lm sc ac ev chc cF cTk hT tT chs cs cn cl ca ci kS kB kC kH kP kF dV qV ns nn nc tr fP fB fC fR fT fN hG hB hF hK hH hR hC hP pl pr yd sh nm ln bi lR lB lC lP lI gA gD gb gr gs gc gp gi yl yr nb
theorem zz_mk {qB : Int32} {dB : Int32} {hS : Int32} {ub : Int64} {nT : Int64} {aK : Int64} {nM : Int64} {cT : Int64} {cL : Int32} {hL : Int32} {fL : Int32} {kL : Int32} {cls : Int32} {dT : Int32} {dO : Int32} {dC : Int32} {qT : Int32} {stt : Int32} {lm : Int32} {sc : Int32} {ac : Int32} {ev : Int32} {chc : Int32} {cF : Int32} {cTk : Int32} {hT : Int32} {tT : Int32} {chs : Int32} {cs : Nat → Int32} {cn : Nat → Int32} {cl : Nat → Int32} {ca : Nat → Int32} {ci : Nat → Int32} {kS : Nat → Int32} {kB : Nat → Int32} {kC : Nat → Int32} {kH : Nat → Int32} {kP : Nat → Int64} {kF : Nat → Int64} {dV : Nat → Int32} {qV : Nat → Int32} {ns : Nat → Int32} {nn : Nat → Int32} {nc : Nat → Int64} {tr : Nat → Int32} {fP : Nat → Int32} {fB : Nat → Int32} {fC : Nat → Int32} {fR : Nat → Int32} {fT : Nat → Int32} {fN : Nat → Int32} {hG : Nat → Int32} {hB : Nat → Int32} {hF : Nat → Int32} {hK : Nat → Int32} {hH : Nat → Int32} {hR : Nat → Int32} {hC : Nat → Int32} {hP : Nat → Int32} {pl : Nat → Int64} {pr : Nat → Int64} {yd : Int32} {sh : Nat → Int32} {nm : Nat → Int32} {ln : Nat → Int32} {bi : Nat → Int32} {lR : Nat → Int32} {lB : Nat → Int32} {lC : Nat → Int32} {lP : Nat → Int32} {lI : Nat → Int32} {gA : Nat → Int32} {gD : Nat → Int32} {gb : Nat → Int32} {gr : Nat → Int32} {gs : Nat → Int32} {gc : Nat → Int32} {gp : Nat → Int32} {gi : Nat → Int32} {yl : Nat → Int32} {yr : Nat → Int32} {nb : Nat} (h : rl_A qB dB hS ub nT aK nM cT cL hL fL kL cls dT dO dC qT stt lm sc ac ev chc cF cTk hT tT chs cs cn cl ca ci kS kB kC kH kP kF dV qV ns nn nc tr fP fB fC fR fT fN hG hB hF hK hH hR hC hP pl pr yd sh nm ln bi lR lB lC lP lI gA gD gb gr gs gc gp gi yl yr nb) : zz_R (qB, dB, hS, ub, nT, aK, nM, cT, cL, hL, fL, kL, cls, dT, dO, dC, qT, stt, lm, sc, ac, ev, chc, cF, cTk, hT, tT, chs, cs, cn, cl, ca, ci, kS, kB, kC, kH, kP, kF, dV, qV, ns, nn, nc, tr, fP, fB, fC, fR, fT, fN, hG, hB, hF, hK, hH, hR, hC, hP, pl, pr) (cL, hL, fL, kL, cls, stt, lm, sc, ac, ev, chc, hT, yd, chs, sh, nm, ln, bi, lR, lB, lC, lP, lI, gA, hB, hH, hC, hP, gD, gb, gr, gs, gc, gp, gi, yl, yr, nb) := ⟨qB, dB, hS, ub, nT, aK, nM, cT, cL, hL, fL, kL, cls, dT, dO, dC, qT, stt, lm, sc, ac, ev, chc, cF, cTk, hT, tT, chs, cs, cn, cl, ca, ci, kS, kB, kC, kH, kP, kF, dV, qV, ns, nn, nc, tr, fP, fB, fC, fR, fT, fN, hG, hB, hF, hK, hH, hR, hC, hP, pl, pr, yd, sh, nm, ln, bi, lR, lB, lC, lP, lI, gA, gD, gb, gr, gs, gc, gp, gi, yl, yr, nb, rfl, rfl, h⟩
theorem zz_el {P : SX → SY → Prop} (h : ∀ (qB : Int32) (dB : Int32) (hS : Int32) (ub : Int64) (nT : Int64) (aK : Int64) (nM : Int64) (cT : Int64) (cL : Int32) (hL : Int32) (fL : Int32) (kL : Int32) (cls : Int32) (dT : Int32) (dO : Int32) (dC : Int32) (qT : Int32) (stt : Int32) (lm : Int32) (sc : Int32) (ac : Int32) (ev : Int32) (chc : Int32) (cF : Int32) (cTk : Int32) (hT : Int32) (tT : Int32) (chs : Int32) (cs : Nat → Int32) (cn : Nat → Int32) (cl : Nat → Int32) (ca : Nat → Int32) (ci : Nat → Int32) (kS : Nat → Int32) (kB : Nat → Int32) (kC : Nat → Int32) (kH : Nat → Int32) (kP : Nat → Int64) (kF : Nat → Int64) (dV : Nat → Int32) (qV : Nat → Int32) (ns : Nat → Int32) (nn : Nat → Int32) (nc : Nat → Int64) (tr : Nat → Int32) (fP : Nat → Int32) (fB : Nat → Int32) (fC : Nat → Int32) (fR : Nat → Int32) (fT : Nat → Int32) (fN : Nat → Int32) (hG : Nat → Int32) (hB : Nat → Int32) (hF : Nat → Int32) (hK : Nat → Int32) (hH : Nat → Int32) (hR : Nat → Int32) (hC : Nat → Int32) (hP : Nat → Int32) (pl : Nat → Int64) (pr : Nat → Int64) (yd : Int32) (sh : Nat → Int32) (nm : Nat → Int32) (ln : Nat → Int32) (bi : Nat → Int32) (lR : Nat → Int32) (lB : Nat → Int32) (lC : Nat → Int32) (lP : Nat → Int32) (lI : Nat → Int32) (gA : Nat → Int32) (gD : Nat → Int32) (gb : Nat → Int32) (gr : Nat → Int32) (gs : Nat → Int32) (gc : Nat → Int32) (gp : Nat → Int32) (gi : Nat → Int32) (yl : Nat → Int32) (yr : Nat → Int32) (nb : Nat), rl_A qB dB hS ub nT aK nM cT cL hL fL kL cls dT dO dC qT stt lm sc ac ev chc cF cTk hT tT chs cs cn cl ca ci kS kB kC kH kP kF dV qV ns nn nc tr fP fB fC fR fT fN hG hB hF hK hH hR hC hP pl pr yd sh nm ln bi lR lB lC lP lI gA gD gb gr gs gc gp gi yl yr nb → P (qB, dB, hS, ub, nT, aK, nM, cT, cL, hL, fL, kL, cls, dT, dO, dC, qT, stt, lm, sc, ac, ev, chc, cF, cTk, hT, tT, chs, cs, cn, cl, ca, ci, kS, kB, kC, kH, kP, kF, dV, qV, ns, nn, nc, tr, fP, fB, fC, fR, fT, fN, hG, hB, hF, hK, hH, hR, hC, hP, pl, pr) (cL, hL, fL, kL, cls, stt, lm, sc, ac, ev, chc, hT, yd, chs, sh, nm, ln, bi, lR, lB, lC, lP, lI, gA, hB, hH, hC, hP, gD, gb, gr, gs, gc, gp, gi, yl, yr, nb)) {u : SX} {v : SY} (I : zz_R u v) : P u v :=
  (fun e => Exists.elim e fun qB => fun e => Exists.elim e fun dB => fun e => Exists.elim e fun hS => fun e => Exists.elim e fun ub => fun e => Exists.elim e fun nT => fun e => Exists.elim e fun aK => fun e => Exists.elim e fun nM => fun e => Exists.elim e fun cT => fun e => Exists.elim e fun cL => fun e => Exists.elim e fun hL => fun e => Exists.elim e fun fL => fun e => Exists.elim e fun kL => fun e => Exists.elim e fun cls => fun e => Exists.elim e fun dT => fun e => Exists.elim e fun dO => fun e => Exists.elim e fun dC => fun e => Exists.elim e fun qT => fun e => Exists.elim e fun stt => fun e => Exists.elim e fun lm => fun e => Exists.elim e fun sc => fun e => Exists.elim e fun ac => fun e => Exists.elim e fun ev => fun e => Exists.elim e fun chc => fun e => Exists.elim e fun cF => fun e => Exists.elim e fun cTk => fun e => Exists.elim e fun hT => fun e => Exists.elim e fun tT => fun e => Exists.elim e fun chs => fun e => Exists.elim e fun cs => fun e => Exists.elim e fun cn => fun e => Exists.elim e fun cl => fun e => Exists.elim e fun ca => fun e => Exists.elim e fun ci => fun e => Exists.elim e fun kS => fun e => Exists.elim e fun kB => fun e => Exists.elim e fun kC => fun e => Exists.elim e fun kH => fun e => Exists.elim e fun kP => fun e => Exists.elim e fun kF => fun e => Exists.elim e fun dV => fun e => Exists.elim e fun qV => fun e => Exists.elim e fun ns => fun e => Exists.elim e fun nn => fun e => Exists.elim e fun nc => fun e => Exists.elim e fun tr => fun e => Exists.elim e fun fP => fun e => Exists.elim e fun fB => fun e => Exists.elim e fun fC => fun e => Exists.elim e fun fR => fun e => Exists.elim e fun fT => fun e => Exists.elim e fun fN => fun e => Exists.elim e fun hG => fun e => Exists.elim e fun hB => fun e => Exists.elim e fun hF => fun e => Exists.elim e fun hK => fun e => Exists.elim e fun hH => fun e => Exists.elim e fun hR => fun e => Exists.elim e fun hC => fun e => Exists.elim e fun hP => fun e => Exists.elim e fun pl => fun e => Exists.elim e fun pr => fun e => Exists.elim e fun yd => fun e => Exists.elim e fun sh => fun e => Exists.elim e fun nm => fun e => Exists.elim e fun ln => fun e => Exists.elim e fun bi => fun e => Exists.elim e fun lR => fun e => Exists.elim e fun lB => fun e => Exists.elim e fun lC => fun e => Exists.elim e fun lP => fun e => Exists.elim e fun lI => fun e => Exists.elim e fun gA => fun e => Exists.elim e fun gD => fun e => Exists.elim e fun gb => fun e => Exists.elim e fun gr => fun e => Exists.elim e fun gs => fun e => Exists.elim e fun gc => fun e => Exists.elim e fun gp => fun e => Exists.elim e fun gi => fun e => Exists.elim e fun yl => fun e => Exists.elim e fun yr => fun e => Exists.elim e fun nb => fun e => by obtain ⟨e1, e2, hA⟩ := e; subst e1 e2; exact h qB dB hS ub nT aK nM cT cL hL fL kL cls dT dO dC qT stt lm sc ac ev chc cF cTk hT tT chs cs cn cl ca ci kS kB kC kH kP kF dV qV ns nn nc tr fP fB fC fR fT fN hG hB hF hK hH hR hC hP pl pr yd sh nm ln bi lR lB lC lP lI gA gD gb gr gs gc gp gi yl yr nb hA) I
def jo_R (WX : (SX → Prop) → Prop) (WY : (SY → Prop) → Prop) : Prop := ∃ u v, zz_R u v ∧ (∀ post, post u → WX post) ∧ (∀ post, post v → WY post)
theorem jo_mt {post : SX → Prop} {u : SX} (h : post u) : (match u with | (qB, dB, hS, ub, nT, aK, nM, cT, cL, hL, fL, kL, cls, dT, dO, dC, qT, stt, lm, sc, ac, ev, chc, cF, cTk, hT, tT, chs, cs, cn, cl, ca, ci, kS, kB, kC, kH, kP, kF, dV, qV, ns, nn, nc, tr, fP, fB, fC, fR, fT, fN, hG, hB, hF, hK, hH, hR, hC, hP, pl, pr) => post (qB, dB, hS, ub, nT, aK, nM, cT, cL, hL, fL, kL, cls, dT, dO, dC, qT, stt, lm, sc, ac, ev, chc, cF, cTk, hT, tT, chs, cs, cn, cl, ca, ci, kS, kB, kC, kH, kP, kF, dV, qV, ns, nn, nc, tr, fP, fB, fC, fR, fT, fN, hG, hB, hF, hK, hH, hR, hC, hP, pl, pr)) := h
theorem jo_mtY {post : SY → Prop} {u : SY} (h : post u) : (match u with | (cL, hL, fL, kL, cls, stt, lm, sc, ac, ev, chc, hT, yd, chs, sh, nm, ln, bi, lR, lB, lC, lP, lI, gA, hB, hH, hC, hP, gD, gb, gr, gs, gc, gp, gi, yl, yr, nb) => post (cL, hL, fL, kL, cls, stt, lm, sc, ac, ev, chc, hT, yd, chs, sh, nm, ln, bi, lR, lB, lC, lP, lI, gA, hB, hH, hC, hP, gD, gb, gr, gs, gc, gp, gi, yl, yr, nb)) := h
end
section
/-! choice points under changes; failing -/
section
variable {S M : Nat → Nat → Int32} {L : Nat → Nat} {m : Nat} {sr : Nat → Nat}
theorem cp_cg (O : sg_OK S M L m) {ns nn tr fP fB fC fR fT fN hG hB hF hK hH hR hC hP gA gD gb gr gs gc gp gi ns' nn' tr' fP' fB' fC' fR' fT' fN' hG' hB' hF' hK' hH' hR' hC' hP' gA' gD' gb' gr' gs' gc' gp' gi' : Nat → Int32} {nc nc' : Nat → Int64} {T T' c : Nat} {g : cp_R} (h : cp_F S M L m sr ns nn tr nc T fP fB fC fR fT fN hG hB hF hK hH hR hC hP gA gD gb gr gs gc gp gi c g)
    (e1 : ∀ n, n < cp_h g → ns' n = ns n ∧ nn' n = nn n) (e2 : ∀ j, j < cp_h g * 3 → ud_o tr' (cp_t g) (T' - cp_t g) nc' j = ud_o tr (cp_t g) (T - cp_t g) nc j) (e3 : cp_t g ≤ T') (e4 : ∀ x, x < cp_t g → tr' x = tr x) (e5 : ∀ p, p ≤ cp_p g → fP' p = fP p ∧ fB' p = fB p ∧ fC' p = fC p ∧ fR' p = fR p ∧ fT' p = fT p ∧ fN' p = fN p)
    (e6 : hG' c = hG c ∧ gA' c = gA c ∧ hB' c = hB c ∧ hF' c = hF c ∧ hK' c = hK c ∧ hH' c = hH c ∧ hR' c = hR c ∧ hC' c = hC c ∧ hP' c = hP c ∧ gD' c = gD c) (e7 : ∀ j, j < 32 → gr' (c * 32 + j) = gr (c * 32 + j) ∧ gs' (c * 32 + j) = gs (c * 32 + j) ∧ gc' (c * 32 + j) = gc (c * 32 + j) ∧ gp' (c * 32 + j) = gp (c * 32 + j) ∧ gi' (c * 32 + j) = gi (c * 32 + j)) (e8 : ∀ x, x < 2056 → gb' (c * 2056 + x) = gb (c * 2056 + x)) :
    cp_F S M L m sr ns' nn' tr' nc' T' fP' fB' fC' fR' fT' fN' hG' hB' hF' hK' hH' hR' hC' hP' gA' gD' gb' gr' gs' gc' gp' gi' c g := by
  obtain ⟨r, i, b, h0, t, q, p, K, Lc⟩ := g
  obtain ⟨⟨a1, a2, a3, a4, a5, a6, a7, a8⟩, b1, b2, b3, b4, b5, b6, b7, b8, b9, b10, b11, b12⟩ := h
  obtain ⟨f1, f2, f3, f4, f5, f6, f7, f8, f9, f10⟩ := e6
  have hlen := fr_len b3
  refine ⟨⟨by rw [f1]; exact a1, by rw [f2]; exact a2, by rw [f3]; exact a3, by rw [f6]; exact a4, by rw [f7]; exact a5, by rw [f8]; exact a6, by rw [f9]; exact a7, by rw [f10]; exact a8⟩, ?_, ?_, b3, b4, b5, b6, b7, b8, b9, e3, ?_, ?_⟩
  · rw [f4, f5]
    exact fr_X_cg b3 (fun x hx => e5 x (Nat.le_trans hx b8)) b1
  · refine fr_Y_cg (fun j hj => ?_) b2
    exact e7 j (by omega)
  · intro x hx
    obtain ⟨n, hn, e⟩ := b11 x hx
    exact ⟨n, hn, by rw [e4 x hx]; exact e⟩
  · exact hr_cg O b12 e1 (fun j hj => e2 j hj) (fun s ls vs => e8 _ (tm_ce_lt O (b12.2.1 s ls).1 vs))
theorem tf_le {tr : Nat → Int32} {T h : Nat} {nc : Nat → Int64} (f : tf_ok tr T h nc) (hh : h ≤ 256) : T ≤ 256 := by
  refine hr_pig 256 (k := T) (f := fun i => (tr i).toNatClampNeg) (fun i hi => ?_) (fun i j hij hj e => ?_)
  · obtain ⟨q, a, b, _⟩ := f.1 i hi
    show (tr i).toNatClampNeg < 256
    rw [b, nI_clamp (by omega)]; omega
  · obtain ⟨q, a, b, c⟩ := f.1 i (by omega)
    obtain ⟨q', a', b', c'⟩ := f.1 j hj
    have e' : (tr i).toNatClampNeg = (tr j).toNatClampNeg := e
    rw [b, b', nI_clamp (by omega), nI_clamp (by omega)] at e'
    exact f.2 i j hij hj (by rw [b, b', e'])
end
section
variable {qB dB hS : Int32} {ub nT aK nM cT : Int64} {cL hL fL kL cls dT dO dC qT stt lm sc ac ev chc cF cTk hT tT chs : Int32} {cs cn cl ca ci kS kB kC kH dV qV ns nn tr fP fB fC fR fT fN hG hB hF hK hH hR hC hP : Nat → Int32} {kP kF nc pl pr : Nat → Int64} {yd : Int32} {sh nm ln bi lR lB lC lP lI gA gD gb gr gs gc gp gi yl yr : Nat → Int32} {nb : Nat}
variable {S M : Nat → Nat → Int32} {L : Nat → Nat} {m : Nat} {sr : Nat → Nat} {Lv : Nat → Prop} {K : List fr_L} {G : Nat → cp_R} {k T : Nat}
theorem zz_in (C : rl_C S M L m sr cL hL fL kL cls dT dO dC qT cs cn cl ca ci kS kB kC kH kP kF dV sh nm ln nb) {s l : Int32} (hs : s = 0 ∨ s = 4 ∨ s = 5) (hl : s ≠ 5 → l = 0) : zz_R (qB, dB, hS, ub, nT, aK, nM, cT, cL, hL, fL, kL, cls, dT, dO, dC, qT, s, l, sc, ac, ev, chc, 0, 0, 0, 0, 0, cs, cn, cl, ca, ci, kS, kB, kC, kH, kP, kF, dV, qV, ns, nn, nc, tr, fP, fB, fC, fR, fT, fN, hG, hB, hF, hK, hH, hR, hC, hP, pl, pr) (cL, hL, fL, kL, cls, s, l, sc, ac, ev, chc, 0, 0, 0, sh, nm, ln, bi, lR, lB, lC, lP, lI, gA, hB, hH, hC, hP, gD, gb, gr, gs, gc, gp, gi, yl, yr, nb) := by
  refine zz_mk ⟨S, M, L, m, sr, C, [], fun _ => (0, 0, 0, 0, 0, 0, 0, [], fun _ => False), fun _ => False, 0, 0, 0, ⟨⟨rfl, rfl, rfl, by omega, rfl⟩, rfl, trivial, trivial, hr_nil (by omega), ⟨fun i hi => by omega, fun i j _ hj => by omega⟩, fun c hc => by omega, fun c d _ hd => by omega, fun c hc => by omega⟩, hl, Or.inl ⟨hs, rfl, rfl, rfl⟩⟩
theorem jf_all (C : rl_C S M L m sr cL hL fL kL cls dT dO dC qT cs cn cl ca ci kS kB kC kH kP kF dV sh nm ln nb) (hqv : qv_OK S M L qV) (hlm : lm = 0) (hk : chs = nI k) (hk32 : k ≤ 32) (hyT : tT = nI T) {hh : Nat} (TF : tf_ok tr T hh nc) (hh256 : hh ≤ 256) (CP : ∀ c, c < k → cp_F S M L m sr ns nn tr nc T fP fB fC fR fT fN hG hB hF hK hH hR hC hP gA gD gb gr gs gc gp gi c (G c)) (MO : ∀ c d, c < d → d < k → cp_h (G c) ≤ cp_h (G d) ∧ cp_t (G c) ≤ cp_t (G d) ∧ cp_p (G c) ≤ cp_p (G d)) : jo_R (fun post => wpX_failure post (qB, dB, hS, ub, nT, aK, nM, cT, cL, hL, fL, kL, cls, dT, dO, dC, qT, stt, lm, sc, ac, ev, chc, cF, cTk, hT, tT, chs, cs, cn, cl, ca, ci, kS, kB, kC, kH, kP, kF, dV, qV, ns, nn, nc, tr, fP, fB, fC, fR, fT, fN, hG, hB, hF, hK, hH, hR, hC, hP, pl, pr)) (fun post => wpY_fail post (cL, hL, fL, kL, cls, stt, lm, sc, ac, ev, chc, hT, yd, chs, sh, nm, ln, bi, lR, lB, lC, lP, lI, gA, hB, hH, hC, hP, gD, gb, gr, gs, gc, gp, gi, yl, yr, nb)) := by
  have O := C.2.2.2.1
  have hnb := C.2.1
  subst hk hyT hlm
  rcases Nat.eq_zero_or_pos k with z | z
  · subst z
    exact ⟨_, _, zz_in (s := 4) (l := 0) C (Or.inr (Or.inl rfl)) (fun _ => rfl), fun post hp => br_t rfl hp, fun post hp => br_t rfl hp⟩
  · obtain ⟨c, rfl⟩ : ∃ c, k = c + 1 := ⟨k - 1, by omega⟩
    have hT256 := tf_le TF hh256
    have CPc := CP c (by omega)
    have hall : ∀ d, d < c + 1 → cp_h (G d) ≤ cp_h (G c) ∧ cp_t (G d) ≤ cp_t (G c) := by
      intro d hd
      by_cases e : d = c
      · subst e; exact ⟨Nat.le_refl _, Nat.le_refl _⟩
      · have := MO d c (by omega) (by omega); exact ⟨this.1, this.2.1⟩
    generalize hg : G c = g at CPc
    obtain ⟨r, i, b, h0, t, q, p, K, Lc⟩ := g
    obtain ⟨⟨a1, a2, a3, a4, a5, a6, a7, a8⟩, b1, b2, b3, b4, b5, b6, b7, b8, b9, b10, b11, b12⟩ := CPc
    have hlen := fr_len b3
    have eh : cp_h (G c) = h0 := by rw [hg]; rfl
    have et : cp_t (G c) = t := by rw [hg]; rfl
    have hin : vp_in (nI c) 32 := vp_in_nI (by omega) (by decide)
    have ec : (nI c).toNatClampNeg = c := nI_clamp (by omega)
    refine ⟨(qB, dB, hS, ub, nT, aK, nM, cT, cL, hL, fL, kL, cls, dT, dO, dC, qT, 2, 0, sc, ac, ev, chc, hF c, hK c, nI h0, nI t, nI (c + 1), cs, cn, cl, ca, ci, kS, kB, kC, kH, kP, kF, dV, qV, ns, nn, ud_o tr t (T - t) nc, tr, fP, fB, fC, fR, fT, fN, hG, hB, hF, hK, hH, hR, hC, hP, pl, pr), (cL, hL, fL, kL, cls, 2, 0, sc, ac, ev, chc, nI h0, nI K.length, nI (c + 1), sh, nm, ln, pw_I bi 0 2056 (fun i => gb (c * 2056 + i)), pw_I lR 0 K.length (fun i => gr (c * 32 + i)), pw_I lB 0 K.length (fun i => gs (c * 32 + i)), pw_I lC 0 K.length (fun i => gc (c * 32 + i)), pw_I lP 0 K.length (fun i => gp (c * 32 + i)), pw_I lI 0 K.length (fun i => gi (c * 32 + i)), gA, hB, hH, hC, hP, gD, gb, gr, gs, gc, gp, gi, yl, yr, nb), ?_, fun post hp => ?_, fun post hp => ?_⟩
    · refine zz_mk ⟨S, M, L, m, sr, C, K, G, Lc, t, c + 1, h0, ⟨⟨rfl, rfl, rfl, hk32, rfl⟩, b1, ?_, b3, ?_, ?_, ?_, MO, ?_⟩, fun _ => rfl, Or.inr ⟨b5, hqv, Or.inr (Or.inl ⟨rfl, c, rfl, ?_, ?_, ?_, ?_⟩)⟩⟩
      · exact fr_Y_cg (fun j hj => ⟨pw_Iin (Nat.zero_le _) hj, pw_Iin (Nat.zero_le _) hj, pw_Iin (Nat.zero_le _) hj, pw_Iin (Nat.zero_le _) hj, pw_Iin (Nat.zero_le _) hj⟩) b2
      · exact hr_cg O b12 (fun _ _ => ⟨rfl, rfl⟩) (fun _ _ => rfl) (fun s ls vs => pw_Iin (Nat.zero_le _) (tm_ce_lt O (b12.2.1 s ls).1 vs))
      · refine ⟨fun x hx => ?_, fun x y hxy hy => TF.2 x y hxy (by omega)⟩
        obtain ⟨n, hn, e⟩ := b11 x hx
        obtain ⟨n', hn', e', hne⟩ := TF.1 x (by omega)
        have hh0 := b12.1
        have enn : n = n' := by
          rw [e] at e'
          exact (nI_eq (by omega) (by omega)).mp e'
        subst enn
        refine ⟨n, hn, e, ?_⟩
        rw [ud_miss]
        · exact hne
        · intro y hy1 hy2 ey
          obtain ⟨n2, hn2, e2, _⟩ := TF.1 y (by omega)
          rw [e2, nI_clamp (by omega)] at ey
          have : n2 = n := by omega
          subst this
          exact TF.2 x y (by omega) (by omega) (by rw [e, e2])
      · intro d hd
        have hdd := hall d hd
        have ctd : cp_t (G d) ≤ T := by
          have := CP d hd
          generalize hgd : G d = gd at this
          obtain ⟨_, _, _, _, _, _, _, _, _⟩ := gd
          exact this.2.2.2.2.2.2.2.2.2.2.1
        refine cp_cg O (CP d hd) (fun _ _ => ⟨rfl, rfl⟩) (fun j hj => ?_) (by rw [← et]; exact hdd.2) (fun _ _ => rfl) (fun _ _ => ⟨rfl, rfl, rfl, rfl, rfl, rfl⟩) ⟨rfl, rfl, rfl, rfl, rfl, rfl, rfl, rfl, rfl, rfl⟩ (fun _ _ => ⟨rfl, rfl, rfl, rfl, rfl⟩) (fun _ _ => rfl)
        have h1 := hdd.2
        rw [et] at h1
        rw [show T - cp_t (G d) = (t - cp_t (G d)) + (T - t) by omega, ud_app, show cp_t (G d) + (t - cp_t (G d)) = t by omega]
      · intro d hd
        have hdd := hall d hd
        rw [eh] at hdd
        exact hdd.1
      · exact eh.symm
      · exact et.symm
      · rw [hg]; rfl
      · rw [hg]; exact fun _ h => h
    · refine br_f (nI_ne0 (by omega) (by omega)) (nm_r (nI_pred c) ⟨hin, ?_⟩)
      rw [ec, a5]
      refine xw_undo (by omega) (fun x hx => ?_) hT256 ⟨hin, nm_r (e' := nI h0) a4 ⟨hin, nm_e ⟨hin, nm_e hp⟩⟩⟩
      obtain ⟨n, hn, e, _⟩ := TF.1 x hx
      exact ⟨n, by omega, e⟩
    · refine yw_fail (c := c) (D := K.length) (by omega) (by omega) hnb rfl a8 ?_
      rw [a4]; exact hp
end
end
section
/-! head and body in the heap; the whole unification -/
section
variable {S M : Nat → Nat → Int32} {L : Nat → Nat} {m : Nat} {Lv : Nat → Prop} {ns nn ns' nn' bi bi' : Nat → Int32} {nc nc' : Nat → Int64}
theorem hr_NW_eta {r b lo hi t : Nat} (n : hr_NW S M L r b lo hi t) : t = hr_cd r (hr_ix t) b := by
  have := hr_eta t
  rw [n.1, n.2.1] at this
  exact this.symm
theorem hr_head (O : sg_OK S M L m) {r e h : Nat} (hr : sg_VR m r) (he : e ≤ L r) (hoe : tx_op (S r) e = 0) (H : hr_HR S M L m h Lv ns nn nc bi) (hb : h + tx_ch (S r) (M r) (L r) ≤ 256) (B : bd_F S M r h 0 0 e ns nn nc ns' nn' nc') (hbi1 : ∀ v, v < 8 → bi' (h * 8 + v) = -1) (hbi2 : ∀ x, x < h * 8 → bi' x = bi x) : hr_HR S M L m (h + tx_ch (S r) (M r) e) (fun t => Lv t ∨ hr_NW S M L r h 0 (tx_ch (S r) (M r) e) t) ns' nn' nc' bi' := by
  obtain ⟨w, h40, hop, _⟩ := O.2 r hr
  obtain ⟨B1, B2, B3⟩ := B
  have hce := tx_ch_m (sh := S r) (nm := M r) he
  have A := H.2.1
  have hbs : ∀ s, Lv s → tm_sl S M s ≠ 0 → hr_bs s < h := by
    intro s ls hs
    have := ((A s ls).2.1 hs).1
    unfold tm_nd at this
    omega
  refine hr_new (lo := 0) (hi := tx_ch (S r) (M r) e) O H hr (Nat.zero_le _) (by omega) (fun s ls hs eb => absurd (hbs s ls hs) (by omega)) B1 B2 ?_ ?_
  · intro s ls vs
    have g := (A s ls).1
    have := hbs s ls (tm_V_sl O g vs)
    rcases tm_kind O g with ⟨_, _, v, hv, _, ec⟩ | ⟨q, _⟩ | ⟨q, _, hq, q', _⟩
    · exact hbi2 _ (by omega)
    · rw [vs] at q; exact absurd q.symm (tm_nI_ne (by omega))
    · rw [vs] at q'; exact absurd q'.symm (tm_nI_ne hq)
  · intro t n hs
    have et := hr_NW_eta n
    obtain ⟨n1, n2, n3, n4, n5, n6⟩ := n
    have hx := hr_ix40 t
    generalize hr_ix t = i at *
    have hh : h < 512 := by omega
    subst et
    rw [tm_cd_sl hx hh] at hs n6
    rw [tm_cd_nd hx hh, tm_cd_s hx hh, tm_cd_s hx hh]
    -- a token of the head with the same slot
    obtain ⟨j, hj, sj, cj, dj⟩ := tx_slb hs
    have hje : j < e := by
      rcases Nat.lt_or_ge j e with z | z
      · exact z
      · have := tx_ch_m (sh := S r) (nm := M r) z; omega
    have slj : tx_sl (S r) (M r) j = tx_sl (S r) (M r) i := by
      rcases tx_sl_ch (sh := S r) (nm := M r) j with ⟨_, z⟩ | ⟨z, _⟩ <;> omega
    obtain ⟨b1, b2, b3, b4⟩ := B3 j (Nat.zero_le _) hje (by omega)
    rw [slj] at b1 b2 b3 b4
    have same : S r j = S r i ∧ M r j = M r i ∧ (j = i ∨ S r i = -1) := by
      rcases dj with ⟨d1, d2, d3⟩ | ⟨d1, d2⟩
      · exact ⟨by rw [d1, d2], tx_nm_eq w (by omega) n3 d2 d1 d3, Or.inr d1⟩
      · subst d2; exact ⟨rfl, rfl, Or.inl rfl⟩
    obtain ⟨s1, s2, s3⟩ := same
    rw [s1] at b1 b4
    rw [s2] at b2
    refine ⟨b1, b2, fun k hk => ?_, fun v => ⟨b4 v, ?_⟩⟩
    · have hji : j = i := by
        rcases s3 with z | z
        · exact z
        · rw [z, tx_ar_m1] at hk; omega
      subst hji
      obtain ⟨_, _, c3, c4⟩ := tx_ag_lt (n := e) (by omega) hoe hje hk
      rw [tm_cd_ag hx hh]
      refine ⟨Or.inr ⟨hr_cd_r (by omega) hh, hr_cd_b hh, ?_, ?_, ?_, ?_⟩, b3 k hk⟩
      · rw [hr_cd_i (by omega) hh]; omega
      · rw [hr_cd_i (by omega) hh]; exact c4
      · omega
      · rw [tm_cd_sl (by omega) hh]
        exact tx_sl_le c3
    · unfold tm_ce
      rw [hr_cd_b hh, tm_cd_s hx hh]
      refine hbi1 _ ?_
      rcases w i n3 with ⟨q, _⟩ | ⟨_, _, x, hx, ex⟩ | ⟨a, ha, q⟩
      · rw [v] at q; exact absurd q (by decide)
      · rw [ex, nI_clamp (by omega)]; exact hx
      · rw [v] at q; exact absurd q.symm (tm_nI_ne ha)
theorem hr_body (O : sg_OK S M L m) {r e h : Nat} (hr : sg_VR m r) (he : e ≤ L r) (hLv : ∀ s, Lv s → tm_sl S M s ≠ 0 → hr_bs s < h) (H : hr_HR S M L m (h + tx_ch (S r) (M r) e) (fun t => Lv t ∨ hr_NW S M L r h 0 (tx_ch (S r) (M r) e) t) ns nn nc bi) (hb : h + tx_ch (S r) (M r) (L r) ≤ 256) (B : bd_F S M r h (tx_ch (S r) (M r) e) e (L r) ns nn nc ns' nn' nc') (hbi : ∀ v, v < 8 → (∀ s, (Lv s ∨ hr_NW S M L r h 0 (tx_ch (S r) (M r) e) s) → tm_s S s = -1 → tm_ce M s ≠ h * 8 + v) → bi (h * 8 + v) = -1) : hr_HR S M L m (h + tx_ch (S r) (M r) (L r)) (fun t => (Lv t ∨ hr_NW S M L r h 0 (tx_ch (S r) (M r) e) t) ∨ hr_NW S M L r h (tx_ch (S r) (M r) e) (tx_ch (S r) (M r) (L r)) t) ns' nn' nc' bi := by
  obtain ⟨w, h40, hop, _⟩ := O.2 r hr
  obtain ⟨B1, B2, B3⟩ := B
  have hce := tx_ch_m (sh := S r) (nm := M r) he
  have A := H.2.1
  have hrow : ∀ s, (Lv s ∨ hr_NW S M L r h 0 (tx_ch (S r) (M r) e) s) → tm_sl S M s ≠ 0 → hr_bs s = h → hr_row s = r := by
    rintro s (ls | n) hs eb
    · exact absurd (hLv s ls hs) (by omega)
    · exact n.1
  refine hr_new (lo := tx_ch (S r) (M r) e) (hi := tx_ch (S r) (M r) (L r)) O H hr hce hb hrow B1 B2 (fun _ _ _ => rfl) ?_
  intro t n hs
  have et := hr_NW_eta n
  obtain ⟨n1, n2, n3, n4, n5, n6⟩ := n
  have hx := hr_ix40 t
  generalize hr_ix t = i at *
  have hh : h < 512 := by omega
  subst et
  rw [tm_cd_sl hx hh] at hs n5 n6
  rw [tm_cd_nd hx hh, tm_cd_s hx hh, tm_cd_s hx hh]
  have hlo : tx_ch (S r) (M r) e < tx_sl (S r) (M r) i := n5.resolve_left hs
  have hie : e ≤ i := by
    rcases Nat.lt_or_ge i e with z | z
    · have := tx_sl_le (sh := S r) (nm := M r) z; omega
    · exact z
  obtain ⟨b1, b2, b3, b4⟩ := B3 i hie n3 hlo
  refine ⟨b1, b2, fun k hk => ?_, fun v => ⟨b4 v, ?_⟩⟩
  · obtain ⟨_, _, c3, c4⟩ := tx_ag_lt h40 hop n3 hk
    rw [tm_cd_ag hx hh]
    refine ⟨?_, b3 k hk⟩
    have hsl := tx_sl_le (sh := S r) (nm := M r) c3
    by_cases z : tx_sl (S r) (M r) (tx_ag (S r) i k) ≤ tx_ch (S r) (M r) e
    · refine Or.inl (Or.inr ⟨hr_cd_r (by omega) hh, hr_cd_b hh, ?_, ?_, ?_, ?_⟩)
      · rw [hr_cd_i (by omega) hh]; exact c3
      · rw [hr_cd_i (by omega) hh]; exact c4
      · omega
      · rw [tm_cd_sl (by omega) hh]; exact z
    · refine Or.inr ⟨hr_cd_r (by omega) hh, hr_cd_b hh, ?_, ?_, ?_, ?_⟩
      · rw [hr_cd_i (by omega) hh]; exact c3
      · rw [hr_cd_i (by omega) hh]; exact c4
      · rw [tm_cd_sl (by omega) hh]; omega
      · rw [tm_cd_sl (by omega) hh]; exact hsl
  · have hv : ∃ x, x < 8 ∧ M r i = nI x := by
      rcases w i n3 with ⟨q, _⟩ | ⟨_, _, x, hx, ex⟩ | ⟨a, ha, q⟩
      · rw [v] at q; exact absurd q (by decide)
      · exact ⟨x, hx, ex⟩
      · rw [v] at q; exact absurd q.symm (tm_nI_ne ha)
    obtain ⟨x, hx8, ex⟩ := hv
    unfold tm_ce
    rw [hr_cd_b hh, tm_cd_s hx hh, ex, nI_clamp (by omega)]
    refine hbi x hx8 ?_
    intro s ls vs ec
    have gs := (A s ls).1
    have ss := tm_V_sl O gs vs
    rcases tm_kind O gs with ⟨_, _, y, hy, ey, es⟩ | ⟨q, _⟩ | ⟨q, _, hq, q', _⟩
    · have hbs : hr_bs s = h := by omega
      have hxy : y = x := by omega
      rcases ls with ls | n
      · exact absurd (hLv s ls ss) (by omega)
      · have hsl : tm_sl S M s = tx_sl (S r) (M r) i := by
          unfold tm_sl
          unfold tm_s at vs ey
          rw [n.1] at vs ey ⊢
          exact tx_sl_eq vs v (by rw [ey, ex, hxy])
        have := n.2.2.2.2.2
        omega
    · rw [vs] at q; exact absurd q.symm (tm_nI_ne (by omega))
    · rw [vs] at q'; exact absurd q'.symm (tm_nI_ne hq)
theorem hr_NW_all (O : sg_OK S M L m) {r e h j : Nat} (hr : sg_VR m r) (hh : h < 512) (hj : j < L r) (ho : 0 < tx_op (S r) j) : (Lv (hr_cd r j h) ∨ hr_NW S M L r h 0 (tx_ch (S r) (M r) e) (hr_cd r j h)) ∨ hr_NW S M L r h (tx_ch (S r) (M r) e) (tx_ch (S r) (M r) (L r)) (hr_cd r j h) := by
  have h40 := (O.2 r hr).2.1
  have hsl := tx_sl_le (sh := S r) (nm := M r) hj
  by_cases z : tx_sl (S r) (M r) j ≤ tx_ch (S r) (M r) e
  · refine Or.inl (Or.inr ⟨hr_cd_r (by omega) hh, hr_cd_b hh, ?_, ?_, ?_, ?_⟩)
    · rw [hr_cd_i (by omega) hh]; exact hj
    · rw [hr_cd_i (by omega) hh]; exact ho
    · omega
    · rw [tm_cd_sl (by omega) hh]; exact z
  · refine Or.inr ⟨hr_cd_r (by omega) hh, hr_cd_b hh, ?_, ?_, ?_, ?_⟩
    · rw [hr_cd_i (by omega) hh]; exact hj
    · rw [hr_cd_i (by omega) hh]; exact ho
    · rw [tm_cd_sl (by omega) hh]; omega
    · rw [tm_cd_sl (by omega) hh]; exact hsl
end
section
variable {chs : Int32} {hH ns nn sh nm ln cs cn cl ca ci : Nat → Int32}
variable {S M : Nat → Nat → Int32} {L : Nat → Nat} {m top H k hb : Nat} {Lv : Nat → Prop} {sr : Nat → Nat}
theorem ju_top (O : sg_OK S M L m) (CX : cx_OK S M L m sr cs cn cl ca ci) (C : cy_OK S M L m sh nm ln) (hk : chs = nI k) (hk32 : k ≤ 32) (hyH : (k = 0 ∧ H = 0) ∨ (0 < k ∧ hH (k - 1) = nI H)) (hHb : H ≤ hb) (hb256 : hb ≤ 256) {r i b r' i' b' T : Nat} (g : gl_OK S L m Lv r i b) (g' : gl_OK S L m Lv r' i' b') (hs : S r' i' = S r i) (tr : Nat → Int32) (nc pl pr : Nat → Int64) (bi yl yr : Nat → Int32) (HR : hr_HR S M L m top Lv ns nn nc bi) (TF : tf_ok tr T hb nc) :
    ∃ (res : Int32) (T' : Nat) (tr' : Nat → Int32) (nc' pl' pr' : Nat → Int64) (bi' yl' yr' : Nat → Int32), (res = 1 ∨ res = 2 ∨ res = 5) ∧ us_ok H tr T nc tr' T' nc' ∧ tf_ok tr' T' hb nc' ∧ hr_HR S M L m top Lv ns nn nc' bi' ∧ (∀ c, (∀ t, Lv t → tm_s S t = -1 → tm_ce M t ≠ c) → bi' c = bi c) ∧
    (∀ {qB dB hS cL hL fL kL cls dT dO dC qT stt lm sc ac ev chc cF cTk hT : Int32} {ub nT aK nM cT : Int64} {kS kB kC kH dV qV fP fB fC fR fT fN hG hB hF hK hR hC hP : Nat → Int32} {kP kF : Nat → Int64} (post : Int32 → SX → Prop), post res (qB, dB, hS, ub, nT, aK, nM, cT, cL, hL, fL, kL, cls, dT, dO, dC, qT, stt, lm, sc, ac, ev, chc, cF, cTk, hT, nI T', chs, cs, cn, cl, ca, ci, kS, kB, kC, kH, kP, kF, dV, qV, ns, nn, nc', tr', fP, fB, fC, fR, fT, fN, hG, hB, hF, hK, hH, hR, hC, hP, pl', pr') → wpX_unifyHead post (qB, dB, hS, ub, nT, aK, nM, cT, cL, hL, fL, kL, cls, dT, dO, dC, qT, stt, lm, sc, ac, ev, chc, cF, cTk, hT, nI T, chs, cs, cn, cl, ca, ci, kS, kB, kC, kH, kP, kF, dV, qV, ns, nn, nc, tr, fP, fB, fC, fR, fT, fN, hG, hB, hF, hK, hH, hR, hC, hP, pl, pr) (nI (sr r + i)) (nI b) (nI (sr r' + i')) (nI b')) ∧
    (∀ {cL hL fL kL cls stt lm sc ac ev chc hT yd : Int32} {lR lB lC lP lI gA hB hC hP gD gb gr gs gc gp gi : Nat → Int32} {nb : Nat} (post : Int32 → SY → Prop), post res (cL, hL, fL, kL, cls, stt, lm, sc, ac, ev, chc, hT, yd, chs, sh, nm, ln, bi', lR, lB, lC, lP, lI, gA, hB, hH, hC, hP, gD, gb, gr, gs, gc, gp, gi, yl', yr', nb) → wpY_unify post (cL, hL, fL, kL, cls, stt, lm, sc, ac, ev, chc, hT, yd, chs, sh, nm, ln, bi, lR, lB, lC, lP, lI, gA, hB, hH, hC, hP, gD, gb, gr, gs, gc, gp, gi, yl, yr, nb) (nI (r * 40 + i)) (nI b) (nI (r' * 40 + i')) (nI b')) := by
  obtain ⟨a, ha3, ha⟩ := gl_a O g
  have ha' : S r' i' = nI a := by rw [hs, ha]
  have har : tx_ar (S r i) = a := by rw [ha, tx_ar_n (by omega)]
  have har' : tx_ar (S r' i') = a := by rw [ha', tx_ar_n (by omega)]
  obtain ⟨res, T', tr', nc', pl', pr', bi', yl', yr', a1, a2, a3, a4, a5, a6, a7⟩ := ju_all (H := H) (hb := hb) (ns := ns) (nn := nn) (sh := sh) (nm := nm) (ln := ln) O C hk hk32 hyH hHb hb256 100 0 a T tr nc (pw_L pl 0 a (fun x => tm_xt S M (hr_cd r (tx_ag (S r) i (a - 1 - x)) b))) (pw_L pr 0 a (fun x => tm_xt S M (hr_cd r' (tx_ag (S r') i' (a - 1 - x)) b'))) bi (pw_I yl 0 a (fun x => nI (hr_cd r (tx_ag (S r) i (a - 1 - x)) b))) (pw_I yr 0 a (fun x => nI (hr_cd r' (tx_ag (S r') i' (a - 1 - x)) b'))) (by omega) (by omega) HR TF (by
    intro j hj
    refine ⟨_, _, (gl_arg O g (k := a - 1 - j) (by omega)).2, (gl_arg O g' (k := a - 1 - j) (by omega)).2, ?_, ?_, ?_, ?_⟩
    · rw [pw_Lin (Nat.zero_le _) hj]
    · rw [pw_Lin (Nat.zero_le _) hj]
    · rw [pw_Iin (Nat.zero_le _) hj]
    · rw [pw_Iin (Nat.zero_le _) hj])
  refine ⟨res, T', tr', nc', pl', pr', bi', yl', yr', a1, a2, a3, a4, a5, fun post hp => ?_, fun post hp => ?_⟩
  · unfold wpX_unifyHead
    exact xw_pushGoal O CX g.1 g'.1 g.2.1 g'.2.1 g.2.2.2.2.1 g'.2.2.2.2.1 ha ha' ha3 (fun x _ => rfl) (fun x _ => rfl) ⟨101, a6 post 101 (by omega) hp⟩
  · have hm := O.1
    have hrow := sg_row hm g.1
    have hi := g.2.1
    have h40 := (O.2 r g.1).2.1
    refine And.intro (vp_in_nI (by omega) (by decide)) (nm_r (e' := nI a) ?_ ⟨a + 1, ?_⟩)
    · rw [nI_clamp (by omega), ((C r g.1).2 i hi).1, ha]
    · have := yw_u11 (yl := yl) (yr := yr) O C g.1 g'.1 g.2.1 g'.2.1 g.2.2.2.2.1 g'.2.2.2.2.1 ha ha' ha3 (fun x _ => rfl) (fun x _ => rfl) ⟨101, a7 post 101 (by omega) hp⟩ a (a + 1) (Nat.le_refl _) (by omega)
      rw [Nat.sub_self, pw_I0 (Nat.le_refl _), pw_I0 (Nat.le_refl _)] at this
      exact this
end
end
section
/-! trying a clause: the walks of each side -/
section
variable {qB dB hS : Int32} {ub nT aK nM cT : Int64} {cL hL fL kL cls dT dO dC qT stt lm sc ac ev chc cF cTk hT tT chs : Int32} {cs cn cl ca ci kS kB kC kH dV qV ns nn tr fP fB fC fR fT fN hG hB hF hK hH hR hC hP : Nat → Int32} {kP kF nc pl pr : Nat → Int64}
variable {u' : SX} {post : SX → Prop} {x1 x2 : Int32} {q ct : Nat}
theorem xw_try_heap (hq : q < 32) (hn : ¬ (hT + kC q) ≤ hL) (hp : post (qB, dB, hS, ub, nT, aK, nM, cT, cL, hL, fL, kL, cls, dT, dO, dC, qT, 5, 2, sc, ac, 5, chc, 0, 0, 0, 0, 0, cs, cn, cl, ca, ci, kS, kB, kC, kH, kP, kF, dV, qV, ns, nn, nc, tr, fP, fB, fC, fR, fT, fN, hG, hB, hF, hK, hH, hR, hC, hP, pl, pr)) : wpX_tryClause post (qB, dB, hS, ub, nT, aK, nM, cT, cL, hL, fL, kL, cls, dT, dO, dC, qT, stt, lm, sc, ac, ev, chc, cF, cTk, hT, tT, chs, cs, cn, cl, ca, ci, kS, kB, kC, kH, kP, kF, dV, qV, ns, nn, nc, tr, fP, fB, fC, fR, fT, fN, hG, hB, hF, hK, hH, hR, hC, hP, pl, pr) x1 x2 (nI q) (nI ct) := by
  refine And.intro (vp_in_nI hq (by decide)) ?_
  rw [nI_clamp (by omega)]
  exact br_f hn hp
theorem xw_try_ok (hq : q < 32) (hn : (hT + kC q) ≤ hL) {res tT' : Int32} {ns' nn' tr' : Nat → Int32} {nc1 nc2 pl' pr' : Nat → Int64} (BX : ∀ post : SX → Prop, post (qB, dB, hS, ub, nT, aK, nM, cT, cL, hL, fL, kL, cls, dT, dO, dC, qT, stt, lm, sc, ac, ev, chc, cF, cTk, hT, tT, chs, cs, cn, cl, ca, ci, kS, kB, kC, kH, kP, kF, dV, qV, ns', nn', nc1, tr, fP, fB, fC, fR, fT, fN, hG, hB, hF, hK, hH, hR, hC, hP, pl, pr) → wpX_build post (qB, dB, hS, ub, nT, aK, nM, cT, cL, hL, fL, kL, cls, dT, dO, dC, qT, stt, lm, sc, ac, ev, chc, cF, cTk, hT, tT, chs, cs, cn, cl, ca, ci, kS, kB, kC, kH, kP, kF, dV, qV, ns, nn, nc, tr, fP, fB, fC, fR, fT, fN, hG, hB, hF, hK, hH, hR, hC, hP, pl, pr) (kS q) (kB q) hT 0) (UX : ∀ post : Int32 → SX → Prop, post res (qB, dB, hS, ub, nT, aK, nM, cT, cL, hL, fL, kL, cls, dT, dO, dC, qT, stt, lm, sc, ac, ev, chc, cF, cTk, hT, tT', chs, cs, cn, cl, ca, ci, kS, kB, kC, kH, kP, kF, dV, qV, ns', nn', nc2, tr', fP, fB, fC, fR, fT, fN, hG, hB, hF, hK, hH, hR, hC, hP, pl', pr') → wpX_unifyHead post (qB, dB, hS, ub, nT, aK, nM, cT, cL, hL, fL, kL, cls, dT, dO, dC, qT, stt, lm, sc, ac, ev, chc, cF, cTk, hT, tT, chs, cs, cn, cl, ca, ci, kS, kB, kC, kH, kP, kF, dV, qV, ns', nn', nc1, tr, fP, fB, fC, fR, fT, fN, hG, hB, hF, hK, hH, hR, hC, hP, pl, pr) x1 x2 (kS q) hT) (CO : (res = 5 → wpX_endWithLimit post (qB, dB, hS, ub, nT, aK, nM, cT, cL, hL, fL, kL, cls, dT, dO, dC, qT, stt, lm, sc, ac, ev, chc, cF, cTk, hT, tT', chs, cs, cn, cl, ca, ci, kS, kB, kC, kH, kP, kF, dV, qV, ns', nn', nc2, tr', fP, fB, fC, fR, fT, fN, hG, hB, hF, hK, hH, hR, hC, hP, pl', pr') 3) ∧ (¬ res = 5 → ((res = 2 → wpX_failure post (qB, dB, hS, ub, nT, aK, nM, cT, cL, hL, fL, kL, cls, dT, dO, dC, qT, stt, lm, sc, ac, 2, chc, cF, cTk, hT, tT', chs, cs, cn, cl, ca, ci, kS, kB, kC, kH, kP, kF, dV, qV, ns', nn', nc2, tr', fP, fB, fC, fR, fT, fN, hG, hB, hF, hK, hH, hR, hC, hP, pl', pr')) ∧ (¬ res = 2 → wpX_enterClause post (qB, dB, hS, ub, nT, aK, nM, cT, cL, hL, fL, kL, cls, dT, dO, dC, qT, stt, lm, sc, ac, ev, chc, cF, cTk, hT, tT', chs, cs, cn, cl, ca, ci, kS, kB, kC, kH, kP, kF, dV, qV, ns', nn', nc2, tr', fP, fB, fC, fR, fT, fN, hG, hB, hF, hK, hH, hR, hC, hP, pl', pr') (nI q) (nI ct))))) : wpX_tryClause post (qB, dB, hS, ub, nT, aK, nM, cT, cL, hL, fL, kL, cls, dT, dO, dC, qT, stt, lm, sc, ac, ev, chc, cF, cTk, hT, tT, chs, cs, cn, cl, ca, ci, kS, kB, kC, kH, kP, kF, dV, qV, ns, nn, nc, tr, fP, fB, fC, fR, fT, fN, hG, hB, hF, hK, hH, hR, hC, hP, pl, pr) x1 x2 (nI q) (nI ct) := by
  have e : (nI q).toNatClampNeg = q := nI_clamp (by omega)
  refine And.intro (vp_in_nI hq (by decide)) ?_
  rw [e]
  exact br_t hn ⟨vp_in_nI (by omega) (by decide), nm_e ⟨vp_in_nI hq (by decide), BX _ (UX _ CO)⟩⟩
theorem xw_ent_a (hq : q < 32) (hle : kS (q + 1) ≤ kB q) (PR : ∀ post : SX → Prop, post u' → wpX_proceed post (qB, dB, hS, ub, nT, aK, nM, cT, cL, hL, fL, kL, cls, dT, dO, dC, qT, stt, lm, sc, ac, 1, chc, cF, cTk, hT + kC q, tT, chs, cs, cn, cl, ca, ci, kS, kB, kC, kH, kP, kF, dV, qV, ns, nn, nc, tr, fP, fB, fC, fR, fT, fN, hG, hB, hF, hK, hH, hR, hC, hP, pl, pr)) (hp : post u') : wpX_enterClause post (qB, dB, hS, ub, nT, aK, nM, cT, cL, hL, fL, kL, cls, dT, dO, dC, qT, stt, lm, sc, ac, ev, chc, cF, cTk, hT, tT, chs, cs, cn, cl, ca, ci, kS, kB, kC, kH, kP, kF, dV, qV, ns, nn, nc, tr, fP, fB, fC, fR, fT, fN, hG, hB, hF, hK, hH, hR, hC, hP, pl, pr) (nI q) (nI ct) := by
  have e : (nI q).toNatClampNeg = q := nI_clamp (by omega)
  refine And.intro (vp_in_nI hq (by decide)) (nm_e ⟨?_, nm_e ⟨vp_in_nI hq (by decide), nm_e ?_⟩⟩)
  · rw [nI_1]; exact vp_in_nI (by omega) (by decide)
  · rw [nI_1, nI_clamp (by omega), e]
    exact br_t hle (PR _ hp)
theorem xw_ent_4 (hq : q < 32) (hle : ¬ kS (q + 1) ≤ kB q) {ph : Int32} (PH : ∀ post : Int32 → Prop, post ph → wpX_protectedHeight post (qB, dB, hS, ub, nT, aK, nM, cT, cL, hL, fL, kL, cls, dT, dO, dC, qT, stt, lm, sc, ac, ev, chc, cF, cTk, hT + kC q, tT, chs, cs, cn, cl, ca, ci, kS, kB, kC, kH, kP, kF, dV, qV, ns, nn, nc, tr, fP, fB, fC, fR, fT, fN, hG, hB, hF, hK, hH, hR, hC, hP, pl, pr)) (hph : ¬ 1 + ph ≤ fL) (hp : post (qB, dB, hS, ub, nT, aK, nM, cT, cL, hL, fL, kL, cls, dT, dO, dC, qT, 5, 4, sc, ac, 5, chc, 0, 0, 0, 0, 0, cs, cn, cl, ca, ci, kS, kB, kC, kH, kP, kF, dV, qV, ns, nn, nc, tr, fP, fB, fC, fR, fT, fN, hG, hB, hF, hK, hH, hR, hC, hP, pl, pr)) : wpX_enterClause post (qB, dB, hS, ub, nT, aK, nM, cT, cL, hL, fL, kL, cls, dT, dO, dC, qT, stt, lm, sc, ac, ev, chc, cF, cTk, hT, tT, chs, cs, cn, cl, ca, ci, kS, kB, kC, kH, kP, kF, dV, qV, ns, nn, nc, tr, fP, fB, fC, fR, fT, fN, hG, hB, hF, hK, hH, hR, hC, hP, pl, pr) (nI q) (nI ct) := by
  have e : (nI q).toNatClampNeg = q := nI_clamp (by omega)
  refine And.intro (vp_in_nI hq (by decide)) (nm_e ⟨?_, nm_e ⟨vp_in_nI hq (by decide), nm_e ?_⟩⟩)
  · rw [nI_1]; exact vp_in_nI (by omega) (by decide)
  · rw [nI_1, nI_clamp (by omega), e]
    exact br_f hle (PH _ (nm_e (br_f hph hp)))
theorem xw_ent_b (hq : q < 32) (hle : ¬ kS (q + 1) ≤ kB q) {ph : Int32} (PH : ∀ post : Int32 → Prop, post ph → wpX_protectedHeight post (qB, dB, hS, ub, nT, aK, nM, cT, cL, hL, fL, kL, cls, dT, dO, dC, qT, stt, lm, sc, ac, ev, chc, cF, cTk, hT + kC q, tT, chs, cs, cn, cl, ca, ci, kS, kB, kC, kH, kP, kF, dV, qV, ns, nn, nc, tr, fP, fB, fC, fR, fT, fN, hG, hB, hF, hK, hH, hR, hC, hP, pl, pr)) (hph : 1 + ph ≤ fL) {ns' nn' fP' fB' fC' fR' fT' fN' : Nat → Int32} {nc' : Nat → Int64} (BX : ∀ post : SX → Prop, post (qB, dB, hS, ub, nT, aK, nM, cT, cL, hL, fL, kL, cls, dT, dO, dC, qT, stt, lm, sc, ac, ev, chc, cF, cTk, hT + kC q, tT, chs, cs, cn, cl, ca, ci, kS, kB, kC, kH, kP, kF, dV, qV, ns', nn', nc', tr, fP, fB, fC, fR, fT, fN, hG, hB, hF, hK, hH, hR, hC, hP, pl, pr) → wpX_build post (qB, dB, hS, ub, nT, aK, nM, cT, cL, hL, fL, kL, cls, dT, dO, dC, qT, stt, lm, sc, ac, ev, chc, cF, cTk, hT + kC q, tT, chs, cs, cn, cl, ca, ci, kS, kB, kC, kH, kP, kF, dV, qV, ns, nn, nc, tr, fP, fB, fC, fR, fT, fN, hG, hB, hF, hK, hH, hR, hC, hP, pl, pr) (kB q) (kS (q + 1)) hT (kH q)) (MF : ∀ post : SX → Prop, post (qB, dB, hS, ub, nT, aK, nM, cT, cL, hL, fL, kL, cls, dT, dO, dC, qT, stt, lm, sc, ac, ev, chc, cF, cTk, hT + kC q, tT, chs, cs, cn, cl, ca, ci, kS, kB, kC, kH, kP, kF, dV, qV, ns', nn', nc', tr, fP', fB', fC', fR', fT', fN', hG, hB, hF, hK, hH, hR, hC, hP, pl, pr) → wpX_makeFrame post (qB, dB, hS, ub, nT, aK, nM, cT, cL, hL, fL, kL, cls, dT, dO, dC, qT, stt, lm, sc, ac, ev, chc, cF, cTk, hT + kC q, tT, chs, cs, cn, cl, ca, ci, kS, kB, kC, kH, kP, kF, dV, qV, ns', nn', nc', tr, fP, fB, fC, fR, fT, fN, hG, hB, hF, hK, hH, hR, hC, hP, pl, pr) (1 + ph) (nI q) hT (nI ct)) (PR : ∀ post : SX → Prop, post u' → wpX_proceed post (qB, dB, hS, ub, nT, aK, nM, cT, cL, hL, fL, kL, cls, dT, dO, dC, qT, stt, lm, sc, ac, 1, chc, 1 + ph, kB q, hT + kC q, tT, chs, cs, cn, cl, ca, ci, kS, kB, kC, kH, kP, kF, dV, qV, ns', nn', nc', tr, fP', fB', fC', fR', fT', fN', hG, hB, hF, hK, hH, hR, hC, hP, pl, pr)) (hp : post u') : wpX_enterClause post (qB, dB, hS, ub, nT, aK, nM, cT, cL, hL, fL, kL, cls, dT, dO, dC, qT, stt, lm, sc, ac, ev, chc, cF, cTk, hT, tT, chs, cs, cn, cl, ca, ci, kS, kB, kC, kH, kP, kF, dV, qV, ns, nn, nc, tr, fP, fB, fC, fR, fT, fN, hG, hB, hF, hK, hH, hR, hC, hP, pl, pr) (nI q) (nI ct) := by
  have e : (nI q).toNatClampNeg = q := nI_clamp (by omega)
  refine And.intro (vp_in_nI hq (by decide)) (nm_e ⟨?_, nm_e ⟨vp_in_nI hq (by decide), nm_e ?_⟩⟩)
  · rw [nI_1]; exact vp_in_nI (by omega) (by decide)
  · rw [nI_1, nI_clamp (by omega), e]
    refine br_f hle (PH _ (nm_e (br_t hph ⟨vp_in_nI hq (by decide), BX _ (MF _ (PR _ hp))⟩)))
end
section
variable {cL hL fL kL cls stt lm sc ac ev chc hT yd chs : Int32} {sh nm ln bi lR lB lC lP lI gA hB hH hC hP gD gb gr gs gc gp gi yl yr : Nat → Int32} {nb : Nat}
variable {S M : Nat → Nat → Int32} {L : Nat → Nat} {m : Nat} {v' : SY} {post : SY → Prop} {x1 x2 : Int32} {q ct h c0 : Nat}
theorem yw_t42 (hh : h ≤ 256) : ∀ (p x n : Nat), x + p = 8 → wY_tryClause_42 post x1 x2 (nI ct) (nI (q + 2)) (nI c0) (nI h) cL hL fL kL cls stt lm sc ac ev chc hT yd chs nb (n + 1) (nI 8) sh nm ln (pw_I bi (h * 8) (h * 8 + 8) (fun _ => -1)) lR lB lC lP lI gA hB hH hC hP gD gb gr gs gc gp gi yl yr → wY_tryClause_42 post x1 x2 (nI ct) (nI (q + 2)) (nI c0) (nI h) cL hL fL kL cls stt lm sc ac ev chc hT yd chs nb (n + 1 + p) (nI x) sh nm ln (pw_I bi (h * 8) (h * 8 + x) (fun _ => -1)) lR lB lC lP lI gA hB hH hC hP gD gb gr gs gc gp gi yl yr
  | 0, x, n, hx, hp => by
    have e : x = 8 := by omega
    subst e
    exact hp
  | p + 1, x, n, hx, hp => by
    have e1 : nI h * 8 + nI x = nI (h * 8 + x) := by
      have : nI h * 8 = nI (h * 8) := pk_mul h 8
      rw [this, nI_add]
    refine br_f (nI_ge (b := 8) (by omega) (by decide)) ⟨?_, nm_r (e' := pw_I bi (h * 8) (h * 8 + (x + 1)) (fun _ => -1)) ?_ (nm_r (nI_1 _) ?_)⟩
    · rw [e1]; exact vp_in_nI (by omega) (by decide)
    · rw [e1, nI_clamp (by omega), ← Nat.add_assoc, ← pw_Iup (by omega)]
    · exact yw_t42 hh p (x + 1) n (by omega) hp
theorem yw_try_pre (O : sg_OK S M L m) (C : cy_OK S M L m sh nm ln) (hq : q < m) (hh : h ≤ 256) (hn : nI h + nI (tx_ch (S (q + 2)) (M (q + 2)) (L (q + 2))) ≤ hL) (hp : wY_tryClause_42 post x1 x2 (nI ct) (nI (q + 2)) (nI (tx_ch (S (q + 2)) (M (q + 2)) (L (q + 2)))) (nI h) cL hL fL kL cls stt lm sc ac ev chc (nI h) yd chs nb 1 (nI 8) sh nm ln (pw_I bi (h * 8) (h * 8 + 8) (fun _ => -1)) lR lB lC lP lI gA hB hH hC hP gD gb gr gs gc gp gi yl yr) : wpY_tryClause post (cL, hL, fL, kL, cls, stt, lm, sc, ac, ev, chc, nI h, yd, chs, sh, nm, ln, bi, lR, lB, lC, lP, lI, gA, hB, hH, hC, hP, gD, gb, gr, gs, gc, gp, gi, yl, yr, nb) x1 x2 (nI q) (nI ct) := by
  have hv : sg_VR m (q + 2) := Or.inr ⟨by omega, by omega⟩
  have e2 : nI q + 2 = nI (q + 2) := nI_add q 2
  refine nm_r e2 (yw_charge (rw_of O C hv) (br_t hn ⟨9, ?_⟩))
  have := yw_t42 hh 8 0 0 (by omega) hp
  rw [pw_I0 (by omega)] at this
  exact this
theorem yw_try_heap (O : sg_OK S M L m) (C : cy_OK S M L m sh nm ln) (hq : q < m) (hn : ¬ hT + nI (tx_ch (S (q + 2)) (M (q + 2)) (L (q + 2))) ≤ hL) (hp : post (cL, hL, fL, kL, cls, 5, 2, sc, ac, 5, chc, 0, 0, 0, sh, nm, ln, bi, lR, lB, lC, lP, lI, gA, hB, hH, hC, hP, gD, gb, gr, gs, gc, gp, gi, yl, yr, nb)) : wpY_tryClause post (cL, hL, fL, kL, cls, stt, lm, sc, ac, ev, chc, hT, yd, chs, sh, nm, ln, bi, lR, lB, lC, lP, lI, gA, hB, hH, hC, hP, gD, gb, gr, gs, gc, gp, gi, yl, yr, nb) x1 x2 (nI q) (nI ct) := by
  have hv : sg_VR m (q + 2) := Or.inr ⟨by omega, by omega⟩
  have e2 : nI q + 2 = nI (q + 2) := nI_add q 2
  exact nm_r e2 (yw_charge (rw_of O C hv) (br_f hn hp))
theorem yw_U5 {bi' yl' yr' : Nat → Int32} (UY : ∀ post : Int32 → SY → Prop, post 5 (cL, hL, fL, kL, cls, stt, lm, sc, ac, ev, chc, hT, yd, chs, sh, nm, ln, bi', lR, lB, lC, lP, lI, gA, hB, hH, hC, hP, gD, gb, gr, gs, gc, gp, gi, yl', yr', nb) → wpY_unify post (cL, hL, fL, kL, cls, stt, lm, sc, ac, ev, chc, hT, yd, chs, sh, nm, ln, bi, lR, lB, lC, lP, lI, gA, hB, hH, hC, hP, gD, gb, gr, gs, gc, gp, gi, yl, yr, nb) x1 x2 (nI ((q + 2) * 40)) (nI h)) (hp : post (cL, hL, fL, kL, cls, 5, 3, sc, ac, 5, chc, 0, 0, 0, sh, nm, ln, bi', lR, lB, lC, lP, lI, gA, hB, hH, hC, hP, gD, gb, gr, gs, gc, gp, gi, yl', yr', nb)) : wY_tryClause_42 post x1 x2 (nI ct) (nI (q + 2)) (nI c0) (nI h) cL hL fL kL cls stt lm sc ac ev chc hT yd chs nb 1 (nI 8) sh nm ln bi lR lB lC lP lI gA hB hH hC hP gD gb gr gs gc gp gi yl yr := by
  have e : nI (q + 2) * 40 = nI ((q + 2) * 40) := pk_mul _ 40
  refine br_t (by decide) ?_
  rw [e]
  exact UY _ (br_t rfl hp)
theorem yw_U2 {bi' yl' yr' : Nat → Int32} (UY : ∀ post : Int32 → SY → Prop, post 2 (cL, hL, fL, kL, cls, stt, lm, sc, ac, ev, chc, hT, yd, chs, sh, nm, ln, bi', lR, lB, lC, lP, lI, gA, hB, hH, hC, hP, gD, gb, gr, gs, gc, gp, gi, yl', yr', nb) → wpY_unify post (cL, hL, fL, kL, cls, stt, lm, sc, ac, ev, chc, hT, yd, chs, sh, nm, ln, bi, lR, lB, lC, lP, lI, gA, hB, hH, hC, hP, gD, gb, gr, gs, gc, gp, gi, yl, yr, nb) x1 x2 (nI ((q + 2) * 40)) (nI h)) (FL : ∀ post : SY → Prop, post v' → wpY_fail post (cL, hL, fL, kL, cls, stt, lm, sc, ac, 2, chc, hT, yd, chs, sh, nm, ln, bi', lR, lB, lC, lP, lI, gA, hB, hH, hC, hP, gD, gb, gr, gs, gc, gp, gi, yl', yr', nb)) (hp : post v') : wY_tryClause_42 post x1 x2 (nI ct) (nI (q + 2)) (nI c0) (nI h) cL hL fL kL cls stt lm sc ac ev chc hT yd chs nb 1 (nI 8) sh nm ln bi lR lB lC lP lI gA hB hH hC hP gD gb gr gs gc gp gi yl yr := by
  have e : nI (q + 2) * 40 = nI ((q + 2) * 40) := pk_mul _ 40
  refine br_t (by decide) ?_
  rw [e]
  exact UY _ (br_f (by decide) (br_t rfl (FL _ hp)))
theorem yw_U1 {bi' yl' yr' : Nat → Int32} (hq : q < 32) (UY : ∀ post : Int32 → SY → Prop, post 1 (cL, hL, fL, kL, cls, stt, lm, sc, ac, ev, chc, hT, yd, chs, sh, nm, ln, bi', lR, lB, lC, lP, lI, gA, hB, hH, hC, hP, gD, gb, gr, gs, gc, gp, gi, yl', yr', nb) → wpY_unify post (cL, hL, fL, kL, cls, stt, lm, sc, ac, ev, chc, hT, yd, chs, sh, nm, ln, bi, lR, lB, lC, lP, lI, gA, hB, hH, hC, hP, gD, gb, gr, gs, gc, gp, gi, yl, yr, nb) x1 x2 (nI ((q + 2) * 40)) (nI h)) {e N : Nat} (he : e ≤ 40) (hN : N ≤ 40) (hln : ln (q + 2) = nI N) (EN : ∀ post : Int32 → Prop, post (nI ((q + 2) * 40 + e)) → wpY_endOf post (cL, hL, fL, kL, cls, stt, lm, sc, ac, ev, chc, hT + nI c0, yd, chs, sh, nm, ln, bi', lR, lB, lC, lP, lI, gA, hB, hH, hC, hP, gD, gb, gr, gs, gc, gp, gi, yl', yr', nb) (nI ((q + 2) * 40)))
    (CO : (N ≤ e ∧ ∃ v', post v' ∧ ∀ post : SY → Prop, post v' → wpY_goOn post (cL, hL, fL, kL, cls, stt, lm, sc, ac, 1, chc, hT + nI c0, yd, chs, sh, nm, ln, bi', lR, lB, lC, lP, lI, gA, hB, hH, hC, hP, gD, gb, gr, gs, gc, gp, gi, yl', yr', nb)) ∨ (e < N ∧ ∃ ph, (∀ post : Int32 → Prop, post ph → wpY_height post (cL, hL, fL, kL, cls, stt, lm, sc, ac, ev, chc, hT + nI c0, yd, chs, sh, nm, ln, bi', lR, lB, lC, lP, lI, gA, hB, hH, hC, hP, gD, gb, gr, gs, gc, gp, gi, yl', yr', nb)) ∧ ((fL < ph + 1 ∧ post (cL, hL, fL, kL, cls, 5, 4, sc, ac, 5, chc, 0, 0, 0, sh, nm, ln, bi', lR, lB, lC, lP, lI, gA, hB, hH, hC, hP, gD, gb, gr, gs, gc, gp, gi, yl', yr', nb)) ∨ (¬ fL < ph + 1 ∧ ∃ D, D < 32 ∧ yd = nI D ∧ ∃ v', post v' ∧ ∀ post : SY → Prop, post v' → wpY_goOn post (cL, hL, fL, kL, cls, stt, lm, sc, ac, 1, chc, hT + nI c0, nI (D + 1), chs, sh, nm, ln, bi', upd lR D (nI (q + 2)), upd lB D (nI h), upd lC D (nI ct), upd lP D (ph + 1), upd lI D (nI e), gA, hB, hH, hC, hP, gD, gb, gr, gs, gc, gp, gi, yl', yr', nb))))) : wY_tryClause_42 post x1 x2 (nI ct) (nI (q + 2)) (nI c0) (nI h) cL hL fL kL cls stt lm sc ac ev chc hT yd chs nb 1 (nI 8) sh nm ln bi lR lB lC lP lI gA hB hH hC hP gD gb gr gs gc gp gi yl yr := by
  have e40 : nI (q + 2) * 40 = nI ((q + 2) * 40) := pk_mul _ 40
  refine br_t (by decide) ?_
  rw [e40]
  refine UY _ (br_f (by decide) (br_f (by decide) (nm_e (EN _ (nm_r (e' := nI e) ?_ ⟨vp_in_nI (by omega) (by decide), ?_⟩)))))
  · rw [pk_sub (by omega)]; exact congrArg nI (by omega)
  · rw [nI_clamp (by omega), hln]
    rcases CO with ⟨hle, v', hp, GO⟩ | ⟨hlt, ph, PH, CO⟩
    · exact br_t (nI_le hle (by omega)) (GO _ hp)
    · refine br_f (nI_ge hlt (by omega)) (PH _ (nm_e ?_))
      rcases CO with ⟨h1, hp⟩ | ⟨h1, D, hD, hyd, v', hp, GO⟩
      · exact br_t h1 hp
      · subst hyd
        have ec : (nI D).toNatClampNeg = D := nI_clamp (by omega)
        have hin : vp_in (nI D) 32 := vp_in_nI hD (by decide)
        refine br_f h1 (br_t (nI_lt (b := 32) hD (by decide)) ⟨hin, nm_r (e' := upd lR D (nI (q + 2))) (by rw [ec]) ⟨hin, nm_r (e' := upd lB D (nI h)) (by rw [ec]) ⟨hin, nm_r (e' := upd lC D (nI ct)) (by rw [ec]) ⟨hin, nm_r (e' := upd lP D (ph + 1)) (by rw [ec]) ⟨hin, nm_r (e' := upd lI D (nI e)) (by rw [ec]) (nm_r (nI_1 D) (GO _ hp))⟩⟩⟩⟩⟩)
end
end
section
/-! entering a clause -/
section
variable {S M : Nat → Nat → Int32} {L : Nat → Nat} {m : Nat} {sr : Nat → Nat} {ns nn tr fP fB fC fR fT fN hG hB hF hK hH hR hC hP gA gD gb gr gs gc gp gi : Nat → Int32} {nc : Nat → Int64} {T c : Nat} {g : cp_R}
theorem cp_tT (h : cp_F S M L m sr ns nn tr nc T fP fB fC fR fT fN hG hB hF hK hH hR hC hP gA gD gb gr gs gc gp gi c g) : cp_t g ≤ T := by
  obtain ⟨r, i, b, h0, t, q, p, K, Lc⟩ := g
  exact h.2.2.2.2.2.2.2.2.2.2.1
theorem cp_hH (h : cp_F S M L m sr ns nn tr nc T fP fB fC fR fT fN hG hB hF hK hH hR hC hP gA gD gb gr gs gc gp gi c g) : hH c = nI (cp_h g) := by
  obtain ⟨r, i, b, h0, t, q, p, K, Lc⟩ := g
  exact h.1.2.2.2.1
theorem cp_pP (h : cp_F S M L m sr ns nn tr nc T fP fB fC fR fT fN hG hB hF hK hH hR hC hP gA gD gb gr gs gc gp gi c g) : hP c = nI (cp_p g) ∧ cp_p g ≤ 32 := by
  obtain ⟨r, i, b, h0, t, q, p, K, Lc⟩ := g
  exact ⟨h.1.2.2.2.2.2.2.1, h.2.2.2.2.2.2.2.2.2.1⟩
end
section
variable {qB dB hS : Int32} {ub nT aK nM cT : Int64} {cL hL fL kL cls dT dO dC qT stt lm sc ac ev chc cF cTk hT tT chs : Int32} {cs cn cl ca ci kS kB kC kH dV qV ns nn tr fP fB fC fR fT fN hG hB hF hK hH hR hC hP : Nat → Int32} {kP kF nc pl pr : Nat → Int64} {yd : Int32} {sh nm ln bi lR lB lC lP lI gA gD gb gr gs gc gp gi yl yr : Nat → Int32} {nb : Nat}
variable {S M : Nat → Nat → Int32} {L : Nat → Nat} {m : Nat} {sr : Nat → Nat} {Lv : Nat → Prop} {K : List fr_L} {G : Nat → cp_R} {k T h : Nat}
theorem jp_go (C : rl_C S M L m sr cL hL fL kL cls dT dO dC qT cs cn cl ca ci kS kB kC kH kP kF dV sh nm ln nb) (R : rn_OK S M L m sr K G Lv T k h cF cTk yd hT tT chs ns nn tr nc fP fB fC fR fT fN hG hB hF hK hH hR hC hP bi lR lB lC lP lI gA gD gb gr gs gc gp gi) (Q : ql_OK S L Lv) (hqv : qv_OK S M L qV) (hlm : lm = 0) : jo_R (fun post => wpX_proceed post (qB, dB, hS, ub, nT, aK, nM, cT, cL, hL, fL, kL, cls, dT, dO, dC, qT, stt, lm, sc, ac, ev, chc, cF, cTk, hT, tT, chs, cs, cn, cl, ca, ci, kS, kB, kC, kH, kP, kF, dV, qV, ns, nn, nc, tr, fP, fB, fC, fR, fT, fN, hG, hB, hF, hK, hH, hR, hC, hP, pl, pr)) (fun post => wpY_goOn post (cL, hL, fL, kL, cls, stt, lm, sc, ac, ev, chc, hT, yd, chs, sh, nm, ln, bi, lR, lB, lC, lP, lI, gA, hB, hH, hC, hP, gD, gb, gr, gs, gc, gp, gi, yl, yr, nb)) := by
  subst hlm
  have rX := R.2.1
  have ryd := R.1.2.2.2.2
  have rV := R.2.2.2.1
  have hlen := fr_len rV
  rcases K with _ | ⟨lv, K⟩
  · have e1 : cF = 0 := rX
    have e2 : yd = 0 := ryd
    refine ⟨(qB, dB, hS, ub, nT, aK, nM, cT, cL, hL, fL, kL, cls, dT, dO, dC, qT, 3, 0, sc, ac + 1, ev, chc, cF, cTk, hT, tT, chs, cs, cn, cl, ca, ci, kS, kB, kC, kH, kP, kF, dV, qV, ns, nn, nc, tr, fP, fB, fC, fR, fT, fN, hG, hB, hF, hK, hH, hR, hC, hP, pl, pr), (cL, hL, fL, kL, cls, 3, 0, sc, ac + 1, ev, chc, hT, yd, chs, sh, nm, ln, bi, lR, lB, lC, lP, lI, gA, hB, hH, hC, hP, gD, gb, gr, gs, gc, gp, gi, yl, yr, nb), zz_mk ⟨S, M, L, m, sr, C, _, G, Lv, T, k, h, R, fun _ => rfl, Or.inr ⟨Q, hqv, Or.inr (Or.inr ⟨rfl, rfl⟩)⟩⟩, fun post hp => br_t e1 (nm_e hp), fun post hp => br_t e2 (nm_e hp)⟩
  · have e1 : ¬ cF = 0 := by
      rw [fr_X_p rX]
      refine nI_ne0 ?_ (by omega)
      have : (lv :: K).length = K.length + 1 := rfl
      omega
    have e2 : ¬ yd = 0 := by
      rw [ryd]
      exact nI_ne0 (by show 0 < K.length + 1; omega) (by omega)
    refine ⟨(qB, dB, hS, ub, nT, aK, nM, cT, cL, hL, fL, kL, cls, dT, dO, dC, qT, 1, 0, sc, ac, ev, chc, cF, cTk, hT, tT, chs, cs, cn, cl, ca, ci, kS, kB, kC, kH, kP, kF, dV, qV, ns, nn, nc, tr, fP, fB, fC, fR, fT, fN, hG, hB, hF, hK, hH, hR, hC, hP, pl, pr), (cL, hL, fL, kL, cls, 1, 0, sc, ac, ev, chc, hT, yd, chs, sh, nm, ln, bi, lR, lB, lC, lP, lI, gA, hB, hH, hC, hP, gD, gb, gr, gs, gc, gp, gi, yl, yr, nb), zz_mk ⟨S, M, L, m, sr, C, _, G, Lv, T, k, h, R, fun _ => rfl, Or.inr ⟨Q, hqv, Or.inl ⟨rfl, by simp⟩⟩⟩, fun post hp => br_f e1 hp, fun post hp => br_f e2 hp⟩
theorem jt_ent (C : rl_C S M L m sr cL hL fL kL cls dT dO dC qT cs cn cl ca ci kS kB kC kH kP kF dV sh nm ln nb) (hk : chs = nI k) (hk32 : k ≤ 32) (hyd : yd = nI K.length) (hyT : tT = nI T) (hyh : hT = nI h) (rX : fr_X S L sr fP fB fC fR fT fN cF cTk K) (rY : fr_Y lR lB lC lP lI K) (rV : fr_V S L m Lv K) {q ct : Nat} (hq : q < m) (hct : ct ≤ 32) (hLv : ∀ s, Lv s → tm_sl S M s ≠ 0 → hr_bs s < h) (HR : hr_HR S M L m (h + tx_ch (S (q + 2)) (M (q + 2)) (tx_en (S (q + 2)) 0)) (fun t => Lv t ∨ hr_NW S M L (q + 2) h 0 (tx_ch (S (q + 2)) (M (q + 2)) (tx_en (S (q + 2)) 0)) t) ns nn nc bi) (hbi : ∀ v, v < 8 → (∀ s, (Lv s ∨ hr_NW S M L (q + 2) h 0 (tx_ch (S (q + 2)) (M (q + 2)) (tx_en (S (q + 2)) 0)) s) → tm_s S s = -1 → tm_ce M s ≠ h * 8 + v) → bi (h * 8 + v) = -1) (TF : tf_ok tr T h nc) (hcap : h + tx_ch (S (q + 2)) (M (q + 2)) (L (q + 2)) ≤ 256)
    (CP : ∀ c, c < k → cp_F S M L m sr ns nn tr nc T fP fB fC fR fT fN hG hB hF hK hH hR hC hP gA gD gb gr gs gc gp gi c (G c)) (MO : ∀ c d, c < d → d < k → cp_h (G c) ≤ cp_h (G d) ∧ cp_t (G c) ≤ cp_t (G d) ∧ cp_p (G c) ≤ cp_p (G d)) (rH : ∀ c, c < k → cp_h (G c) ≤ h) (Q : ql_OK S L Lv) (hqv : qv_OK S M L qV) (hlm : lm = 0) {x1 x2 : Int32} {bi0 yl0 yr0 : Nat → Int32} (UY : ∀ post : Int32 → SY → Prop, post 1 (cL, hL, fL, kL, cls, stt, lm, sc, ac, ev, chc, hT, yd, chs, sh, nm, ln, bi, lR, lB, lC, lP, lI, gA, hB, hH, hC, hP, gD, gb, gr, gs, gc, gp, gi, yl, yr, nb) → wpY_unify post (cL, hL, fL, kL, cls, stt, lm, sc, ac, ev, chc, hT, yd, chs, sh, nm, ln, bi0, lR, lB, lC, lP, lI, gA, hB, hH, hC, hP, gD, gb, gr, gs, gc, gp, gi, yl0, yr0, nb) x1 x2 (nI ((q + 2) * 40)) (nI h)) : jo_R (fun post => wpX_enterClause post (qB, dB, hS, ub, nT, aK, nM, cT, cL, hL, fL, kL, cls, dT, dO, dC, qT, stt, lm, sc, ac, ev, chc, cF, cTk, hT, tT, chs, cs, cn, cl, ca, ci, kS, kB, kC, kH, kP, kF, dV, qV, ns, nn, nc, tr, fP, fB, fC, fR, fT, fN, hG, hB, hF, hK, hH, hR, hC, hP, pl, pr) (nI q) (nI ct)) (fun post => wY_tryClause_42 post x1 x2 (nI ct) (nI (q + 2)) (nI (tx_ch (S (q + 2)) (M (q + 2)) (L (q + 2)))) (nI h) cL hL fL kL cls stt lm sc ac ev chc hT yd chs nb 1 (nI 8) sh nm ln bi0 lR lB lC lP lI gA hB hH hC hP gD gb gr gs gc gp gi yl0 yr0) := by
  have C0 := C
  obtain ⟨⟨n1, n2, n3, n4, l1, l2, l3, l4, l5, l6, l7, l8⟩, hnb, hcl, O, CX, CY, CK, hqT, hD⟩ := C
  obtain ⟨k1, k2, k3, k4, k5⟩ := CK
  have hm := O.1
  obtain ⟨hv, hl0, a, ha3, ha, _⟩ := cd_hd O hq
  obtain ⟨w, h40, hop, _⟩ := O.2 _ hv
  obtain ⟨s1, s2, s3, s4, _, _⟩ := k5 q hq
  have eS0 : kS q = nI (sr (q + 2)) := k4 q (by omega)
  have eS1 : kS (q + 1) = nI (sr (q + 2) + L (q + 2)) := by rw [k4 (q + 1) (by omega)]; exact congrArg nI s1
  obtain ⟨en1, en2, en3, en4⟩ := tx_en_1 h40 hop hl0
  have hsr := (CX _ hv).1
  have hlen := fr_len rV
  generalize he : tx_en (S (q + 2)) 0 = e at *
  have hce := tx_ch_m (sh := S (q + 2)) (nm := M (q + 2)) en2
  have hoe : tx_op (S (q + 2)) e = 0 := en4 rfl
  generalize hc0 : tx_ch (S (q + 2)) (M (q + 2)) (L (q + 2)) = c0 at *
  generalize hc1 : tx_ch (S (q + 2)) (M (q + 2)) e = c1 at *
  subst hyd hyT hyh
  have eh : nI h + kC q = nI (h + c0) := by rw [s3, nI_add]
  have ehY : nI h + nI c0 = nI (h + c0) := nI_add _ _
  have EN : ∀ post : Int32 → Prop, post (nI ((q + 2) * 40 + e)) → wpY_endOf post (cL, hL, fL, kL, cls, stt, lm, sc, ac, ev, chc, nI h + nI c0, nI K.length, chs, sh, nm, ln, bi, lR, lB, lC, lP, lI, gA, hB, hH, hC, hP, gD, gb, gr, gs, gc, gp, gi, yl, yr, nb) (nI ((q + 2) * 40)) := fun post hp => yw_endOf (i := 0) O CY hv hl0 (by rw [he]; exact hp)
  have hln : ln (q + 2) = nI (L (q + 2)) := (CY _ hv).1
  by_cases hfact : L (q + 2) ≤ e
  · -- no body
    have ee : e = L (q + 2) := by omega
    have ecc : c1 = c0 := by rw [← hc1, ← hc0, ee]
    have R' : rn_OK S M L m sr K G (fun t => Lv t ∨ hr_NW S M L (q + 2) h 0 c1 t) T k (h + c0) cF cTk (nI K.length) (nI (h + c0)) (nI T) chs ns nn tr nc fP fB fC fR fT fN hG hB hF hK hH hR hC hP bi lR lB lC lP lI gA gD gb gr gs gc gp gi :=
      ⟨⟨rfl, rfl, hk, hk32, rfl⟩, rX, rY, fr_V_m (fun _ l => Or.inl l) rV, by rw [← ecc]; exact HR, tf_up TF (by omega) (fun _ _ => rfl), CP, MO, fun c hc => by have := rH c hc; omega⟩
    obtain ⟨u', v', Z, PX, PY⟩ := jp_go (ev := 1) (qB := qB) (dB := dB) (hS := hS) (ub := ub) (nT := nT) (aK := aK) (nM := nM) (cT := cT) (stt := stt) (sc := sc) (ac := ac) (chc := chc) (pl := pl) (pr := pr) (yl := yl) (yr := yr) C0 R' (fun i hi ho => Or.inl (Q i hi ho)) hqv hlm
    refine ⟨u', v', Z, fun post hp => ?_, fun post hp => ?_⟩
    · refine xw_ent_a (by omega) ?_ (fun post hp => ?_) hp
      · rw [eS1, s2]; exact nI_le (by omega) (by omega)
      · rw [eh]; exact PX post hp
    · refine yw_U1 (e := e) (N := L (q + 2)) (by omega) UY (by omega) h40 hln EN (Or.inl ⟨hfact, v', hp, fun post hp => ?_⟩)
      rw [ehY]; exact PY post hp
  · -- a body
    have hnle : ¬ kS (q + 1) ≤ kB q := by rw [eS1, s2]; exact nI_ge (by omega) (by omega)
    have hg : 0 < k → hP (k - 1) = nI (cp_p (G (k - 1))) ∧ cp_p (G (k - 1)) ≤ 32 := fun h => cp_pP (CP (k - 1) (by omega))
    have hcF := fr_X_p rX
    have PHX : ∀ {qB dB hS cL hL fL kL cls dT dO dC qT stt lm sc ac ev chc cTk hT tT : Int32} {ub nT aK nM cT : Int64} {cs cn cl ca ci kS kB kC kH dV qV ns nn tr fP fB fC fR fT fN hG hB hF hK hH hR hC : Nat → Int32} {kP kF nc pl pr : Nat → Int64} (post : Int32 → Prop), post (nI (pp_H K G k)) → wpX_protectedHeight post (qB, dB, hS, ub, nT, aK, nM, cT, cL, hL, fL, kL, cls, dT, dO, dC, qT, stt, lm, sc, ac, ev, chc, cF, cTk, hT, tT, chs, cs, cn, cl, ca, ci, kS, kB, kC, kH, kP, kF, dV, qV, ns, nn, nc, tr, fP, fB, fC, fR, fT, fN, hG, hB, hF, hK, hH, hR, hC, hP, pl, pr) := fun post hp => xw_protH hcF hlen.2 hk hk32 hg hp
    have PHY : ∀ {cL hL fL kL cls stt lm sc ac ev chc hT : Int32} {sh nm ln bi gA hB hH hC gD gb gr gs gc gp gi yl yr : Nat → Int32} {nb : Nat} (post : Int32 → Prop), post (nI (pp_H K G k)) → wpY_height post (cL, hL, fL, kL, cls, stt, lm, sc, ac, ev, chc, hT, nI K.length, chs, sh, nm, ln, bi, lR, lB, lC, lP, lI, gA, hB, hH, hC, hP, gD, gb, gr, gs, gc, gp, gi, yl, yr, nb) := fun post hp => yw_height rV rY rfl hk hk32 hg hp
    have hph1 : fr_p K ≤ pp_H K G k := by
      unfold pp_H; split
      · exact Nat.le_refl _
      · exact Nat.le_max_left _ _
    have hph2 : ∀ c, c < k → cp_p (G c) ≤ pp_H K G k := by
      intro c hc
      unfold pp_H
      rw [if_neg (by omega)]
      refine Nat.le_trans ?_ (Nat.le_max_right _ _)
      by_cases z : c = k - 1
      · rw [z]; exact Nat.le_refl _
      · exact (MO c (k - 1) (by omega) (by omega)).2.2
    have hph3 : pp_H K G k ≤ 32 := by
      unfold pp_H; split
      · exact hlen.2
      · exact Nat.max_le.mpr ⟨hlen.2, (hg (by omega)).2⟩
    generalize pp_H K G k = ph at *
    have e1p : (1 : Int32) + nI ph = nI (1 + ph) := nI_add 1 ph
    by_cases hpos : 1 + ph ≤ n3
    · -- a frame
      obtain ⟨ns3, nn3, nc3, B3, BX3⟩ := xw_build (r := q + 2) (b := h) (lo := c1) (i0 := e) (i1 := L (q + 2)) O CX hv en2 (Nat.le_refl _) (by omega) (by omega) ns nn nc
      have HR3 : hr_HR S M L m (h + c0) (fun t => (Lv t ∨ hr_NW S M L (q + 2) h 0 c1 t) ∨ hr_NW S M L (q + 2) h c1 c0 t) ns3 nn3 nc3 bi := by
        have := hr_body (ns' := ns3) (nn' := nn3) (nc' := nc3) O hv en2 hLv (by rw [hc1]; exact HR) (by omega) (by rw [hc1]; exact B3) (by rw [hc1]; exact hbi)
        rw [hc1, hc0] at this
        exact this
      have R' : rn_OK S M L m sr ((q + 2, h, ct, 1 + ph, e) :: K) G (fun t => (Lv t ∨ hr_NW S M L (q + 2) h 0 c1 t) ∨ hr_NW S M L (q + 2) h c1 c0 t) T k (h + c0) (nI (1 + ph)) (nI (sr (q + 2) + e)) (nI (K.length + 1)) (nI (h + c0)) (nI T) chs ns3 nn3 tr nc3 (upd fP (1 + ph) (nI q)) (upd fB (1 + ph) (nI h)) (upd fC (1 + ph) (nI ct)) (upd fR (1 + ph) cF) (upd fT (1 + ph) cTk) (upd fN (1 + ph) (nI (fr_pd S L K))) hG hB hF hK hH hR hC hP bi (upd lR K.length (nI (q + 2))) (upd lB K.length (nI h)) (upd lC K.length (nI ct)) (upd lP K.length (nI (1 + ph))) (upd lI K.length (nI e)) gA gD gb gr gs gc gp gi := by
        refine ⟨⟨rfl, rfl, hk, hk32, rfl⟩, ⟨rfl, rfl, ?_, pk_us, pk_us, pk_us, ?_⟩, ⟨pk_us, pk_us, pk_us, pk_us, pk_us, ?_⟩, ⟨hv, by omega, hoe, by omega, hct, by omega, by omega, ?_, ?_⟩, HR3, ?_, ?_, MO, fun c hc => by have := rH c hc; omega⟩
        · rw [pk_us]
          have : nI (q + 2) - 2 = nI (q + 2 - 2) := pk_sub (b := 2) (by omega)
          rw [this]; rfl
        · rw [pk_us, pk_us]
          exact fr_X_cg rV (fun p hp => ⟨pk_un (by omega), pk_un (by omega), pk_un (by omega), pk_un (by omega), pk_un (by omega), pk_un (by omega)⟩) rX
        · exact fr_Y_cg (fun j hj => ⟨pk_un (by omega), pk_un (by omega), pk_un (by omega), pk_un (by omega), pk_un (by omega)⟩) rY
        · intro j hj1 hj2 hj3
          have := hr_NW_all (Lv := Lv) (e := e) (h := h) O hv (by omega) hj2 hj3
          rw [hc1, hc0] at this
          exact this
        · exact fr_V_m (fun _ l => Or.inl (Or.inl l)) rV
        · exact tf_up TF (by omega) (fun j hj => B3.2.1 j (by omega))
        · intro c hc
          have hh := rH c hc
          have hp := hph2 c hc
          refine cp_cg O (CP c hc) (fun n hn => B3.1 n (by omega)) (fun j hj => ud_c (B3.2.1 j (by omega))) (cp_tT (CP c hc)) (fun _ _ => rfl) (fun p hp' => ⟨pk_un (by omega), pk_un (by omega), pk_un (by omega), pk_un (by omega), pk_un (by omega), pk_un (by omega)⟩) ⟨rfl, rfl, rfl, rfl, rfl, rfl, rfl, rfl, rfl, rfl⟩ (fun _ _ => ⟨rfl, rfl, rfl, rfl, rfl⟩) (fun _ _ => rfl)
      obtain ⟨u', v', Z, PX, PY⟩ := jp_go (ev := 1) (qB := qB) (dB := dB) (hS := hS) (ub := ub) (nT := nT) (aK := aK) (nM := nM) (cT := cT) (stt := stt) (sc := sc) (ac := ac) (chc := chc) (pl := pl) (pr := pr) (yl := yl) (yr := yr) C0 R' (fun i hi ho => Or.inl (Or.inl (Q i hi ho))) hqv hlm
      refine ⟨u', v', Z, fun post hp => ?_, fun post hp => ?_⟩
      · refine xw_ent_b (ns' := ns3) (nn' := nn3) (nc' := nc3) (fP' := upd fP (1 + ph) (nI q)) (fB' := upd fB (1 + ph) (nI h)) (fC' := upd fC (1 + ph) (nI ct)) (fR' := upd fR (1 + ph) cF) (fT' := upd fT (1 + ph) cTk) (fN' := upd fN (1 + ph) (nI (fr_pd S L K))) (by omega) hnle PHX ?_ (fun post hp => ?_) (fun post hp => ?_) (fun post hp => ?_) hp
        · rw [e1p, l5]; exact nI_le hpos (by omega)
        · rw [s2, eS1, s4]; exact BX3 post hp
        · rw [e1p]; exact xw_makeFrame O CX rX rV (by omega) (by omega) hp
        · rw [eh, e1p, s2]; exact PX post hp
      · refine yw_U1 (e := e) (N := L (q + 2)) (by omega) UY (by omega) h40 hln EN (Or.inr ⟨by omega, nI ph, PHY, Or.inr ⟨?_, K.length, by omega, rfl, v', hp, fun post hp => ?_⟩⟩)
        · rw [nI_1, l5]; exact nI_nlt (by omega) (by omega)
        · rw [ehY, nI_1, Nat.add_comm ph 1]; exact PY post hp
    · refine ⟨(qB, dB, hS, ub, nT, aK, nM, cT, cL, hL, fL, kL, cls, dT, dO, dC, qT, 5, 4, sc, ac, 5, chc, 0, 0, 0, 0, 0, cs, cn, cl, ca, ci, kS, kB, kC, kH, kP, kF, dV, qV, ns, nn, nc, tr, fP, fB, fC, fR, fT, fN, hG, hB, hF, hK, hH, hR, hC, hP, pl, pr), (cL, hL, fL, kL, cls, 5, 4, sc, ac, 5, chc, 0, 0, 0, sh, nm, ln, bi, lR, lB, lC, lP, lI, gA, hB, hH, hC, hP, gD, gb, gr, gs, gc, gp, gi, yl, yr, nb), zz_in C0 (Or.inr (Or.inr rfl)) (fun h => absurd rfl h), fun post hp => ?_, fun post hp => ?_⟩
      · refine xw_ent_4 (by omega) hnle PHX ?_ hp
        rw [e1p, l5]; exact nI_ge (by omega) (by omega)
      · refine yw_U1 (e := e) (N := L (q + 2)) (by omega) UY (by omega) h40 hln EN (Or.inr ⟨by omega, nI ph, PHY, Or.inl ⟨?_, hp⟩⟩)
        rw [nI_1, l5]; exact nI_lt (by omega) (by omega)
end
end
section
/-! trying a clause, both sides -/
section
variable {qB dB hS : Int32} {ub nT aK nM cT : Int64} {cL hL fL kL cls dT dO dC qT stt lm sc ac ev chc cF cTk hT tT chs : Int32} {cs cn cl ca ci kS kB kC kH dV qV ns nn tr fP fB fC fR fT fN hG hB hF hK hH hR hC hP : Nat → Int32} {kP kF nc pl pr : Nat → Int64} {yd : Int32} {sh nm ln bi lR lB lC lP lI gA gD gb gr gs gc gp gi yl yr : Nat → Int32} {nb : Nat}
variable {S M : Nat → Nat → Int32} {L : Nat → Nat} {m : Nat} {sr : Nat → Nat} {Lv : Nat → Prop} {K : List fr_L} {G : Nat → cp_R} {k T h : Nat}
theorem jt_try (C : rl_C S M L m sr cL hL fL kL cls dT dO dC qT cs cn cl ca ci kS kB kC kH kP kF dV sh nm ln nb) (R : rn_OK S M L m sr K G Lv T k h cF cTk yd hT tT chs ns nn tr nc fP fB fC fR fT fN hG hB hF hK hH hR hC hP bi lR lB lC lP lI gA gD gb gr gs gc gp gi) (Q : ql_OK S L Lv) (hqv : qv_OK S M L qV) (hlm : lm = 0) {r i b q ct : Nat} (g : gl_OK S L m Lv r i b) (hq : q < m) (hs : S (q + 2) 0 = S r i) (hct : ct ≤ 32) : jo_R (fun post => wpX_tryClause post (qB, dB, hS, ub, nT, aK, nM, cT, cL, hL, fL, kL, cls, dT, dO, dC, qT, stt, lm, sc, ac, ev, chc, cF, cTk, hT, tT, chs, cs, cn, cl, ca, ci, kS, kB, kC, kH, kP, kF, dV, qV, ns, nn, nc, tr, fP, fB, fC, fR, fT, fN, hG, hB, hF, hK, hH, hR, hC, hP, pl, pr) (nI (sr r + i)) (nI b) (nI q) (nI ct)) (fun post => wpY_tryClause post (cL, hL, fL, kL, cls, stt, lm, sc, ac, ev, chc, hT, yd, chs, sh, nm, ln, bi, lR, lB, lC, lP, lI, gA, hB, hH, hC, hP, gD, gb, gr, gs, gc, gp, gi, yl, yr, nb) (nI (r * 40 + i)) (nI b) (nI q) (nI ct)) := by
  have C0 := C
  obtain ⟨⟨n1, n2, n3, n4, l1, l2, l3, l4, l5, l6, l7, l8⟩, hnb, hcl, O, CX, CY, CK, hqT, hD⟩ := C
  obtain ⟨k1, k2, k3, k4, k5⟩ := CK
  obtain ⟨⟨rT, rTT, rk, rk32, ryd⟩, rX, rY, rV, rHR, rTF, rCP, rMO, rH⟩ := R
  have hm := O.1
  obtain ⟨hv, hl0, a, ha3, ha, _⟩ := cd_hd O hq
  obtain ⟨w, h40, hop, _⟩ := O.2 _ hv
  obtain ⟨s1, s2, s3, s4, _, _⟩ := k5 q hq
  have eS0 : kS q = nI (sr (q + 2)) := k4 q (by omega)
  obtain ⟨en1, en2, en3, en4⟩ := tx_en_1 h40 hop hl0
  have hsr := (CX _ hv).1
  have hlen := fr_len rV
  have hh256 := rHR.1
  have hce := tx_ch_m (sh := S (q + 2)) (nm := M (q + 2)) en2
  have hcn := tx_ch_n (sh := S (q + 2)) (nm := M (q + 2)) (L (q + 2))
  have hoe : tx_op (S (q + 2)) (tx_en (S (q + 2)) 0) = 0 := en4 rfl
  subst rT rTT
  by_cases hlim : h + tx_ch (S (q + 2)) (M (q + 2)) (L (q + 2)) ≤ n2
  · -- the head is built
    obtain ⟨ns1, nn1, nc1, B1, BX⟩ := xw_build (r := q + 2) (b := h) (lo := 0) (i0 := 0) (i1 := tx_en (S (q + 2)) 0) O CX hv (Nat.zero_le _) en2 (by omega) (by omega) ns nn nc
    have HR1 := hr_head (ns' := ns1) (nn' := nn1) (nc' := nc1) (bi' := pw_I bi (h * 8) (h * 8 + 8) (fun _ => -1)) O hv en2 hoe rHR (by omega) B1 (fun v hv => pw_Iin (by omega) (by omega)) (fun x hx => pw_Io (Or.inl hx))
    have g1 : gl_OK S L m (fun t => Lv t ∨ hr_NW S M L (q + 2) h 0 (tx_ch (S (q + 2)) (M (q + 2)) (tx_en (S (q + 2)) 0)) t) r i b := gl_m (fun _ l => Or.inl l) g
    have g2 : gl_OK S L m (fun t => Lv t ∨ hr_NW S M L (q + 2) h 0 (tx_ch (S (q + 2)) (M (q + 2)) (tx_en (S (q + 2)) 0)) t) (q + 2) 0 h := by
      refine ⟨hv, hl0, rfl, by rw [hs]; exact g.2.2.2.1, hh256, fun j hj1 hj2 => Or.inr ⟨hr_cd_r (by omega) (by omega), hr_cd_b (by omega), ?_, ?_, ?_, ?_⟩⟩
      · rw [hr_cd_i (by omega) (by omega)]; omega
      · rw [hr_cd_i (by omega) (by omega)]; exact tx_in_pos h40 hop hl0 hj1 hj2
      · omega
      · rw [tm_cd_sl (by omega) (by omega)]; exact tx_sl_le hj2
    have TF1 : tf_ok tr T h nc1 := tf_up rTF (Nat.le_refl _) (fun j hj => B1.2.1 j (by omega))
    obtain ⟨H, hyH, hHh, hHall⟩ : ∃ H, ((k = 0 ∧ H = 0) ∨ (0 < k ∧ hH (k - 1) = nI H)) ∧ H ≤ h ∧ ∀ c, c < k → cp_h (G c) ≤ H := by
      rcases Nat.eq_zero_or_pos k with z | z
      · exact ⟨0, Or.inl ⟨z, rfl⟩, Nat.zero_le _, fun c hc => by omega⟩
      · refine ⟨cp_h (G (k - 1)), Or.inr ⟨z, cp_hH (rCP (k - 1) (by omega))⟩, rH _ (by omega), fun c hc => ?_⟩
        by_cases e : c = k - 1
        · rw [e]; exact Nat.le_refl _
        · exact (rMO c (k - 1) (by omega) (by omega)).1
    obtain ⟨res, T2, tr2, nc2, pl2, pr2, bi2, yl2, yr2, u1, u2, u3, u4, u5, UX, UY⟩ := ju_top (H := H) (hb := h) O CX CY rk rk32 hyH hHh hh256 g1 g2 hs tr nc1 pl pr (pw_I bi (h * 8) (h * 8 + 8) (fun _ => -1)) yl yr HR1 TF1
    have CP2 : ∀ c, c < k → cp_F S M L m sr ns1 nn1 tr2 nc2 T2 fP fB fC fR fT fN hG hB hF hK hH hR hC hP gA gD gb gr gs gc gp gi c (G c) := by
      intro c hc
      have h1 := hHall c hc
      have h2 := cp_tT (rCP c hc)
      refine cp_cg O (rCP c hc) (fun n hn => B1.1 n (by omega)) (fun j hj => ?_) (by have := u2.1; omega) (fun x hx => u2.2.1 x (by omega)) (fun _ _ => ⟨rfl, rfl, rfl, rfl, rfl, rfl⟩) ⟨rfl, rfl, rfl, rfl, rfl, rfl, rfl, rfl, rfl, rfl⟩ (fun _ _ => ⟨rfl, rfl, rfl, rfl, rfl⟩) (fun _ _ => rfl)
      rw [u2.2.2 _ h2 j (by omega)]
      exact ud_c (B1.2.1 j (by omega))
    have hnX : (nI h + kC q) ≤ hL := by rw [s3, nI_add, l3]; exact nI_le hlim (by omega)
    have hnY : nI h + nI (tx_ch (S (q + 2)) (M (q + 2)) (L (q + 2))) ≤ hL := by rw [nI_add, l3]; exact nI_le hlim (by omega)
    have BX' : ∀ post : SX → Prop, post (qB, dB, hS, ub, nT, aK, nM, cT, cL, hL, fL, kL, cls, dT, dO, dC, qT, stt, lm, sc, ac, ev, chc, cF, cTk, nI h, nI T, chs, cs, cn, cl, ca, ci, kS, kB, kC, kH, kP, kF, dV, qV, ns1, nn1, nc1, tr, fP, fB, fC, fR, fT, fN, hG, hB, hF, hK, hH, hR, hC, hP, pl, pr) → wpX_build post (qB, dB, hS, ub, nT, aK, nM, cT, cL, hL, fL, kL, cls, dT, dO, dC, qT, stt, lm, sc, ac, ev, chc, cF, cTk, nI h, nI T, chs, cs, cn, cl, ca, ci, kS, kB, kC, kH, kP, kF, dV, qV, ns, nn, nc, tr, fP, fB, fC, fR, fT, fN, hG, hB, hF, hK, hH, hR, hC, hP, pl, pr) (kS q) (kB q) (nI h) 0 := fun post hp => by rw [eS0, s2]; exact BX post hp
    have UX' : ∀ post : Int32 → SX → Prop, post res (qB, dB, hS, ub, nT, aK, nM, cT, cL, hL, fL, kL, cls, dT, dO, dC, qT, stt, lm, sc, ac, ev, chc, cF, cTk, nI h, nI T2, chs, cs, cn, cl, ca, ci, kS, kB, kC, kH, kP, kF, dV, qV, ns1, nn1, nc2, tr2, fP, fB, fC, fR, fT, fN, hG, hB, hF, hK, hH, hR, hC, hP, pl2, pr2) → wpX_unifyHead post (qB, dB, hS, ub, nT, aK, nM, cT, cL, hL, fL, kL, cls, dT, dO, dC, qT, stt, lm, sc, ac, ev, chc, cF, cTk, nI h, nI T, chs, cs, cn, cl, ca, ci, kS, kB, kC, kH, kP, kF, dV, qV, ns1, nn1, nc1, tr, fP, fB, fC, fR, fT, fN, hG, hB, hF, hK, hH, hR, hC, hP, pl, pr) (nI (sr r + i)) (nI b) (kS q) (nI h) := fun post hp => by rw [eS0]; exact UX post hp
    rcases u1 with rfl | rfl | rfl
    · -- success
      have hLv : ∀ s, Lv s → tm_sl S M s ≠ 0 → hr_bs s < h := by
        intro s ls hs
        have := ((rHR.2.1 s ls).2.1 hs).1
        unfold tm_nd at this
        omega
      obtain ⟨u', v', Z, EX, EY⟩ := jt_ent (x1 := nI (r * 40 + i)) (x2 := nI b) (ct := ct) (stt := stt) (ev := ev) (sc := sc) (ac := ac) (chc := chc) (qB := qB) (dB := dB) (hS := hS) (ub := ub) (nT := nT) (aK := aK) (nM := nM) (cT := cT) (pl := pl2) (pr := pr2) (bi0 := pw_I bi (h * 8) (h * 8 + 8) (fun _ => -1)) (yl0 := yl) (yr0 := yr) C0 rk rk32 ryd (rfl : nI T2 = nI T2) (rfl : nI h = nI h) rX rY rV hq hct hLv u4 (fun v hv hc => by rw [u5 _ hc]; exact pw_Iin (by omega) (by omega)) u3 (by omega) CP2 rMO rH Q hqv hlm (fun post hp => UY post hp)
      refine ⟨u', v', Z, fun post hp => ?_, fun post hp => ?_⟩
      · exact xw_try_ok (by omega) hnX BX' UX' (br_f (by decide) (br_f (by decide) (EX post hp)))
      · exact yw_try_pre O CY hq hh256 hnY (EY post hp)
    · -- mismatch
      obtain ⟨u', v', Z, FX, FY⟩ := jf_all (ev := 2) (stt := stt) (sc := sc) (ac := ac) (chc := chc) (qB := qB) (dB := dB) (hS := hS) (ub := ub) (nT := nT) (aK := aK) (nM := nM) (cT := cT) (cF := cF) (cTk := cTk) (hT := nI h) (pl := pl2) (pr := pr2) (yl := yl2) (yr := yr2) (yd := yd) (bi := bi2) (lR := lR) (lB := lB) (lC := lC) (lP := lP) (lI := lI) C0 hqv hlm rk rk32 (rfl : nI T2 = nI T2) u3 hh256 CP2 rMO
      refine ⟨u', v', Z, fun post hp => ?_, fun post hp => ?_⟩
      · exact xw_try_ok (by omega) hnX BX' UX' (br_f (by decide) (br_t rfl (FX post hp)))
      · exact yw_try_pre O CY hq hh256 hnY (yw_U2 (fun post hp => UY post hp) FY hp)
    · refine ⟨(qB, dB, hS, ub, nT, aK, nM, cT, cL, hL, fL, kL, cls, dT, dO, dC, qT, 5, 3, sc, ac, 5, chc, 0, 0, 0, 0, 0, cs, cn, cl, ca, ci, kS, kB, kC, kH, kP, kF, dV, qV, ns1, nn1, nc2, tr2, fP, fB, fC, fR, fT, fN, hG, hB, hF, hK, hH, hR, hC, hP, pl2, pr2), (cL, hL, fL, kL, cls, 5, 3, sc, ac, 5, chc, 0, 0, 0, sh, nm, ln, bi2, lR, lB, lC, lP, lI, gA, hB, hH, hC, hP, gD, gb, gr, gs, gc, gp, gi, yl2, yr2, nb), zz_in C0 (Or.inr (Or.inr rfl)) (fun h => absurd rfl h), fun post hp => ?_, fun post hp => ?_⟩
      · exact xw_try_ok (by omega) hnX BX' UX' (br_t rfl (xw_end hp))
      · exact yw_try_pre O CY hq hh256 hnY (yw_U5 (fun post hp => UY post hp) hp)
  · refine ⟨(qB, dB, hS, ub, nT, aK, nM, cT, cL, hL, fL, kL, cls, dT, dO, dC, qT, 5, 2, sc, ac, 5, chc, 0, 0, 0, 0, 0, cs, cn, cl, ca, ci, kS, kB, kC, kH, kP, kF, dV, qV, ns, nn, nc, tr, fP, fB, fC, fR, fT, fN, hG, hB, hF, hK, hH, hR, hC, hP, pl, pr), (cL, hL, fL, kL, cls, 5, 2, sc, ac, 5, chc, 0, 0, 0, sh, nm, ln, bi, lR, lB, lC, lP, lI, gA, hB, hH, hC, hP, gD, gb, gr, gs, gc, gp, gi, yl, yr, nb), zz_in C0 (Or.inr (Or.inr rfl)) (fun h => absurd rfl h), fun post hp => ?_, fun post hp => ?_⟩
    · refine xw_try_heap (by omega) ?_ hp
      rw [s3, nI_add, l3]; exact nI_ge (by omega) (by omega)
    · refine yw_try_heap O CY hq ?_ hp
      rw [nI_add, l3]; exact nI_ge (by omega) (by omega)
end
end
section
/-! pushing a choice point -/
def cp_add (G : Nat → cp_R) (k : Nat) (g : cp_R) : Nat → cp_R := fun c => if c = k then g else G c
theorem cp_add_s {G : Nat → cp_R} {k : Nat} {g : cp_R} : cp_add G k g k = g := if_pos rfl
theorem cp_add_n {G : Nat → cp_R} {k c : Nat} {g : cp_R} (h : c ≠ k) : cp_add G k g c = G c := if_neg h
section
variable {qB dB hS : Int32} {ub nT aK nM cT : Int64} {cL hL fL kL cls dT dO dC qT stt lm sc ac ev chc cF cTk hT tT chs : Int32} {cs cn cl ca ci kS kB kC kH dV qV ns nn tr fP fB fC fR fT fN hG hB hF hK hH hR hC hP : Nat → Int32} {kP kF nc pl pr : Nat → Int64}
theorem xw_push {k : Nat} {p0 p1 p2 ph : Int32} {post : SX → Prop} (hk : chs = nI k) (hk32 : k < 32) (PH : ∀ post : Int32 → Prop, post ph → wpX_protectedHeight post (qB, dB, hS, ub, nT, aK, nM, cT, cL, hL, fL, kL, cls, dT, dO, dC, qT, stt, lm, sc, ac, ev, chc, cF, cTk, hT, tT, chs, cs, cn, cl, ca, ci, kS, kB, kC, kH, kP, kF, dV, qV, ns, nn, nc, tr, fP, fB, fC, fR, fT, fN, hG, hB, hF, hK, hH, hR, hC, hP, pl, pr)) (hp : post (qB, dB, hS, ub, nT, aK, nM, cT, cL, hL, fL, kL, cls, dT, dO, dC, qT, stt, lm, sc, ac, ev, chc, cF, cTk, hT, tT, nI (k + 1), cs, cn, cl, ca, ci, kS, kB, kC, kH, kP, kF, dV, qV, ns, nn, nc, tr, fP, fB, fC, fR, fT, fN, upd hG k p0, upd hB k p1, upd hF k cF, upd hK k cTk, upd hH k hT, upd hR k tT, upd hC k p2, upd hP k ph, pl, pr)) : wpX_pushChoice post (qB, dB, hS, ub, nT, aK, nM, cT, cL, hL, fL, kL, cls, dT, dO, dC, qT, stt, lm, sc, ac, ev, chc, cF, cTk, hT, tT, chs, cs, cn, cl, ca, ci, kS, kB, kC, kH, kP, kF, dV, qV, ns, nn, nc, tr, fP, fB, fC, fR, fT, fN, hG, hB, hF, hK, hH, hR, hC, hP, pl, pr) p0 p1 p2 := by
  subst hk
  have e : (nI k).toNatClampNeg = k := nI_clamp (by omega)
  have hin : vp_in (nI k) 32 := vp_in_nI hk32 (by decide)
  unfold wpX_pushChoice
  refine PH _ ⟨hin, nm_r (e' := upd hP k ph) (by rw [e]) ⟨hin, nm_r (e' := upd hG k p0) (by rw [e]) ⟨hin, nm_r (e' := upd hB k p1) (by rw [e]) ⟨hin, nm_r (e' := upd hF k cF) (by rw [e]) ⟨hin, nm_r (e' := upd hK k cTk) (by rw [e]) ⟨hin, nm_r (e' := upd hH k hT) (by rw [e]) ⟨hin, nm_r (e' := upd hR k tT) (by rw [e]) ⟨hin, nm_r (e' := upd hC k p2) (by rw [e]) (nm_r (nI_1 k) hp)⟩⟩⟩⟩⟩⟩⟩⟩
end
section
variable {cL hL fL kL cls stt lm sc ac ev chc hT yd chs : Int32} {sh nm ln bi lR lB lC lP lI gA hB hH hC hP gD gb gr gs gc gp gi yl yr : Nat → Int32} {nb : Nat}
theorem yw_p112 {k D : Nat} (hk32 : k < 32) (hD : D ≤ 32) {post : SY → Prop} (hp : post (cL, hL, fL, kL, cls, stt, lm, sc, ac, ev, chc, hT, nI D, nI (k + 1), sh, nm, ln, bi, lR, lB, lC, lP, lI, gA, hB, hH, hC, hP, gD, gb, pw_I gr (k * 32) (k * 32 + D) (fun x => lR (x - k * 32)), pw_I gs (k * 32) (k * 32 + D) (fun x => lB (x - k * 32)), pw_I gc (k * 32) (k * 32 + D) (fun x => lC (x - k * 32)), pw_I gp (k * 32) (k * 32 + D) (fun x => lP (x - k * 32)), pw_I gi (k * 32) (k * 32 + D) (fun x => lI (x - k * 32)), yl, yr, nb)) : ∀ (q i n : Nat), i + q = D → q < n → wY_pushChoice_112 post (nI k) cL hL fL kL cls stt lm sc ac ev chc hT (nI D) chs nb n (nI i) sh nm ln bi lR lB lC lP lI gA hB hH hC hP gD gb (pw_I gr (k * 32) (k * 32 + i) (fun x => lR (x - k * 32))) (pw_I gs (k * 32) (k * 32 + i) (fun x => lB (x - k * 32))) (pw_I gc (k * 32) (k * 32 + i) (fun x => lC (x - k * 32))) (pw_I gp (k * 32) (k * 32 + i) (fun x => lP (x - k * 32))) (pw_I gi (k * 32) (k * 32 + i) (fun x => lI (x - k * 32))) yl yr
  | _, _, 0, _, h => by omega
  | 0, i, n + 1, hi, _ => by
    have e : i = D := by omega
    subst e
    exact br_t (nI_le (Nat.le_refl _) (by omega)) (nm_r (nI_1 k) hp)
  | q + 1, i, n + 1, hi, hn => by
    have e1 : nI k * 32 + nI i = nI (k * 32 + i) := by
      have : nI k * 32 = nI (k * 32) := pk_mul k 32
      rw [this, nI_add]
    have v1 : vp_in (nI k * 32 + nI i) 1024 := by rw [e1]; exact vp_in_nI (by omega) (by decide)
    have v2 : vp_in (nI i) 32 := vp_in_nI (by omega) (by decide)
    have ec : (nI k * 32 + nI i).toNatClampNeg = k * 32 + i := by rw [e1]; exact nI_clamp (by omega)
    have ei : (nI i).toNatClampNeg = i := nI_clamp (by omega)
    have aux : ∀ (f v : Nat → Int32), upd (pw_I f (k * 32) (k * 32 + i) (fun x => v (x - k * 32))) (nI k * 32 + nI i).toNatClampNeg (v (nI i).toNatClampNeg) = pw_I f (k * 32) (k * 32 + (i + 1)) (fun x => v (x - k * 32)) := by
      intro f v
      rw [ei, ec, ← Nat.add_assoc, ← pw_Iup (by omega), Nat.add_sub_cancel_left]
    refine br_f (nI_ge (by omega) (by omega)) ⟨v2, v1, nm_r (aux gr lR) ⟨v2, v1, nm_r (aux gs lB) ⟨v2, v1, nm_r (aux gc lC) ⟨v2, v1, nm_r (aux gp lP) ⟨v2, v1, nm_r (aux gi lI) (nm_r (nI_1 _) ?_)⟩⟩⟩⟩⟩
    exact yw_p112 hk32 hD hp q (i + 1) n (by omega) (by omega)
theorem yw_p74 {k D : Nat} (hk32 : k < 32) (hD : D ≤ 32) (hnb : nb = 65792) {post : SY → Prop} (hp : post (cL, hL, fL, kL, cls, stt, lm, sc, ac, ev, chc, hT, nI D, nI (k + 1), sh, nm, ln, bi, lR, lB, lC, lP, lI, gA, hB, hH, hC, hP, gD, pw_I gb (k * 2056) (k * 2056 + 2056) (fun x => bi (x - k * 2056)), pw_I gr (k * 32) (k * 32 + D) (fun x => lR (x - k * 32)), pw_I gs (k * 32) (k * 32 + D) (fun x => lB (x - k * 32)), pw_I gc (k * 32) (k * 32 + D) (fun x => lC (x - k * 32)), pw_I gp (k * 32) (k * 32 + D) (fun x => lP (x - k * 32)), pw_I gi (k * 32) (k * 32 + D) (fun x => lI (x - k * 32)), yl, yr, nb)) : ∀ (q i n : Nat), i + q = 2056 → q < n → wY_pushChoice_74 post (nI k) cL hL fL kL cls stt lm sc ac ev chc hT (nI D) chs nb n (nI i) sh nm ln bi lR lB lC lP lI gA hB hH hC hP gD (pw_I gb (k * 2056) (k * 2056 + i) (fun x => bi (x - k * 2056))) gr gs gc gp gi yl yr
  | _, _, 0, _, h => by omega
  | 0, i, n + 1, hi, _ => by
    have e : i = 2056 := by omega
    subst e
    refine br_t (by decide) ⟨D + 1, ?_⟩
    have := yw_p112 (chs := chs) hk32 hD hp D 0 (D + 1) (by omega) (by omega)
    rw [show k * 32 + 0 = k * 32 from rfl, pw_I0 (Nat.le_refl _), pw_I0 (Nat.le_refl _), pw_I0 (Nat.le_refl _), pw_I0 (Nat.le_refl _), pw_I0 (Nat.le_refl _)] at this
    exact this
  | q + 1, i, n + 1, hi, hn => by
    have e1 : nI k * 2056 + nI i = nI (k * 2056 + i) := by
      have : nI k * 2056 = nI (k * 2056) := pk_mul k 2056
      rw [this, nI_add]
    have v1 : vp_in (nI k * 2056 + nI i) nb := by rw [e1, hnb]; exact vp_in_nI (by omega) (by decide)
    have v2 : vp_in (nI i) 2056 := vp_in_nI (by omega) (by decide)
    have ec : (nI k * 2056 + nI i).toNatClampNeg = k * 2056 + i := by rw [e1]; exact nI_clamp (by omega)
    have ei : (nI i).toNatClampNeg = i := nI_clamp (by omega)
    refine br_f (nI_ge (b := 2056) (by omega) (by decide)) ⟨v2, v1, nm_r (e' := pw_I gb (k * 2056) (k * 2056 + (i + 1)) (fun x => bi (x - k * 2056))) ?_ (nm_r (nI_1 _) ?_)⟩
    · rw [ei, ec, ← Nat.add_assoc, ← pw_Iup (by omega), Nat.add_sub_cancel_left]
    · exact yw_p74 hk32 hD hnb hp q (i + 1) n (by omega) (by omega)
theorem yw_push {k D : Nat} {p0 p1 p2 ph : Int32} {post : SY → Prop} (hk : chs = nI k) (hk32 : k < 32) (hyd : yd = nI D) (hD : D ≤ 32) (hnb : nb = 65792) (PH : ∀ post : Int32 → Prop, post ph → wpY_height post (cL, hL, fL, kL, cls, stt, lm, sc, ac, ev, chc, hT, yd, chs, sh, nm, ln, bi, lR, lB, lC, lP, lI, upd gA k p0, upd hB k p1, upd hH k hT, upd hC k p2, hP, gD, gb, gr, gs, gc, gp, gi, yl, yr, nb)) (hp : post (cL, hL, fL, kL, cls, stt, lm, sc, ac, ev, chc, hT, yd, nI (k + 1), sh, nm, ln, bi, lR, lB, lC, lP, lI, upd gA k p0, upd hB k p1, upd hH k hT, upd hC k p2, upd hP k ph, upd gD k yd, pw_I gb (k * 2056) (k * 2056 + 2056) (fun x => bi (x - k * 2056)), pw_I gr (k * 32) (k * 32 + D) (fun x => lR (x - k * 32)), pw_I gs (k * 32) (k * 32 + D) (fun x => lB (x - k * 32)), pw_I gc (k * 32) (k * 32 + D) (fun x => lC (x - k * 32)), pw_I gp (k * 32) (k * 32 + D) (fun x => lP (x - k * 32)), pw_I gi (k * 32) (k * 32 + D) (fun x => lI (x - k * 32)), yl, yr, nb)) : wpY_pushChoice post (cL, hL, fL, kL, cls, stt, lm, sc, ac, ev, chc, hT, yd, chs, sh, nm, ln, bi, lR, lB, lC, lP, lI, gA, hB, hH, hC, hP, gD, gb, gr, gs, gc, gp, gi, yl, yr, nb) p0 p1 p2 := by
  subst hk hyd
  have e : (nI k).toNatClampNeg = k := nI_clamp (by omega)
  have hin : vp_in (nI k) 32 := vp_in_nI hk32 (by decide)
  refine br_t (nI_lt (b := 32) hk32 (by decide)) ⟨hin, nm_r (e' := upd gA k p0) (by rw [e]) ⟨hin, nm_r (e' := upd hB k p1) (by rw [e]) ⟨hin, nm_r (e' := upd hH k hT) (by rw [e]) ⟨hin, nm_r (e' := upd hC k p2) (by rw [e]) (PH _ ⟨hin, nm_r (e' := upd hP k ph) (by rw [e]) ⟨hin, nm_r (e' := upd gD k (nI D)) (by rw [e]) ⟨2057, ?_⟩⟩⟩)⟩⟩⟩⟩
  have := yw_p74 (chs := nI k) hk32 hD hnb hp 2056 0 2057 (by omega) (by omega)
  rw [pw_I0 (by omega)] at this
  exact this
end
section
variable {qB dB hS : Int32} {ub nT aK nM cT : Int64} {cL hL fL kL cls dT dO dC qT stt lm sc ac ev chc cF cTk hT tT chs : Int32} {cs cn cl ca ci kS kB kC kH dV qV ns nn tr fP fB fC fR fT fN hG hB hF hK hH hR hC hP : Nat → Int32} {kP kF nc pl pr : Nat → Int64} {yd : Int32} {sh nm ln bi lR lB lC lP lI gA gD gb gr gs gc gp gi yl yr : Nat → Int32} {nb : Nat}
variable {S M : Nat → Nat → Int32} {L : Nat → Nat} {m : Nat} {sr : Nat → Nat} {Lv : Nat → Prop} {K : List fr_L} {G : Nat → cp_R} {k T h : Nat}
theorem pp_facts (rV : fr_V S L m Lv K) (hg : 0 < k → cp_p (G (k - 1)) ≤ 32) (MO : ∀ c d, c < d → d < k → cp_h (G c) ≤ cp_h (G d) ∧ cp_t (G c) ≤ cp_t (G d) ∧ cp_p (G c) ≤ cp_p (G d)) : fr_p K ≤ pp_H K G k ∧ (∀ c, c < k → cp_p (G c) ≤ pp_H K G k) ∧ pp_H K G k ≤ 32 := by
  have hlen := fr_len rV
  refine ⟨?_, ?_, ?_⟩
  · unfold pp_H; split
    · exact Nat.le_refl _
    · exact Nat.le_max_left _ _
  · intro c hc
    unfold pp_H
    rw [if_neg (by omega)]
    refine Nat.le_trans ?_ (Nat.le_max_right _ _)
    by_cases z : c = k - 1
    · rw [z]; exact Nat.le_refl _
    · exact (MO c (k - 1) (by omega) (by omega)).2.2
  · unfold pp_H; split
    · exact hlen.2
    · exact Nat.max_le.mpr ⟨hlen.2, hg (by omega)⟩
theorem rn_push (O : sg_OK S M L m) (R : rn_OK S M L m sr K G Lv T k h cF cTk yd hT tT chs ns nn tr nc fP fB fC fR fT fN hG hB hF hK hH hR hC hP bi lR lB lC lP lI gA gD gb gr gs gc gp gi) (Q : ql_OK S L Lv) {r i b q : Nat} (g : gl_OK S L m Lv r i b) (hq : q < m) (hs : S (q + 2) 0 = S r i) (hk32 : k < 32) : rn_OK S M L m sr K (cp_add G k (r, i, b, h, T, q, pp_H K G k, K, Lv)) Lv T (k + 1) h cF cTk yd hT tT (nI (k + 1)) ns nn tr nc fP fB fC fR fT fN (upd hG k (nI (sr r + i))) (upd hB k (nI b)) (upd hF k cF) (upd hK k cTk) (upd hH k hT) (upd hR k tT) (upd hC k (nI q)) (upd hP k (nI (pp_H K G k))) bi lR lB lC lP lI (upd gA k (nI (r * 40 + i))) (upd gD k yd) (pw_I gb (k * 2056) (k * 2056 + 2056) (fun x => bi (x - k * 2056))) (pw_I gr (k * 32) (k * 32 + K.length) (fun x => lR (x - k * 32))) (pw_I gs (k * 32) (k * 32 + K.length) (fun x => lB (x - k * 32))) (pw_I gc (k * 32) (k * 32 + K.length) (fun x => lC (x - k * 32))) (pw_I gp (k * 32) (k * 32 + K.length) (fun x => lP (x - k * 32))) (pw_I gi (k * 32) (k * 32 + K.length) (fun x => lI (x - k * 32))) := by
  obtain ⟨⟨rT, rTT, rk, rk32, ryd⟩, rX, rY, rV, rHR, rTF, rCP, rMO, rH⟩ := R
  obtain ⟨p1, p2, p3⟩ := pp_facts rV (fun z => (cp_pP (rCP (k - 1) (by omega))).2) rMO
  have hlen := fr_len rV
  refine ⟨⟨rT, rTT, rfl, by omega, ryd⟩, rX, rY, rV, rHR, rTF, ?_, ?_, ?_⟩
  · intro c hc
    by_cases e : c = k
    · subst e
      rw [cp_add_s]
      refine ⟨⟨pk_us, pk_us, pk_us, by rw [pk_us]; exact rT, by rw [pk_us]; exact rTT, pk_us, pk_us, by rw [pk_us]; exact ryd⟩, ?_, ?_, rV, g, Q, hq, hs, p1, p3, Nat.le_refl _, ?_, ?_⟩
      · rw [pk_us, pk_us]; exact rX
      · refine fr_Y_cg (fun j hj => ?_) rY
        refine ⟨?_, ?_, ?_, ?_, ?_⟩ <;> (rw [pw_Iin (by omega) (by omega), Nat.add_sub_cancel_left])
      · intro x hx
        obtain ⟨n, a, b, _⟩ := rTF.1 x hx
        exact ⟨n, a, b⟩
      · rw [Nat.sub_self]
        refine hr_cg O rHR (fun _ _ => ⟨rfl, rfl⟩) (fun _ _ => rfl) (fun s ls vs => ?_)
        have := tm_ce_lt O (rHR.2.1 s ls).1 vs
        rw [pw_Iin (by omega) (by omega), Nat.add_sub_cancel_left]
    · rw [cp_add_n e]
      refine cp_cg O (rCP c (by omega)) (fun _ _ => ⟨rfl, rfl⟩) (fun _ _ => rfl) (cp_tT (rCP c (by omega))) (fun _ _ => rfl) (fun _ _ => ⟨rfl, rfl, rfl, rfl, rfl, rfl⟩) ⟨pk_un e, pk_un e, pk_un e, pk_un e, pk_un e, pk_un e, pk_un e, pk_un e, pk_un e, pk_un e⟩ (fun j hj => ?_) (fun x hx => pw_Io (Or.inl (by omega)))
      exact ⟨pw_Io (Or.inl (by omega)), pw_Io (Or.inl (by omega)), pw_Io (Or.inl (by omega)), pw_Io (Or.inl (by omega)), pw_Io (Or.inl (by omega))⟩
  · intro c d hcd hd
    rw [cp_add_n (by omega)]
    by_cases e : d = k
    · subst e
      rw [cp_add_s]
      exact ⟨rH c hcd, cp_tT (rCP c hcd), p2 c hcd⟩
    · rw [cp_add_n e]
      exact rMO c d hcd (by omega)
  · intro c hc
    by_cases e : c = k
    · subst e; rw [cp_add_s]; exact Nat.le_refl _
    · rw [cp_add_n e]; exact rH c (by omega)
/-- fewer choice points -/
theorem rn_cut (R : rn_OK S M L m sr K G Lv T k h cF cTk yd hT tT chs ns nn tr nc fP fB fC fR fT fN hG hB hF hK hH hR hC hP bi lR lB lC lP lI gA gD gb gr gs gc gp gi) {k' : Nat} (hk' : k' ≤ k) : rn_OK S M L m sr K G Lv T k' h cF cTk yd hT tT (nI k') ns nn tr nc fP fB fC fR fT fN hG hB hF hK hH hR hC hP bi lR lB lC lP lI gA gD gb gr gs gc gp gi := by
  obtain ⟨⟨rT, rTT, rk, rk32, ryd⟩, rX, rY, rV, rHR, rTF, rCP, rMO, rH⟩ := R
  exact ⟨⟨rT, rTT, rfl, by omega, ryd⟩, rX, rY, rV, rHR, rTF, fun c hc => rCP c (by omega), fun c d a b => rMO c d a (by omega), fun c hc => rH c (by omega)⟩
end
end
section
/-! calling a goal -/
section
variable {qB dB hS : Int32} {ub nT aK nM cT : Int64} {cL hL fL kL cls dT dO dC qT stt lm sc ac ev chc cF cTk hT tT chs : Int32} {cs cn cl ca ci kS kB kC kH dV qV ns nn tr fP fB fC fR fT fN hG hB hF hK hH hR hC hP : Nat → Int32} {kP kF nc pl pr : Nat → Int64} {yd : Int32} {sh nm ln bi lR lB lC lP lI gA gD gb gr gs gc gp gi yl yr : Nat → Int32} {nb : Nat}
variable {S M : Nat → Nat → Int32} {L : Nat → Nat} {m : Nat} {sr : Nat → Nat} {Lv : Nat → Prop} {K : List fr_L} {G : Nat → cp_R} {k T h : Nat}
theorem nx_neg {P : Nat → Prop} {m fr : Nat} {res : Int32} (hm : m ≤ 32) (h : nx_OK P m fr res) : (res = -1) ∨ ∃ c, fr ≤ c ∧ c < m ∧ P c ∧ res = nI c ∧ ¬ res < 0 ∧ 0 ≤ res := by
  rcases h with e | ⟨c, h1, h2, h3, h4⟩
  · exact Or.inl e
  · refine Or.inr ⟨c, h1, h2, h3, h4, ?_, ?_⟩
    · rw [h4]; exact nI_pos (by omega)
    · rw [h4]; exact nI_pos' (by omega)
theorem jt_call (C : rl_C S M L m sr cL hL fL kL cls dT dO dC qT cs cn cl ca ci kS kB kC kH kP kF dV sh nm ln nb) (R : rn_OK S M L m sr K G Lv T k h cF cTk yd hT tT chs ns nn tr nc fP fB fC fR fT fN hG hB hF hK hH hR hC hP bi lR lB lC lP lI gA gD gb gr gs gc gp gi) (Q : ql_OK S L Lv) (hqv : qv_OK S M L qV) (hlm : lm = 0) {r i b : Nat} {x4 : Int32} (g : gl_OK S L m Lv r i b) : jo_R (fun post => wpX_callGoal post (qB, dB, hS, ub, nT, aK, nM, cT, cL, hL, fL, kL, cls, dT, dO, dC, qT, stt, lm, sc, ac, ev, chc, cF, cTk, hT, tT, chs, cs, cn, cl, ca, ci, kS, kB, kC, kH, kP, kF, dV, qV, ns, nn, nc, tr, fP, fB, fC, fR, fT, fN, hG, hB, hF, hK, hH, hR, hC, hP, pl, pr) (nI (sr r + i)) (nI b)) (fun post => wY_call_91 post (nI b) x4 (nI (r * 40 + i)) cL hL fL kL cls stt lm sc ac ev chc hT yd chs sh nm ln bi lR lB lC lP lI gA hB hH hC hP gD gb gr gs gc gp gi yl yr nb) := by
  have C0 := C
  have R0 := R
  obtain ⟨⟨n1, n2, n3, n4, l1, l2, l3, l4, l5, l6, l7, l8⟩, hnb, hcl, O, CX, CY, CK, hqT, hD⟩ := C
  obtain ⟨⟨rT, rTT, rk, rk32, ryd⟩, rX, rY, rV, rHR, rTF, rCP, rMO, rH⟩ := R
  obtain ⟨ht, A, I, FY, FX, F⟩ := rHR
  have hm := O.1
  have hrow := sg_row hm g.1
  have hi := g.2.1
  have h40 := (O.2 r g.1).2.1
  have hlen := fr_len rV
  have hshape : sh (nI (r * 40 + i)).toNatClampNeg = S r i := by
    rw [nI_clamp (by omega)]; exact ((CY r g.1).2 i hi).1
  have hin : vp_in (nI (r * 40 + i)) 1360 := vp_in_nI (by omega) (by decide)
  have GK : ∀ {qB dB hS cL hL fL kL cls dT dO dC qT stt lm sc ac ev chc cF cTk hT tT chs : Int32} {ub nT aK nM cT : Int64} {kS kB kC kH dV qV tr fP fB fC fR fT fN hG hB hF hK hH hR hC hP : Nat → Int32} {kP kF pl pr : Nat → Int64} (post : Int64 → Prop), post (cd_key S M r i (FY (hr_cd r (i + 1) b))) → wpX_goalFirstKey post (qB, dB, hS, ub, nT, aK, nM, cT, cL, hL, fL, kL, cls, dT, dO, dC, qT, stt, lm, sc, ac, ev, chc, cF, cTk, hT, tT, chs, cs, cn, cl, ca, ci, kS, kB, kC, kH, kP, kF, dV, qV, ns, nn, nc, tr, fP, fB, fC, fR, fT, fN, hG, hB, hF, hK, hH, hR, hC, hP, pl, pr) (nI (sr r + i)) (nI b) := fun post hp => xw_gkey O CX ht A F g hp
  obtain ⟨res1, q1, X1, Y1⟩ := jc_all (fr := 0) O hcl CX CK CY A F g (Nat.zero_le _)
  have yq : ∀ post, wpY_candidate (fun r_55 => ((0 ≤ r_55 → (wpY_candidate (fun r_95 => ((r_95 < 0 → (wY_call_207 post (nI b) (nI (r * 40 + i)) r_55 chs cL hL fL kL cls stt lm sc ac ev r_55 hT yd chs sh nm ln bi lR lB lC lP lI gA hB hH hC hP gD gb gr gs gc gp gi yl yr nb)) ∧ (¬ r_95 < 0 → ((chs < kL → (wpY_pushChoice (fun u => wpY_tryClause post u (nI (r * 40 + i)) (nI b) r_55 chs) (cL, hL, fL, kL, cls, stt, lm, sc, ac, ev, r_55, hT, yd, chs, sh, nm, ln, bi, lR, lB, lC, lP, lI, gA, hB, hH, hC, hP, gD, gb, gr, gs, gc, gp, gi, yl, yr, nb) (nI (r * 40 + i)) (nI b) r_95)) ∧ (¬ chs < kL → (wpY_endWith post (cL, hL, fL, kL, cls, stt, lm, sc, ac, ev, r_55, hT, yd, chs, sh, nm, ln, bi, lR, lB, lC, lP, lI, gA, hB, hH, hC, hP, gD, gb, gr, gs, gc, gp, gi, yl, yr, nb) 1)))))) (cL, hL, fL, kL, cls, stt, lm, sc, ac, ev, r_55, hT, yd, chs, sh, nm, ln, bi, lR, lB, lC, lP, lI, gA, hB, hH, hC, hP, gD, gb, gr, gs, gc, gp, gi, yl, yr, nb) (nI (r * 40 + i)) (nI b) (r_55 + 1))) ∧ (¬ 0 ≤ r_55 → (wpY_fail post (cL, hL, fL, kL, cls, stt, lm, sc, ac, 3, chc, hT, yd, chs, sh, nm, ln, bi, lR, lB, lC, lP, lI, gA, hB, hH, hC, hP, gD, gb, gr, gs, gc, gp, gi, yl, yr, nb))))) (cL, hL, fL, kL, cls, stt, lm, sc, ac, ev, chc, hT, yd, chs, sh, nm, ln, bi, lR, lB, lC, lP, lI, gA, hB, hH, hC, hP, gD, gb, gr, gs, gc, gp, gi, yl, yr, nb) (nI (r * 40 + i)) (nI b) 0 → wY_call_91 post (nI b) x4 (nI (r * 40 + i)) cL hL fL kL cls stt lm sc ac ev chc hT yd chs sh nm ln bi lR lB lC lP lI gA hB hH hC hP gD gb gr gs gc gp gi yl yr nb := by
    intro post hp
    refine And.intro hin ?_
    rw [hshape]
    exact br_f g.2.2.2.1 hp
  rcases nx_neg hm q1 with e1 | ⟨c1, f1, f2, f3, f4, f5, f6⟩
  · -- no clause
    subst e1
    obtain ⟨u', v', Z, FX', FY'⟩ := jf_all (ev := 3) (stt := stt) (sc := sc) (ac := ac) (chc := chc) (qB := qB) (dB := dB) (hS := hS) (ub := ub) (nT := nT) (aK := aK) (nM := nM) (cT := cT) (cF := cF) (cTk := cTk) (hT := hT) (pl := pl) (pr := pr) (yl := yl) (yr := yr) (yd := yd) (bi := bi) (lR := lR) (lB := lB) (lC := lC) (lP := lP) (lI := lI) C0 hqv hlm rk rk32 rTT rTF ht rCP rMO
    refine ⟨u', v', Z, fun post hp => ?_, fun post hp => ?_⟩
    · unfold wpX_callGoal
      exact GK _ (X1 _ (br_f (by decide) (FX' _ hp)))
    · exact yq _ (Y1 _ (br_f (by decide) (FY' _ hp)))
  · subst f4
    obtain ⟨res2, q2, X2, Y2⟩ := jc_all (fr := c1 + 1) O hcl CX CK CY A F g (by omega)
    rcases nx_neg hm q2 with e2 | ⟨c2, g1, g2, g3, g4, g5, g6⟩
    · -- one clause alone
      subst e2
      obtain ⟨u', v', Z, TX, TY⟩ := jt_try (chc := nI c1) (stt := stt) (ev := ev) (sc := sc) (ac := ac) (qB := qB) (dB := dB) (hS := hS) (ub := ub) (nT := nT) (aK := aK) (nM := nM) (cT := cT) (pl := pl) (pr := pr) (yl := yl) (yr := yr) C0 R0 Q hqv hlm g f2 f3.1 rk32
      refine ⟨u', v', Z, fun post hp => ?_, fun post hp => ?_⟩
      · unfold wpX_callGoal
        refine GK _ (X1 _ (br_t f6 ?_))
        rw [nI_1]
        refine X2 _ (br_t (by decide) ?_)
        show wpX_tryClause _ _ _ _ _ _
        rw [rk] at TX ⊢
        exact TX _ hp
      · refine yq _ (Y1 _ (br_t f6 ?_))
        rw [nI_1]
        refine Y2 _ (br_t (by decide) ?_)
        show wpY_tryClause _ _ _ _ _ _
        rw [rk] at TY ⊢
        exact TY _ hp
    · subst g4
      by_cases hlim : k < n4
      · -- push
        have R1 := rn_push O R0 Q g g2 g3.1 (show k < 32 by omega)
        obtain ⟨u', v', Z, TX, TY⟩ := jt_try (chc := nI c1) (stt := stt) (ev := ev) (sc := sc) (ac := ac) (qB := qB) (dB := dB) (hS := hS) (ub := ub) (nT := nT) (aK := aK) (nM := nM) (cT := cT) (pl := pl) (pr := pr) (yl := yl) (yr := yr) C0 R1 Q hqv hlm g f2 f3.1 rk32
        have hg : 0 < k → hP (k - 1) = nI (cp_p (G (k - 1))) ∧ cp_p (G (k - 1)) ≤ 32 := fun h => cp_pP (rCP (k - 1) (by omega))
        have hlt : chs < kL := by rw [rk, l7]; exact nI_lt hlim (by omega)
        refine ⟨u', v', Z, fun post hp => ?_, fun post hp => ?_⟩
        · unfold wpX_callGoal
          refine GK _ (X1 _ (br_t f6 ?_))
          rw [nI_1]
          refine X2 _ (br_f g5 (br_t hlt (xw_push rk (by omega) (fun post hp => xw_protH (fr_X_p rX) hlen.2 rk rk32 hg hp) ?_)))
          show wpX_tryClause _ _ _ _ _ _
          rw [rk] at *
          exact TX _ hp
        · refine yq _ (Y1 _ (br_t f6 ?_))
          rw [nI_1]
          refine Y2 _ (br_f g5 (br_t hlt (yw_push rk (by omega) ryd (by omega) hnb (fun post hp => yw_height rV rY ryd rk rk32 hg hp) ?_)))
          rw [rk] at *
          exact TY _ hp
      · have hlt : ¬ chs < kL := by rw [rk, l7]; exact nI_nlt (by omega) (by omega)
        refine ⟨(qB, dB, hS, ub, nT, aK, nM, cT, cL, hL, fL, kL, cls, dT, dO, dC, qT, 5, 1, sc, ac, 5, nI c1, 0, 0, 0, 0, 0, cs, cn, cl, ca, ci, kS, kB, kC, kH, kP, kF, dV, qV, ns, nn, nc, tr, fP, fB, fC, fR, fT, fN, hG, hB, hF, hK, hH, hR, hC, hP, pl, pr), (cL, hL, fL, kL, cls, 5, 1, sc, ac, 5, nI c1, 0, 0, 0, sh, nm, ln, bi, lR, lB, lC, lP, lI, gA, hB, hH, hC, hP, gD, gb, gr, gs, gc, gp, gi, yl, yr, nb), zz_in C0 (Or.inr (Or.inr rfl)) (fun h => absurd rfl h), fun post hp => ?_, fun post hp => ?_⟩
        · unfold wpX_callGoal
          refine GK _ (X1 _ (br_t f6 ?_))
          rw [nI_1]
          exact X2 _ (br_f g5 (br_f hlt hp))
        · refine yq _ (Y1 _ (br_t f6 ?_))
          rw [nI_1]
          exact Y2 _ (br_f g5 (br_f hlt hp))
end
end
section
/-! one step -/
section
variable {qB dB hS : Int32} {ub nT aK nM cT : Int64} {cL hL fL kL cls dT dO dC qT stt lm sc ac ev chc cF cTk hT tT chs : Int32} {cs cn cl ca ci kS kB kC kH dV qV ns nn tr fP fB fC fR fT fN hG hB hF hK hH hR hC hP : Nat → Int32} {kP kF nc pl pr : Nat → Int64} {yd : Int32} {sh nm ln bi lR lB lC lP lI gA gD gb gr gs gc gp gi yl yr : Nat → Int32} {nb : Nat}
variable {S M : Nat → Nat → Int32} {L : Nat → Nat} {m : Nat} {sr : Nat → Nat} {Lv : Nat → Prop} {K : List fr_L} {G : Nat → cp_R} {k T h : Nat}
/-- after the taking: cut or call -/
theorem jt_item (C : rl_C S M L m sr cL hL fL kL cls dT dO dC qT cs cn cl ca ci kS kB kC kH kP kF dV sh nm ln nb) (R : rn_OK S M L m sr K G Lv T k h cF cTk yd hT tT chs ns nn tr nc fP fB fC fR fT fN hG hB hF hK hH hR hC hP bi lR lB lC lP lI gA gD gb gr gs gc gp gi) (Q : ql_OK S L Lv) (hqv : qv_OK S M L qV) (hlm : lm = 0) {r i b c p : Nat} (hr : sg_VR m r) (hi : i < L r) (ho : tx_op (S r) i = 0) (hb : b ≤ 256) (hc : c ≤ 32) (hp32 : p ≤ 32) (hlv : ∀ j, i < j → j < L r → 0 < tx_op (S r) j → Lv (hr_cd r j b)) (hfC : fC p = nI c) (hfB : fB p = nI b) : jo_R (fun post => wX_takeItem_53 post (nI p) (nI (sr r + i)) qB dB hS ub nT aK nM cT cL hL fL kL cls dT dO dC qT stt lm sc ac ev chc cF cTk hT tT chs cs cn cl ca ci kS kB kC kH kP kF dV qV ns nn nc tr fP fB fC fR fT fN hG hB hF hK hH hR hC hP pl pr) (fun post => wY_call_91 post (nI b) (nI c) (nI (r * 40 + i)) cL hL fL kL cls stt lm sc ac ev chc hT yd chs sh nm ln bi lR lB lC lP lI gA hB hH hC hP gD gb gr gs gc gp gi yl yr nb) := by
  have C0 := C
  obtain ⟨_, hnb, hcl, O, CX, CY, CK, hqT, hD⟩ := C
  have hm := O.1
  have hrow := sg_row hm hr
  obtain ⟨w, h40, hop, _⟩ := O.2 r hr
  have hsr := (CX r hr).1
  have rk := R.1.2.2.1
  have rk32 := R.1.2.2.2.1
  have ex : cs (nI (sr r + i)).toNatClampNeg = S r i := by rw [nI_clamp (by omega)]; exact ((CX r hr).2 i hi).1
  have ey : sh (nI (r * 40 + i)).toNatClampNeg = S r i := by rw [nI_clamp (by omega)]; exact ((CY r hr).2 i hi).1
  have hinX : vp_in (nI (sr r + i)) 240 := vp_in_nI (by omega) (by decide)
  have hinY : vp_in (nI (r * 40 + i)) 1360 := vp_in_nI (by omega) (by decide)
  have hinP : vp_in (nI p) 33 := vp_in_nI (by omega) (by decide)
  have ep : (nI p).toNatClampNeg = p := nI_clamp (by omega)
  by_cases hcut : S r i = -2
  · by_cases hle : k ≤ c
    · obtain ⟨u', v', Z, PX, PY⟩ := jp_go (ev := 4) (qB := qB) (dB := dB) (hS := hS) (ub := ub) (nT := nT) (aK := aK) (nM := nM) (cT := cT) (stt := stt) (sc := sc) (ac := ac) (chc := chc) (pl := pl) (pr := pr) (yl := yl) (yr := yr) C0 R Q hqv hlm
      refine ⟨u', v', Z, fun post hp => ?_, fun post hp => ?_⟩
      · refine And.intro hinX ?_
        rw [ex, ep, hfC]
        exact br_t hcut ⟨hinP, br_t (by rw [rk]; exact nI_le hle (by omega)) (PX _ hp)⟩
      · refine And.intro hinY ?_
        rw [ey]
        exact br_t hcut (br_t (by rw [rk]; exact nI_le hle (by omega)) (PY _ hp))
    · obtain ⟨u', v', Z, PX, PY⟩ := jp_go (ev := 4) (qB := qB) (dB := dB) (hS := hS) (ub := ub) (nT := nT) (aK := aK) (nM := nM) (cT := cT) (stt := stt) (sc := sc) (ac := ac) (chc := chc) (pl := pl) (pr := pr) (yl := yl) (yr := yr) C0 (rn_cut R (show c ≤ k by omega)) Q hqv hlm
      refine ⟨u', v', Z, fun post hp => ?_, fun post hp => ?_⟩
      · refine And.intro hinX ?_
        rw [ex, ep, hfC]
        exact br_t hcut ⟨hinP, br_f (by rw [rk]; exact nI_ge (by omega) (by omega)) ⟨hinP, nm_e (PX _ hp)⟩⟩
      · refine And.intro hinY ?_
        rw [ey]
        exact br_t hcut (br_f (by rw [rk]; exact nI_ge (by omega) (by omega)) (PY _ hp))
  · have g : gl_OK S L m Lv r i b := by
      refine ⟨hr, hi, ho, hcut, hb, fun j h1 h2 => hlv j h1 ?_ (tx_in_pos h40 hop hi h1 h2)⟩
      have := (tx_en_1 h40 hop hi).2.1
      omega
    obtain ⟨u', v', Z, PX, PY⟩ := jt_call (x4 := nI c) (ev := ev) (qB := qB) (dB := dB) (hS := hS) (ub := ub) (nT := nT) (aK := aK) (nM := nM) (cT := cT) (stt := stt) (sc := sc) (ac := ac) (chc := chc) (pl := pl) (pr := pr) (yl := yl) (yr := yr) C0 R Q hqv hlm g
    refine ⟨u', v', Z, fun post hp => ?_, fun post hp => PY _ hp⟩
    refine And.intro hinX ?_
    rw [ex, ep, hfB]
    exact br_f hcut ⟨hinP, PX _ hp⟩
theorem jt_take (C : rl_C S M L m sr cL hL fL kL cls dT dO dC qT cs cn cl ca ci kS kB kC kH kP kF dV sh nm ln nb) (R : rn_OK S M L m sr K G Lv T k h cF cTk yd hT tT chs ns nn tr nc fP fB fC fR fT fN hG hB hF hK hH hR hC hP bi lR lB lC lP lI gA gD gb gr gs gc gp gi) (Q : ql_OK S L Lv) (hqv : qv_OK S M L qV) (hlm : lm = 0) (hKn : K ≠ []) : jo_R (fun post => wpX_takeItem post (qB, dB, hS, ub, nT, aK, nM, cT, cL, hL, fL, kL, cls, dT, dO, dC, qT, stt, lm, sc, ac, ev, chc, cF, cTk, hT, tT, chs, cs, cn, cl, ca, ci, kS, kB, kC, kH, kP, kF, dV, qV, ns, nn, nc, tr, fP, fB, fC, fR, fT, fN, hG, hB, hF, hK, hH, hR, hC, hP, pl, pr)) (fun post => wpY_call post (cL, hL, fL, kL, cls, stt, lm, sc, ac, ev, chc, hT, yd, chs, sh, nm, ln, bi, lR, lB, lC, lP, lI, gA, hB, hH, hC, hP, gD, gb, gr, gs, gc, gp, gi, yl, yr, nb)) := by
  have C0 := C
  obtain ⟨_, hnb, hcl, O, CX, CY, CK, hqT, hD⟩ := C
  have hm := O.1
  obtain ⟨⟨rT, rTT, rk, rk32, ryd⟩, rX, rY, rV, rHR, rTF, rCP, rMO, rH⟩ := R
  rcases K with _ | ⟨⟨r, b, c, p, i⟩, K⟩
  · exact absurd rfl hKn
  have hlen := fr_len rV
  obtain ⟨x1, x2, x3, x4, x5, x6, x7⟩ := rX
  obtain ⟨y1, y2, y3, y4, y5, y6⟩ := rY
  obtain ⟨v1, v2, v3, v4, v5, v6, v7, v8, v9⟩ := rV
  obtain ⟨w, h40, hop, _⟩ := O.2 r v1
  have hrow := sg_row hm v1
  obtain ⟨hsr, cc⟩ := CX r v1
  obtain ⟨_, _, _, cca, cci⟩ := cc i v2
  obtain ⟨en1, en2, en3, en4⟩ := tx_en_1 h40 hop v2
  have hoe := en4 v3
  have hK32 : K.length < 32 := by
    have : ((r, b, c, p, i) :: K).length = K.length + 1 := rfl
    have : fr_p ((r, b, c, p, i) :: K) = p := rfl
    omega
  have eT : (nI (sr r + i)).toNatClampNeg = sr r + i := nI_clamp (by omega)
  have eP : (nI p).toNatClampNeg = p := nI_clamp (by omega)
  have hinX : vp_in (nI (sr r + i)) 240 := vp_in_nI (by omega) (by decide)
  have hinP : vp_in (nI p) 33 := vp_in_nI (by omega) (by decide)
  have hinD : vp_in (nI K.length) 32 := vp_in_nI hK32 (by decide)
  have eD : (nI K.length).toNatClampNeg = K.length := nI_clamp (by omega)
  have eaddr : nI r * 40 + nI i = nI (r * 40 + i) := by
    have : nI r * 40 = nI (r * 40) := pk_mul r 40
    rw [this, nI_add]
  have ebk : nI (r * 40 + tx_en (S r) i) - nI r * 40 = nI (tx_en (S r) i) := by
    have : nI r * 40 = nI (r * 40) := pk_mul r 40
    rw [this, pk_sub (by omega)]
    exact congrArg nI (by omega)
  have hicS := tx_ic_s h40 hop v2
  subst x1 x2 ryd
  have PRE : ∀ post, ((ln r ≤ nI (tx_en (S r) i) → wY_call_91 post (nI b) (nI c) (nI (r * 40 + i)) cL hL fL kL cls stt lm sc ac ev chc hT (nI K.length) chs sh nm ln bi lR lB lC lP lI gA hB hH hC hP gD gb gr gs gc gp gi yl yr nb) ∧ (¬ ln r ≤ nI (tx_en (S r) i) → wY_call_91 post (nI b) (nI c) (nI (r * 40 + i)) cL hL fL kL cls stt lm sc ac ev chc hT (nI (K.length + 1)) chs sh nm ln bi lR lB lC lP (upd lI K.length (nI (tx_en (S r) i))) gA hB hH hC hP gD gb gr gs gc gp gi yl yr nb)) → wpY_call post (cL, hL, fL, kL, cls, stt, lm, sc, ac, ev, chc, hT, nI (K.length + 1), chs, sh, nm, ln, bi, lR, lB, lC, lP, lI, gA, hB, hH, hC, hP, gD, gb, gr, gs, gc, gp, gi, yl, yr, nb) := by
    intro post hp
    refine nm_r (nI_pred K.length) (br_t (nI_pos' (by omega)) ⟨hinD, nm_r (e' := nI r) (by rw [eD]; exact y1) ⟨hinD, nm_r (e' := nI b) (by rw [eD]; exact y2) ⟨hinD, nm_r (e' := nI c) (by rw [eD]; exact y3) ⟨hinD, nm_r (e' := nI (r * 40 + i)) (by rw [eD, y5]; exact eaddr) ?_⟩⟩⟩⟩)
    refine yw_endOf O CY v1 v2 (nm_r ebk ⟨vp_in_nI hrow.1 (by decide), ?_⟩)
    rw [nI_clamp (by omega)]
    exact ⟨fun h => hp.1 h, fun h => ⟨hinD, nm_r (e' := upd lI K.length (nI (tx_en (S r) i))) (by rw [eD]) (hp.2 h)⟩⟩
  have hln : ln r = nI (L r) := (CY r v1).1
  by_cases hlast : tx_en (S r) i < L r
  · -- more items
    have R1 : rn_OK S M L m sr ((r, b, c, p, tx_en (S r) i) :: K) G Lv T k h (nI p) (nI (sr r + tx_en (S r) i)) (nI (K.length + 1)) hT tT chs ns nn tr nc fP fB fC fR fT fN hG hB hF hK hH hR hC hP bi lR lB lC lP (upd lI K.length (nI (tx_en (S r) i))) gA gD gb gr gs gc gp gi :=
      ⟨⟨rT, rTT, rk, rk32, rfl⟩, ⟨rfl, rfl, x3, x4, x5, x6, x7⟩, ⟨y1, y2, y3, y4, pk_us, fr_Y_cg (fun j hj => ⟨rfl, rfl, rfl, rfl, pk_un (by omega)⟩) y6⟩, ⟨v1, hlast, hoe, v4, v5, v6, v7, fun j a b' c' => v8 j (by omega) b' c', v9⟩, rHR, rTF, rCP, rMO, rH⟩
    obtain ⟨u', v', Z, PX, PY⟩ := jt_item (ev := ev) (qB := qB) (dB := dB) (hS := hS) (ub := ub) (nT := nT) (aK := aK) (nM := nM) (cT := cT) (stt := stt) (sc := sc) (ac := ac) (chc := chc) (pl := pl) (pr := pr) (yl := yl) (yr := yr) C0 R1 Q hqv hlm v1 v2 v3 v4 v5 v6 v8 x5 x4
    refine ⟨u', v', Z, fun post hp => ?_, fun post hp => ?_⟩
    · refine And.intro hinX ?_
      rw [eT, cci, cca]
      refine br_f ?_ ⟨hinX, nm_e (PX _ hp)⟩
      have := tx_ic_s h40 hop hlast
      have hle := tx_ic_le h40 hop (m := 40) (i := i) (by omega)
      exact nI_ge (b := tx_ic (S r) (L r) i) (a := 1) (by omega) (by omega)
    · refine PRE _ (br_f ?_ (PY _ hp))
      rw [hln]; exact nI_ge hlast (by omega)
  · have R1 : rn_OK S M L m sr K G Lv T k h (fR p) (fT p) (nI K.length) hT tT chs ns nn tr nc fP fB fC fR fT fN hG hB hF hK hH hR hC hP bi lR lB lC lP lI gA gD gb gr gs gc gp gi :=
      ⟨⟨rT, rTT, rk, rk32, rfl⟩, x7, y6, v9, rHR, rTF, rCP, rMO, rH⟩
    obtain ⟨u', v', Z, PX, PY⟩ := jt_item (ev := ev) (qB := qB) (dB := dB) (hS := hS) (ub := ub) (nT := nT) (aK := aK) (nM := nM) (cT := cT) (stt := stt) (sc := sc) (ac := ac) (chc := chc) (pl := pl) (pr := pr) (yl := yl) (yr := yr) C0 R1 Q hqv hlm v1 v2 v3 v4 v5 v6 v8 x5 x4
    refine ⟨u', v', Z, fun post hp => ?_, fun post hp => ?_⟩
    · refine And.intro hinX ?_
      rw [eT, cci]
      refine br_t ?_ ⟨hinP, nm_r (e' := fR p) (by rw [eP]) ⟨hinP, nm_r (e' := fT p) (by rw [eP]) (PX _ hp)⟩⟩
      rw [hicS, tx_ic_0 (by omega)]
      decide
    · refine PRE _ (br_t ?_ (PY _ hp))
      rw [hln]; exact nI_le (by omega) (by omega)
theorem jt_retry (C : rl_C S M L m sr cL hL fL kL cls dT dO dC qT cs cn cl ca ci kS kB kC kH kP kF dV sh nm ln nb) (R : rn_OK S M L m sr K G Lv T k h cF cTk yd hT tT chs ns nn tr nc fP fB fC fR fT fN hG hB hF hK hH hR hC hP bi lR lB lC lP lI gA gD gb gr gs gc gp gi) (Q : ql_OK S L Lv) (hqv : qv_OK S M L qV) (hlm : lm = 0) {c : Nat} (hkc : k = c + 1) (hsub : ∀ t, cp_V (G c) t → Lv t) : jo_R (fun post => wpX_retryNewest post (qB, dB, hS, ub, nT, aK, nM, cT, cL, hL, fL, kL, cls, dT, dO, dC, qT, stt, lm, sc, ac, ev, chc, cF, cTk, hT, tT, chs, cs, cn, cl, ca, ci, kS, kB, kC, kH, kP, kF, dV, qV, ns, nn, nc, tr, fP, fB, fC, fR, fT, fN, hG, hB, hF, hK, hH, hR, hC, hP, pl, pr)) (fun post => wpY_retry post (cL, hL, fL, kL, cls, stt, lm, sc, ac, ev, chc, hT, yd, chs, sh, nm, ln, bi, lR, lB, lC, lP, lI, gA, hB, hH, hC, hP, gD, gb, gr, gs, gc, gp, gi, yl, yr, nb)) := by
  have C0 := C
  have R0 := R
  obtain ⟨_, hnb, hcl, O, CX, CY, CK, hqT, hD⟩ := C
  have hm := O.1
  obtain ⟨⟨rT, rTT, rk, rk32, ryd⟩, rX, rY, rV, rHR, rTF, rCP, rMO, rH⟩ := R
  obtain ⟨ht, A, I, FY, FX, F⟩ := rHR
  subst hkc
  have CPc := rCP c (by omega)
  generalize hg : G c = gg at CPc hsub
  obtain ⟨r, i, b, h0, t0, q, p, K0, Lc⟩ := gg
  have CPc0 := CPc
  obtain ⟨⟨a1, a2, a3, a4, a5, a6, a7, a8⟩, b1, b2, b3, b4, b5, b6, b7, b8, b9, b10, b11, b12⟩ := CPc
  have g : gl_OK S L m Lv r i b := gl_m hsub b4
  have hin : vp_in (nI c) 32 := vp_in_nI (by omega) (by decide)
  have ec : (nI c).toNatClampNeg = c := nI_clamp (by omega)
  have GK : ∀ {qB dB hS cL hL fL kL cls dT dO dC qT stt lm sc ac ev chc cF cTk hT tT chs : Int32} {ub nT aK nM cT : Int64} {kS kB kC kH dV qV tr fP fB fC fR fT fN hG hB hF hK hH hR hC hP : Nat → Int32} {kP kF pl pr : Nat → Int64} (post : Int64 → Prop), post (cd_key S M r i (FY (hr_cd r (i + 1) b))) → wpX_goalFirstKey post (qB, dB, hS, ub, nT, aK, nM, cT, cL, hL, fL, kL, cls, dT, dO, dC, qT, stt, lm, sc, ac, ev, chc, cF, cTk, hT, tT, chs, cs, cn, cl, ca, ci, kS, kB, kC, kH, kP, kF, dV, qV, ns, nn, nc, tr, fP, fB, fC, fR, fT, fN, hG, hB, hF, hK, hH, hR, hC, hP, pl, pr) (nI (sr r + i)) (nI b) := fun post hp => xw_gkey O CX ht A F g hp
  obtain ⟨res, q1, X1, Y1⟩ := jc_all (fr := q + 1) O hcl CX CK CY A F g (by omega)
  have ekX : chs - 1 = nI c := by rw [rk]; exact nI_pred c
  rcases nx_neg hm q1 with e1 | ⟨c1, f1, f2, f3, f4, f5, f6⟩
  · subst e1
    obtain ⟨u', v', Z, TX, TY⟩ := jt_try (chc := nI q) (stt := 1) (ev := ev) (sc := sc) (ac := ac) (qB := qB) (dB := dB) (hS := hS) (ub := ub) (nT := nT) (aK := aK) (nM := nM) (cT := cT) (pl := pl) (pr := pr) (yl := yl) (yr := yr) C0 (rn_cut R0 (show c ≤ c + 1 by omega)) Q hqv hlm g b6 b7 (show c ≤ 32 by omega)
    refine ⟨u', v', Z, fun post hp => ?_, fun post hp => ?_⟩
    · refine nm_r ekX ⟨hin, nm_r (e' := nI (sr r + i)) (by rw [ec]; exact a1) ⟨hin, nm_r (e' := nI b) (by rw [ec]; exact a3) ⟨hin, nm_r (e' := nI q) (by rw [ec]; exact a6) (GK _ ?_)⟩⟩⟩
      rw [nI_1]
      exact X1 _ (br_t (by decide) (TX _ hp))
    · refine nm_r ekX (br_t (nI_pos' (by omega)) ⟨hin, nm_r (e' := nI (r * 40 + i)) (by rw [ec]; exact a2) ⟨hin, nm_r (e' := nI b) (by rw [ec]; exact a3) ⟨hin, nm_r (e' := nI q) (by rw [ec]; exact a6) ?_⟩⟩⟩)
      rw [nI_1]
      exact Y1 _ (br_t (by decide) (TY _ hp))
  · subst f4
    have R1 : rn_OK S M L m sr K (cp_add G c (r, i, b, h0, t0, c1, p, K0, Lc)) Lv T (c + 1) h cF cTk yd hT tT chs ns nn tr nc fP fB fC fR fT fN hG hB hF hK hH hR (upd hC c (nI c1)) hP bi lR lB lC lP lI gA gD gb gr gs gc gp gi := by
      have eh : cp_h (cp_add G c (r, i, b, h0, t0, c1, p, K0, Lc) c) = cp_h (G c) := by rw [cp_add_s, hg]; rfl
      have et : cp_t (cp_add G c (r, i, b, h0, t0, c1, p, K0, Lc) c) = cp_t (G c) := by rw [cp_add_s, hg]; rfl
      have ep : cp_p (cp_add G c (r, i, b, h0, t0, c1, p, K0, Lc) c) = cp_p (G c) := by rw [cp_add_s, hg]; rfl
      refine ⟨⟨rT, rTT, rk, rk32, ryd⟩, rX, rY, rV, ⟨ht, A, I, FY, FX, F⟩, rTF, fun d hd => ?_, fun d e hde he => ?_, fun d hd => ?_⟩
      · by_cases z : d = c
        · subst z
          rw [cp_add_s]
          exact ⟨⟨a1, a2, a3, a4, a5, pk_us, a7, a8⟩, b1, b2, b3, b4, b5, f2, f3.1, b8, b9, b10, b11, b12⟩
        · rw [cp_add_n z]
          exact cp_cg O (rCP d hd) (fun _ _ => ⟨rfl, rfl⟩) (fun _ _ => rfl) (cp_tT (rCP d hd)) (fun _ _ => rfl) (fun _ _ => ⟨rfl, rfl, rfl, rfl, rfl, rfl⟩) ⟨rfl, rfl, rfl, rfl, rfl, rfl, rfl, pk_un z, rfl, rfl⟩ (fun _ _ => ⟨rfl, rfl, rfl, rfl, rfl⟩) (fun _ _ => rfl)
      · rw [cp_add_n (show d ≠ c by omega)]
        by_cases z : e = c
        · subst z
          rw [eh, et, ep]
          exact rMO d e hde he
        · rw [cp_add_n z]; exact rMO d e hde he
      · by_cases z : d = c
        · subst z
          rw [eh]; exact rH d hd
        · rw [cp_add_n z]; exact rH d hd
    obtain ⟨u', v', Z, TX, TY⟩ := jt_try (chc := nI q) (stt := 1) (ev := ev) (sc := sc) (ac := ac) (qB := qB) (dB := dB) (hS := hS) (ub := ub) (nT := nT) (aK := aK) (nM := nM) (cT := cT) (pl := pl) (pr := pr) (yl := yl) (yr := yr) C0 R1 Q hqv hlm g b6 b7 (show c ≤ 32 by omega)
    refine ⟨u', v', Z, fun post hp => ?_, fun post hp => ?_⟩
    · refine nm_r ekX ⟨hin, nm_r (e' := nI (sr r + i)) (by rw [ec]; exact a1) ⟨hin, nm_r (e' := nI b) (by rw [ec]; exact a3) ⟨hin, nm_r (e' := nI q) (by rw [ec]; exact a6) (GK _ ?_)⟩⟩⟩
      rw [nI_1]
      exact X1 _ (br_f f5 ⟨hin, nm_r (e' := upd hC c (nI c1)) (by rw [ec]) (TX _ hp)⟩)
    · refine nm_r ekX (br_t (nI_pos' (by omega)) ⟨hin, nm_r (e' := nI (r * 40 + i)) (by rw [ec]; exact a2) ⟨hin, nm_r (e' := nI b) (by rw [ec]; exact a3) ⟨hin, nm_r (e' := nI q) (by rw [ec]; exact a6) ?_⟩⟩⟩)
      rw [nI_1]
      exact Y1 _ (br_f f5 ⟨hin, nm_r (e' := upd hC c (nI c1)) (by rw [ec]) (TY _ hp)⟩)
/-- a step from CALLING or BACKTRACKING -/
theorem jt_step (C : rl_C S M L m sr cL hL fL kL cls dT dO dC qT cs cn cl ca ci kS kB kC kH kP kF dV sh nm ln nb) (R : rl_R S M L m sr stt lm cF cTk yd hT tT chs qV ns nn tr nc fP fB fC fR fT fN hG hB hF hK hH hR hC hP bi lR lB lC lP lI gA gD gb gr gs gc gp gi) (hs : stt = 1 ∨ stt = 2) : jo_R (fun post => wpX_step post (qB, dB, hS, ub, nT, aK, nM, cT, cL, hL, fL, kL, cls, dT, dO, dC, qT, stt, lm, sc, ac, ev, chc, cF, cTk, hT, tT, chs, cs, cn, cl, ca, ci, kS, kB, kC, kH, kP, kF, dV, qV, ns, nn, nc, tr, fP, fB, fC, fR, fT, fN, hG, hB, hF, hK, hH, hR, hC, hP, pl, pr)) (fun post => wpY_step post (cL, hL, fL, kL, cls, stt, lm, sc, ac, ev, chc, hT, yd, chs, sh, nm, ln, bi, lR, lB, lC, lP, lI, gA, hB, hH, hC, hP, gD, gb, gr, gs, gc, gp, gi, yl, yr, nb)) := by
  obtain ⟨K, G, Lv, T, k, h, R, hl, hst⟩ := R
  have hlm : lm = 0 := hl (by rcases hs with e | e <;> rw [e] <;> decide)
  rcases hst with ⟨e, _⟩ | ⟨Q, hqv, hst⟩
  · exfalso
    rcases hs with e1 | e1 <;> rw [e1] at e <;> rcases e with e | e | e <;> exact absurd e (by decide)
  · rcases hst with ⟨e, hKn⟩ | ⟨e, c, hk, _, _, _, hsub⟩ | ⟨e, _⟩
    · obtain ⟨u', v', Z, PX, PY⟩ := jt_take (ev := ev) (stt := stt) (sc := sc + 1) (ac := ac) (chc := -1) (qB := qB) (dB := dB) (hS := hS) (ub := ub) (nT := nT) (aK := aK) (nM := nM) (cT := cT) (pl := pl) (pr := pr) (yl := yl) (yr := yr) C R Q hqv hlm hKn
      refine ⟨u', v', Z, fun post hp => nm_e (br_f (by rw [e]; decide) (PX _ hp)), fun post hp => nm_e (br_t e (PY _ hp))⟩
    · obtain ⟨u', v', Z, PX, PY⟩ := jt_retry (ev := ev) (stt := stt) (sc := sc + 1) (ac := ac) (chc := -1) (qB := qB) (dB := dB) (hS := hS) (ub := ub) (nT := nT) (aK := aK) (nM := nM) (cT := cT) (pl := pl) (pr := pr) (yl := yl) (yr := yr) C R Q hqv hlm hk hsub
      refine ⟨u', v', Z, fun post hp => nm_e (br_t e (PX _ hp)), fun post hp => nm_e (br_f (by rw [e]; decide) (PY _ hp))⟩
    · exfalso
      rcases hs with e1 | e1 <;> rw [e1] at e <;> exact absurd e (by decide)
end
end
section
/-! runs, more, stop, the plain getters -/
def rn_X (post : Int32 → SX → Prop) (x2 : Int32) (n : Nat) (x3 : Int32) (u : SX) : Prop := match u with | (qB, dB, hS, ub, nT, aK, nM, cT, cL, hL, fL, kL, cls, dT, dO, dC, qT, stt, lm, sc, ac, ev, chc, cF, cTk, hT, tT, chs, cs, cn, cl, ca, ci, kS, kB, kC, kH, kP, kF, dV, qV, ns, nn, nc, tr, fP, fB, fC, fR, fT, fN, hG, hB, hF, hK, hH, hR, hC, hP, pl, pr) => wX_run_11 post x2 n x3 qB dB hS ub nT aK nM cT cL hL fL kL cls dT dO dC qT stt lm sc ac ev chc cF cTk hT tT chs cs cn cl ca ci kS kB kC kH kP kF dV qV ns nn nc tr fP fB fC fR fT fN hG hB hF hK hH hR hC hP pl pr
def rn_Y (post : Int32 → SY → Prop) (x2 : Int32) (n : Nat) (x3 : Int32) (u : SY) : Prop := match u with | (cL, hL, fL, kL, cls, stt, lm, sc, ac, ev, chc, hT, yd, chs, sh, nm, ln, bi, lR, lB, lC, lP, lI, gA, hB, hH, hC, hP, gD, gb, gr, gs, gc, gp, gi, yl, yr, nb) => wY_run_11 post x2 n x3 cL hL fL kL cls stt lm sc ac ev chc hT yd chs sh nm ln bi lR lB lC lP lI gA hB hH hC hP gD gb gr gs gc gp gi yl yr nb
section
variable {qB dB hS : Int32} {ub nT aK nM cT : Int64} {cL hL fL kL cls dT dO dC qT stt lm sc ac ev chc cF cTk hT tT chs : Int32} {cs cn cl ca ci kS kB kC kH dV qV ns nn tr fP fB fC fR fT fN hG hB hF hK hH hR hC hP : Nat → Int32} {kP kF nc pl pr : Nat → Int64} {yd : Int32} {sh nm ln bi lR lB lC lP lI gA gD gb gr gs gc gp gi yl yr : Nat → Int32} {nb : Nat}
theorem cl_v {lo hi : Nat} (hlh : lo ≤ hi) (hb : hi < 2 ^ 31) (x : Int32) : ∃ c, lo ≤ c ∧ c ≤ hi ∧ (∀ {qB dB hS cL hL fL kL cls dT dO dC qT stt lm sc ac ev chc cF cTk hT tT chs : Int32} {ub nT aK nM cT : Int64} {cs cn cl ca ci kS kB kC kH dV qV ns nn tr fP fB fC fR fT fN hG hB hF hK hH hR hC hP : Nat → Int32} {kP kF nc pl pr : Nat → Int64} (post : Int32 → Prop), post (nI c) → wpX_clamp post (qB, dB, hS, ub, nT, aK, nM, cT, cL, hL, fL, kL, cls, dT, dO, dC, qT, stt, lm, sc, ac, ev, chc, cF, cTk, hT, tT, chs, cs, cn, cl, ca, ci, kS, kB, kC, kH, kP, kF, dV, qV, ns, nn, nc, tr, fP, fB, fC, fR, fT, fN, hG, hB, hF, hK, hH, hR, hC, hP, pl, pr) x (nI lo) (nI hi)) ∧ (∀ {cL hL fL kL cls stt lm sc ac ev chc hT yd chs : Int32} {sh nm ln bi lR lB lC lP lI gA hB hH hC hP gD gb gr gs gc gp gi yl yr : Nat → Int32} {nb : Nat} (post : Int32 → Prop), post (nI c) → wpY_clamp post (cL, hL, fL, kL, cls, stt, lm, sc, ac, ev, chc, hT, yd, chs, sh, nm, ln, bi, lR, lB, lC, lP, lI, gA, hB, hH, hC, hP, gD, gb, gr, gs, gc, gp, gi, yl, yr, nb) x (nI lo) (nI hi)) := by
  by_cases h1 : nI lo ≤ x
  · by_cases h2 : x ≤ nI hi
    · have hx : ¬ x < 0 := by
        intro h
        rw [Int32.lt_iff_toInt_lt] at h
        rw [Int32.le_iff_toInt_le, nI_toInt (by omega)] at h1
        have : (0 : Int32).toInt = 0 := by decide
        rw [this] at h; omega
      obtain ⟨c, hc, rfl⟩ := nI_of hx
      rw [nI_leI (by omega) hc] at h1
      rw [nI_leI hc hb] at h2
      exact ⟨c, h1, h2, fun post hp => br_t (nI_le h1 hc) (br_t (nI_le h2 hb) hp), fun post hp => br_t (nI_le h1 hc) (br_t (nI_le h2 hb) hp)⟩
    · exact ⟨hi, hlh, Nat.le_refl _, fun post hp => br_t h1 (br_f h2 hp), fun post hp => br_t h1 (br_f h2 hp)⟩
  · exact ⟨lo, Nat.le_refl _, hlh, fun post hp => br_f h1 hp, fun post hp => br_f h1 hp⟩
theorem yw_idle {N : Nat} (hN : N ≤ 100) (h1 : ¬ stt = 1) (h2 : ¬ stt = 2) {post : Int32 → SY → Prop} (hp : post stt (cL, hL, fL, kL, cls, stt, lm, sc, ac, ev, chc, hT, yd, chs, sh, nm, ln, bi, lR, lB, lC, lP, lI, gA, hB, hH, hC, hP, gD, gb, gr, gs, gc, gp, gi, yl, yr, nb)) : ∀ (q d n : Nat), d + q = N → q < n → wY_run_11 post (nI N) n (nI d) cL hL fL kL cls stt lm sc ac ev chc hT yd chs sh nm ln bi lR lB lC lP lI gA hB hH hC hP gD gb gr gs gc gp gi yl yr nb
  | _, _, 0, _, h => by omega
  | 0, d, n + 1, hd, _ => br_t (nI_le (by omega) (by omega)) hp
  | q + 1, d, n + 1, hd, hn => by
    refine br_f (nI_ge (by omega) (by omega)) (br_f h1 (br_f h2 (nm_r (nI_1 d) ?_)))
    exact yw_idle hN h1 h2 hp q (d + 1) n (by omega) (by omega)
end
theorem jr_all {N : Nat} (hN : N ≤ 100) : ∀ (q d : Nat) (u : SX) (v : SY), d + q = N → zz_R u v → ∃ (r : Int32) (u' : SX) (v' : SY), zz_R u' v' ∧ (∀ post n, q < n → post r u' → rn_X post (nI N) n (nI d) u) ∧ (∀ post n, q < n → post r v' → rn_Y post (nI N) n (nI d) v)
  | 0, d, u, v, hd, Z => by
    refine zz_el (P := fun u v => ∃ (r : Int32) (u' : SX) (v' : SY), zz_R u' v' ∧ (∀ post n, 0 < n → post r u' → rn_X post (nI N) n (nI d) u) ∧ (∀ post n, 0 < n → post r v' → rn_Y post (nI N) n (nI d) v)) ?_ Z
    intro qB dB hS ub nT aK nM cT cL hL fL kL cls dT dO dC qT stt lm sc ac ev chc cF cTk hT tT chs cs cn cl ca ci kS kB kC kH kP kF dV qV ns nn nc tr fP fB fC fR fT fN hG hB hF hK hH hR hC hP pl pr yd sh nm ln bi lR lB lC lP lI gA gD gb gr gs gc gp gi yl yr nb hA
    refine ⟨stt, _, _, zz_mk hA, fun post n hn hp => ?_, fun post n hn hp => ?_⟩
    · obtain ⟨n, rfl⟩ : ∃ n', n = n' + 1 := ⟨n - 1, by omega⟩
      exact br_t (nI_le (by omega) (by omega)) hp
    · obtain ⟨n, rfl⟩ : ∃ n', n = n' + 1 := ⟨n - 1, by omega⟩
      exact br_t (nI_le (by omega) (by omega)) hp
  | q + 1, d, u, v, hd, Z => by
    refine zz_el (P := fun u v => ∃ (r : Int32) (u' : SX) (v' : SY), zz_R u' v' ∧ (∀ post n, q + 1 < n → post r u' → rn_X post (nI N) n (nI d) u) ∧ (∀ post n, q + 1 < n → post r v' → rn_Y post (nI N) n (nI d) v)) ?_ Z
    intro qB dB hS ub nT aK nM cT cL hL fL kL cls dT dO dC qT stt lm sc ac ev chc cF cTk hT tT chs cs cn cl ca ci kS kB kC kH kP kF dV qV ns nn nc tr fP fB fC fR fT fN hG hB hF hK hH hR hC hP pl pr yd sh nm ln bi lR lB lC lP lI gA gD gb gr gs gc gp gi yl yr nb hA
    by_cases hs : stt = 1 ∨ stt = 2
    · have hA0 := hA
      obtain ⟨S, M, L, m, sr, C, R⟩ := hA
      obtain ⟨u1, v1, Z1, PX, PY⟩ := jt_step (ev := ev) (sc := sc) (ac := ac) (chc := chc) (qB := qB) (dB := dB) (hS := hS) (ub := ub) (nT := nT) (aK := aK) (nM := nM) (cT := cT) (pl := pl) (pr := pr) (yl := yl) (yr := yr) C R hs
      obtain ⟨r, u', v', Z', IX, IY⟩ := jr_all hN q (d + 1) u1 v1 (by omega) Z1
      refine ⟨r, u', v', Z', fun post n hn hp => ?_, fun post n hn hp => ?_⟩
      · obtain ⟨n, rfl⟩ : ∃ n', n = n' + 1 := ⟨n - 1, by omega⟩
        have IX' := IX post n (by omega) hp
        have key : wX_run_32 post (wX_run_11 post (nI N) n) (nI N) (nI d) qB dB hS ub nT aK nM cT cL hL fL kL cls dT dO dC qT stt lm sc ac ev chc cF cTk hT tT chs cs cn cl ca ci kS kB kC kH kP kF dV qV ns nn nc tr fP fB fC fR fT fN hG hB hF hK hH hR hC hP pl pr := PX _ (nm_r (nI_1 d) IX')
        refine br_f (nI_ge (by omega) (by omega)) ?_
        rcases hs with e | e
        · exact br_t e key
        · exact br_f (by rw [e]; decide) (br_t e key)
      · obtain ⟨n, rfl⟩ : ∃ n', n = n' + 1 := ⟨n - 1, by omega⟩
        have IY' := IY post n (by omega) hp
        have key : wY_run_32 post (wY_run_11 post (nI N) n) (nI N) (nI d) cL hL fL kL cls stt lm sc ac ev chc hT yd chs sh nm ln bi lR lB lC lP lI gA hB hH hC hP gD gb gr gs gc gp gi yl yr nb := PY _ (nm_r (nI_1 d) IY')
        refine br_f (nI_ge (by omega) (by omega)) ?_
        rcases hs with e | e
        · exact br_t e key
        · exact br_f (by rw [e]; decide) (br_t e key)
    · have h1 : ¬ stt = 1 := fun e => hs (Or.inl e)
      have h2 : ¬ stt = 2 := fun e => hs (Or.inr e)
      refine ⟨stt, _, _, zz_mk hA, fun post n hn hp => ?_, fun post n hn hp => ?_⟩
      · obtain ⟨n, rfl⟩ : ∃ n', n = n' + 1 := ⟨n - 1, by omega⟩
        exact br_f (nI_ge (by omega) (by omega)) (br_f h1 (br_f h2 hp))
      · exact yw_idle hN h1 h2 hp (q + 1) d n (by omega) (by omega)
theorem vz_run {u : SX} {v : SY} (I : zz_R u v) (v1 : Int32) : wpX_run (fun r u' => wpY_run (fun r' v' => r' = r ∧ zz_R u' v') v v1) u v1 := by
  obtain ⟨c, _, hc, CX, CY⟩ := cl_v (lo := 0) (hi := 100) (by omega) (by omega) v1
  obtain ⟨r, u', v', Z', IX, IY⟩ := jr_all hc c 0 u v (by omega) I
  refine zz_el (P := fun u v => (∀ post n, c < n → post r u' → rn_X post (nI c) n (nI 0) u) → (∀ post n, c < n → post r v' → rn_Y post (nI c) n (nI 0) v) → wpX_run (fun r u' => wpY_run (fun r' v' => r' = r ∧ zz_R u' v') v v1) u v1) ?_ I IX IY
  intro qB dB hS ub nT aK nM cT cL hL fL kL cls dT dO dC qT stt lm sc ac ev chc cF cTk hT tT chs cs cn cl ca ci kS kB kC kH kP kF dV qV ns nn nc tr fP fB fC fR fT fN hG hB hF hK hH hR hC hP pl pr yd sh nm ln bi lR lB lC lP lI gA gD gb gr gs gc gp gi yl yr nb hA IX IY
  unfold wpX_run
  refine CX _ ?_
  refine ⟨c + 1, IX (fun r u' => wpY_run (fun r' v' => r' = r ∧ zz_R u' v') (cL, hL, fL, kL, cls, stt, lm, sc, ac, ev, chc, hT, yd, chs, sh, nm, ln, bi, lR, lB, lC, lP, lI, gA, hB, hH, hC, hP, gD, gb, gr, gs, gc, gp, gi, yl, yr, nb) v1) (c + 1) (by omega) ?_⟩
  unfold wpY_run
  refine CY _ ?_
  exact ⟨c + 1, IY (fun r' v' => r' = r ∧ zz_R u' v') (c + 1) (by omega) ⟨rfl, Z'⟩⟩
theorem jo_st {WX : (SX → Prop) → Prop} {WY : (SY → Prop) → Prop} (J : jo_R WX WY) : ∃ (s : Int32) (u' : SX) (v' : SY), zz_R u' v' ∧ (∀ post : Int32 → SX → Prop, post s u' → WX (fun u => match u with | (qB, dB, hS, ub, nT, aK, nM, cT, cL, hL, fL, kL, cls, dT, dO, dC, qT, stt, lm, sc, ac, ev, chc, cF, cTk, hT, tT, chs, cs, cn, cl, ca, ci, kS, kB, kC, kH, kP, kF, dV, qV, ns, nn, nc, tr, fP, fB, fC, fR, fT, fN, hG, hB, hF, hK, hH, hR, hC, hP, pl, pr) => post stt (qB, dB, hS, ub, nT, aK, nM, cT, cL, hL, fL, kL, cls, dT, dO, dC, qT, stt, lm, sc, ac, ev, chc, cF, cTk, hT, tT, chs, cs, cn, cl, ca, ci, kS, kB, kC, kH, kP, kF, dV, qV, ns, nn, nc, tr, fP, fB, fC, fR, fT, fN, hG, hB, hF, hK, hH, hR, hC, hP, pl, pr))) ∧ (∀ post : Int32 → SY → Prop, post s v' → WY (fun u => match u with | (cL, hL, fL, kL, cls, stt, lm, sc, ac, ev, chc, hT, yd, chs, sh, nm, ln, bi, lR, lB, lC, lP, lI, gA, hB, hH, hC, hP, gD, gb, gr, gs, gc, gp, gi, yl, yr, nb) => post stt (cL, hL, fL, kL, cls, stt, lm, sc, ac, ev, chc, hT, yd, chs, sh, nm, ln, bi, lR, lB, lC, lP, lI, gA, hB, hH, hC, hP, gD, gb, gr, gs, gc, gp, gi, yl, yr, nb))) := by
  obtain ⟨u, v, Z, PX, PY⟩ := J
  refine zz_el (P := fun u v => (∀ post, post u → WX post) → (∀ post, post v → WY post) → ∃ (s : Int32) (u' : SX) (v' : SY), zz_R u' v' ∧ (∀ post : Int32 → SX → Prop, post s u' → WX (fun u => match u with | (qB, dB, hS, ub, nT, aK, nM, cT, cL, hL, fL, kL, cls, dT, dO, dC, qT, stt, lm, sc, ac, ev, chc, cF, cTk, hT, tT, chs, cs, cn, cl, ca, ci, kS, kB, kC, kH, kP, kF, dV, qV, ns, nn, nc, tr, fP, fB, fC, fR, fT, fN, hG, hB, hF, hK, hH, hR, hC, hP, pl, pr) => post stt (qB, dB, hS, ub, nT, aK, nM, cT, cL, hL, fL, kL, cls, dT, dO, dC, qT, stt, lm, sc, ac, ev, chc, cF, cTk, hT, tT, chs, cs, cn, cl, ca, ci, kS, kB, kC, kH, kP, kF, dV, qV, ns, nn, nc, tr, fP, fB, fC, fR, fT, fN, hG, hB, hF, hK, hH, hR, hC, hP, pl, pr))) ∧ (∀ post : Int32 → SY → Prop, post s v' → WY (fun u => match u with | (cL, hL, fL, kL, cls, stt, lm, sc, ac, ev, chc, hT, yd, chs, sh, nm, ln, bi, lR, lB, lC, lP, lI, gA, hB, hH, hC, hP, gD, gb, gr, gs, gc, gp, gi, yl, yr, nb) => post stt (cL, hL, fL, kL, cls, stt, lm, sc, ac, ev, chc, hT, yd, chs, sh, nm, ln, bi, lR, lB, lC, lP, lI, gA, hB, hH, hC, hP, gD, gb, gr, gs, gc, gp, gi, yl, yr, nb)))) ?_ Z PX PY
  intro qB dB hS ub nT aK nM cT cL hL fL kL cls dT dO dC qT stt lm sc ac ev chc cF cTk hT tT chs cs cn cl ca ci kS kB kC kH kP kF dV qV ns nn nc tr fP fB fC fR fT fN hG hB hF hK hH hR hC hP pl pr yd sh nm ln bi lR lB lC lP lI gA gD gb gr gs gc gp gi yl yr nb hA PX PY
  exact ⟨stt, _, _, zz_mk hA, fun post hp => PX _ hp, fun post hp => PY _ hp⟩
theorem vz_more {u : SX} {v : SY} (I : zz_R u v) : wpX_more (fun r u' => wpY_more (fun r' v' => r' = r ∧ zz_R u' v') v) u := by
  refine zz_el (P := fun u v => wpX_more (fun r u' => wpY_more (fun r' v' => r' = r ∧ zz_R u' v') v) u) ?_ I
  intro qB dB hS ub nT aK nM cT cL hL fL kL cls dT dO dC qT stt lm sc ac ev chc cF cTk hT tT chs cs cn cl ca ci kS kB kC kH kP kF dV qV ns nn nc tr fP fB fC fR fT fN hG hB hF hK hH hR hC hP pl pr yd sh nm ln bi lR lB lC lP lI gA gD gb gr gs gc gp gi yl yr nb hA
  by_cases hs : stt = 3
  · obtain ⟨S, M, L, m, sr, C, K, G, Lv, T, k, h, R, hl, hst⟩ := hA
    have hlm : lm = 0 := hl (by rw [hs]; decide)
    rcases hst with ⟨e, _⟩ | ⟨Q, hqv, hst⟩
    · exfalso
      rw [hs] at e
      rcases e with e | e | e <;> exact absurd e (by decide)
    · obtain ⟨⟨rT, rTT, rk, rk32, ryd⟩, rX, rY, rV, rHR, rTF, rCP, rMO, rH⟩ := R
      have J := jf_all (ev := ev) (stt := stt) (sc := sc) (ac := ac) (chc := chc) (qB := qB) (dB := dB) (hS := hS) (ub := ub) (nT := nT) (aK := aK) (nM := nM) (cT := cT) (cF := cF) (cTk := cTk) (hT := hT) (pl := pl) (pr := pr) (yl := yl) (yr := yr) (yd := yd) (bi := bi) (lR := lR) (lB := lB) (lC := lC) (lP := lP) (lI := lI) C hqv hlm rk rk32 rTT rTF rHR.1 rCP rMO
      obtain ⟨s, u', v', Z, PX, PY⟩ := jo_st J
      exact br_t hs (PX (fun r u => wpY_more (fun r' v' => r' = r ∧ zz_R u v') (cL, hL, fL, kL, cls, stt, lm, sc, ac, ev, chc, hT, yd, chs, sh, nm, ln, bi, lR, lB, lC, lP, lI, gA, hB, hH, hC, hP, gD, gb, gr, gs, gc, gp, gi, yl, yr, nb)) (br_t hs (PY (fun r' v' => r' = s ∧ zz_R u' v') ⟨rfl, Z⟩)))
  · exact br_f hs (br_f hs ⟨rfl, zz_mk hA⟩)
end
section
/-! the plain getters, stop -/
section
variable {qB dB hS : Int32} {ub nT aK nM cT : Int64} {cL hL fL kL cls dT dO dC qT stt lm sc ac ev chc cF cTk hT tT chs : Int32} {cs cn cl ca ci kS kB kC kH dV qV ns nn tr fP fB fC fR fT fN hG hB hF hK hH hR hC hP : Nat → Int32} {kP kF nc pl pr : Nat → Int64} {yd : Int32} {sh nm ln bi lR lB lC lP lI gA gD gb gr gs gc gp gi yl yr : Nat → Int32} {nb : Nat}
variable {S M : Nat → Nat → Int32} {L : Nat → Nat} {m : Nat} {sr : Nat → Nat} {Lv : Nat → Prop} {K : List fr_L} {G : Nat → cp_R} {k T h : Nat}
theorem sf_act (H : sf_OK S M L K G Lv T k h stt lm qV) : ((stt = 1 ∨ stt = 2 ∨ stt = 3) ∧ ql_OK S L Lv ∧ qv_OK S M L qV) ∨ ((¬ stt = 1 ∧ ¬ stt = 2 ∧ ¬ stt = 3) ∧ K = [] ∧ k = 0 ∧ h = 0) := by
  rcases H.2 with ⟨e, h1, h2, h3⟩ | ⟨Q, qv, hst⟩
  · refine Or.inr ⟨?_, h1, h2, h3⟩
    rcases e with e | e | e <;> rw [e] <;> decide
  · refine Or.inl ⟨?_, Q, qv⟩
    rcases hst with ⟨e, _⟩ | ⟨e, _⟩ | ⟨e, _⟩
    · exact Or.inl e
    · exact Or.inr (Or.inl e)
    · exact Or.inr (Or.inr e)
theorem yw_act1 (h : stt = 1 ∨ stt = 2 ∨ stt = 3) {post : Int32 → Prop} (hp : post 1) : wpY_active post (cL, hL, fL, kL, cls, stt, lm, sc, ac, ev, chc, hT, yd, chs, sh, nm, ln, bi, lR, lB, lC, lP, lI, gA, hB, hH, hC, hP, gD, gb, gr, gs, gc, gp, gi, yl, yr, nb) :=
  br_c (fun _ => hp) (fun h1 => br_c (fun _ => hp) (fun h2 => br_t (h.elim (fun e => absurd e h1) (fun e => e.elim (fun e => absurd e h2) id)) hp))
theorem yw_act0 (h : ¬ stt = 1 ∧ ¬ stt = 2 ∧ ¬ stt = 3) {post : Int32 → Prop} (hp : post 0) : wpY_active post (cL, hL, fL, kL, cls, stt, lm, sc, ac, ev, chc, hT, yd, chs, sh, nm, ln, bi, lR, lB, lC, lP, lI, gA, hB, hH, hC, hP, gD, gb, gr, gs, gc, gp, gi, yl, yr, nb) :=
  br_f h.1 (br_f h.2.1 (br_f h.2.2 hp))
theorem xw_act1 (h : stt = 1 ∨ stt = 2 ∨ stt = 3) {post : Int32 → Prop} (hp : post 1) : wpX_active post (qB, dB, hS, ub, nT, aK, nM, cT, cL, hL, fL, kL, cls, dT, dO, dC, qT, stt, lm, sc, ac, ev, chc, cF, cTk, hT, tT, chs, cs, cn, cl, ca, ci, kS, kB, kC, kH, kP, kF, dV, qV, ns, nn, nc, tr, fP, fB, fC, fR, fT, fN, hG, hB, hF, hK, hH, hR, hC, hP, pl, pr) :=
  br_c (fun _ => hp) (fun h1 => br_c (fun _ => hp) (fun h2 => br_t (h.elim (fun e => absurd e h1) (fun e => e.elim (fun e => absurd e h2) id)) hp))
theorem xw_act0 (h : ¬ stt = 1 ∧ ¬ stt = 2 ∧ ¬ stt = 3) {post : Int32 → Prop} (hp : post 0) : wpX_active post (qB, dB, hS, ub, nT, aK, nM, cT, cL, hL, fL, kL, cls, dT, dO, dC, qT, stt, lm, sc, ac, ev, chc, cF, cTk, hT, tT, chs, cs, cn, cl, ca, ci, kS, kB, kC, kH, kP, kF, dV, qV, ns, nn, nc, tr, fP, fB, fC, fR, fT, fN, hG, hB, hF, hK, hH, hR, hC, hP, pl, pr) :=
  br_f h.1 (br_f h.2.1 (br_f h.2.2 hp))
end
theorem vz_state {u : SX} {v : SY} (I : zz_R u v) : wpX_state (fun r => wpY_state (fun r' => r' = r ∧ zz_R u v) v) u := by
  refine zz_el (P := fun u v => wpX_state (fun r => wpY_state (fun r' => r' = r ∧ zz_R u v) v) u) ?_ I
  intro qB dB hS ub nT aK nM cT cL hL fL kL cls dT dO dC qT stt lm sc ac ev chc cF cTk hT tT chs cs cn cl ca ci kS kB kC kH kP kF dV qV ns nn nc tr fP fB fC fR fT fN hG hB hF hK hH hR hC hP pl pr yd sh nm ln bi lR lB lC lP lI gA gD gb gr gs gc gp gi yl yr nb hA
  exact ⟨rfl, zz_mk hA⟩
theorem vz_limit {u : SX} {v : SY} (I : zz_R u v) : wpX_limit (fun r => wpY_limit (fun r' => r' = r ∧ zz_R u v) v) u := by
  refine zz_el (P := fun u v => wpX_limit (fun r => wpY_limit (fun r' => r' = r ∧ zz_R u v) v) u) ?_ I
  intro qB dB hS ub nT aK nM cT cL hL fL kL cls dT dO dC qT stt lm sc ac ev chc cF cTk hT tT chs cs cn cl ca ci kS kB kC kH kP kF dV qV ns nn nc tr fP fB fC fR fT fN hG hB hF hK hH hR hC hP pl pr yd sh nm ln bi lR lB lC lP lI gA gD gb gr gs gc gp gi yl yr nb hA
  have Z := zz_mk hA
  obtain ⟨S, M, L, m, sr, C, K, G, Lv, T, k, h, R, hl, hst⟩ := hA
  exact br_c (fun _ => ⟨rfl, Z⟩) (fun h => ⟨(hl h).symm, Z⟩)
theorem vz_steps {u : SX} {v : SY} (I : zz_R u v) : wpX_steps (fun r => wpY_steps (fun r' => r' = r ∧ zz_R u v) v) u := by
  refine zz_el (P := fun u v => wpX_steps (fun r => wpY_steps (fun r' => r' = r ∧ zz_R u v) v) u) ?_ I
  intro qB dB hS ub nT aK nM cT cL hL fL kL cls dT dO dC qT stt lm sc ac ev chc cF cTk hT tT chs cs cn cl ca ci kS kB kC kH kP kF dV qV ns nn nc tr fP fB fC fR fT fN hG hB hF hK hH hR hC hP pl pr yd sh nm ln bi lR lB lC lP lI gA gD gb gr gs gc gp gi yl yr nb hA
  exact ⟨rfl, zz_mk hA⟩
theorem vz_answers {u : SX} {v : SY} (I : zz_R u v) : wpX_answers (fun r => wpY_answers (fun r' => r' = r ∧ zz_R u v) v) u := by
  refine zz_el (P := fun u v => wpX_answers (fun r => wpY_answers (fun r' => r' = r ∧ zz_R u v) v) u) ?_ I
  intro qB dB hS ub nT aK nM cT cL hL fL kL cls dT dO dC qT stt lm sc ac ev chc cF cTk hT tT chs cs cn cl ca ci kS kB kC kH kP kF dV qV ns nn nc tr fP fB fC fR fT fN hG hB hF hK hH hR hC hP pl pr yd sh nm ln bi lR lB lC lP lI gA gD gb gr gs gc gp gi yl yr nb hA
  exact ⟨rfl, zz_mk hA⟩
theorem vz_lastEvent {u : SX} {v : SY} (I : zz_R u v) : wpX_lastEvent (fun r => wpY_lastEvent (fun r' => r' = r ∧ zz_R u v) v) u := by
  refine zz_el (P := fun u v => wpX_lastEvent (fun r => wpY_lastEvent (fun r' => r' = r ∧ zz_R u v) v) u) ?_ I
  intro qB dB hS ub nT aK nM cT cL hL fL kL cls dT dO dC qT stt lm sc ac ev chc cF cTk hT tT chs cs cn cl ca ci kS kB kC kH kP kF dV qV ns nn nc tr fP fB fC fR fT fN hG hB hF hK hH hR hC hP pl pr yd sh nm ln bi lR lB lC lP lI gA gD gb gr gs gc gp gi yl yr nb hA
  exact ⟨rfl, zz_mk hA⟩
theorem vz_lastClause {u : SX} {v : SY} (I : zz_R u v) : wpX_lastClause (fun r => wpY_lastClause (fun r' => r' = r ∧ zz_R u v) v) u := by
  refine zz_el (P := fun u v => wpX_lastClause (fun r => wpY_lastClause (fun r' => r' = r ∧ zz_R u v) v) u) ?_ I
  intro qB dB hS ub nT aK nM cT cL hL fL kL cls dT dO dC qT stt lm sc ac ev chc cF cTk hT tT chs cs cn cl ca ci kS kB kC kH kP kF dV qV ns nn nc tr fP fB fC fR fT fN hG hB hF hK hH hR hC hP pl pr yd sh nm ln bi lR lB lC lP lI gA gD gb gr gs gc gp gi yl yr nb hA
  exact ⟨rfl, zz_mk hA⟩
theorem vz_clauseCount {u : SX} {v : SY} (I : zz_R u v) : wpX_clauseCount (fun r => wpY_clauseCount (fun r' => r' = r ∧ zz_R u v) v) u := by
  refine zz_el (P := fun u v => wpX_clauseCount (fun r => wpY_clauseCount (fun r' => r' = r ∧ zz_R u v) v) u) ?_ I
  intro qB dB hS ub nT aK nM cT cL hL fL kL cls dT dO dC qT stt lm sc ac ev chc cF cTk hT tT chs cs cn cl ca ci kS kB kC kH kP kF dV qV ns nn nc tr fP fB fC fR fT fN hG hB hF hK hH hR hC hP pl pr yd sh nm ln bi lR lB lC lP lI gA gD gb gr gs gc gp gi yl yr nb hA
  exact ⟨rfl, zz_mk hA⟩
theorem vz_draftLength {u : SX} {v : SY} (I : zz_R u v) : wpX_draftLength (fun r => wpY_draftLength (fun r' => r' = r ∧ zz_R u v) v) u := by
  refine zz_el (P := fun u v => wpX_draftLength (fun r => wpY_draftLength (fun r' => r' = r ∧ zz_R u v) v) u) ?_ I
  intro qB dB hS ub nT aK nM cT cL hL fL kL cls dT dO dC qT stt lm sc ac ev chc cF cTk hT tT chs cs cn cl ca ci kS kB kC kH kP kF dV qV ns nn nc tr fP fB fC fR fT fN hG hB hF hK hH hR hC hP pl pr yd sh nm ln bi lR lB lC lP lI gA gD gb gr gs gc gp gi yl yr nb hA
  have Z := zz_mk hA
  obtain ⟨S, M, L, m, sr, C, R⟩ := hA
  obtain ⟨_, _, _, _, _, _, _, _, N, DS, DM, d1, d2, d3, _⟩ := C
  exact ⟨by rw [d2, d3], Z⟩
theorem vz_choicePoints {u : SX} {v : SY} (I : zz_R u v) : wpX_choicePoints (fun r => wpY_choicePoints (fun r' => r' = r ∧ zz_R u v) v) u := by
  refine zz_el (P := fun u v => wpX_choicePoints (fun r => wpY_choicePoints (fun r' => r' = r ∧ zz_R u v) v) u) ?_ I
  intro qB dB hS ub nT aK nM cT cL hL fL kL cls dT dO dC qT stt lm sc ac ev chc cF cTk hT tT chs cs cn cl ca ci kS kB kC kH kP kF dV qV ns nn nc tr fP fB fC fR fT fN hG hB hF hK hH hR hC hP pl pr yd sh nm ln bi lR lB lC lP lI gA gD gb gr gs gc gp gi yl yr nb hA
  have Z := zz_mk hA
  obtain ⟨S, M, L, m, sr, C, K, G, Lv, T, k, h, R, H⟩ := hA
  have rk := R.1.2.2.1
  show wpY_choicePoints (fun r' => r' = chs ∧ zz_R (qB, dB, hS, ub, nT, aK, nM, cT, cL, hL, fL, kL, cls, dT, dO, dC, qT, stt, lm, sc, ac, ev, chc, cF, cTk, hT, tT, chs, cs, cn, cl, ca, ci, kS, kB, kC, kH, kP, kF, dV, qV, ns, nn, nc, tr, fP, fB, fC, fR, fT, fN, hG, hB, hF, hK, hH, hR, hC, hP, pl, pr) (cL, hL, fL, kL, cls, stt, lm, sc, ac, ev, chc, hT, yd, chs, sh, nm, ln, bi, lR, lB, lC, lP, lI, gA, hB, hH, hC, hP, gD, gb, gr, gs, gc, gp, gi, yl, yr, nb)) (cL, hL, fL, kL, cls, stt, lm, sc, ac, ev, chc, hT, yd, chs, sh, nm, ln, bi, lR, lB, lC, lP, lI, gA, hB, hH, hC, hP, gD, gb, gr, gs, gc, gp, gi, yl, yr, nb)
  unfold wpY_choicePoints
  rcases sf_act H with ⟨e, _⟩ | ⟨e, e1, e2, e3⟩
  · exact yw_act1 e (br_f (by decide) ⟨rfl, Z⟩)
  · refine yw_act0 e (br_t rfl ⟨?_, Z⟩)
    rw [rk, e2]; rfl
theorem vz_heapUsed {u : SX} {v : SY} (I : zz_R u v) : wpX_heapUsed (fun r => wpY_heapUsed (fun r' => r' = r ∧ zz_R u v) v) u := by
  refine zz_el (P := fun u v => wpX_heapUsed (fun r => wpY_heapUsed (fun r' => r' = r ∧ zz_R u v) v) u) ?_ I
  intro qB dB hS ub nT aK nM cT cL hL fL kL cls dT dO dC qT stt lm sc ac ev chc cF cTk hT tT chs cs cn cl ca ci kS kB kC kH kP kF dV qV ns nn nc tr fP fB fC fR fT fN hG hB hF hK hH hR hC hP pl pr yd sh nm ln bi lR lB lC lP lI gA gD gb gr gs gc gp gi yl yr nb hA
  have Z := zz_mk hA
  obtain ⟨S, M, L, m, sr, C, K, G, Lv, T, k, h, R, H⟩ := hA
  have rT := R.1.1
  show wpY_heapUsed (fun r' => r' = hT ∧ zz_R (qB, dB, hS, ub, nT, aK, nM, cT, cL, hL, fL, kL, cls, dT, dO, dC, qT, stt, lm, sc, ac, ev, chc, cF, cTk, hT, tT, chs, cs, cn, cl, ca, ci, kS, kB, kC, kH, kP, kF, dV, qV, ns, nn, nc, tr, fP, fB, fC, fR, fT, fN, hG, hB, hF, hK, hH, hR, hC, hP, pl, pr) (cL, hL, fL, kL, cls, stt, lm, sc, ac, ev, chc, hT, yd, chs, sh, nm, ln, bi, lR, lB, lC, lP, lI, gA, hB, hH, hC, hP, gD, gb, gr, gs, gc, gp, gi, yl, yr, nb)) (cL, hL, fL, kL, cls, stt, lm, sc, ac, ev, chc, hT, yd, chs, sh, nm, ln, bi, lR, lB, lC, lP, lI, gA, hB, hH, hC, hP, gD, gb, gr, gs, gc, gp, gi, yl, yr, nb)
  unfold wpY_heapUsed
  rcases sf_act H with ⟨e, _⟩ | ⟨e, e1, e2, e3⟩
  · exact yw_act1 e (br_f (by decide) ⟨rfl, Z⟩)
  · refine yw_act0 e (br_t rfl ⟨?_, Z⟩)
    rw [rT, e3]; rfl
theorem vz_frameHeight {u : SX} {v : SY} (I : zz_R u v) : wpX_frameHeight (fun r => wpY_frameHeight (fun r' => r' = r ∧ zz_R u v) v) u := by
  refine zz_el (P := fun u v => wpX_frameHeight (fun r => wpY_frameHeight (fun r' => r' = r ∧ zz_R u v) v) u) ?_ I
  intro qB dB hS ub nT aK nM cT cL hL fL kL cls dT dO dC qT stt lm sc ac ev chc cF cTk hT tT chs cs cn cl ca ci kS kB kC kH kP kF dV qV ns nn nc tr fP fB fC fR fT fN hG hB hF hK hH hR hC hP pl pr yd sh nm ln bi lR lB lC lP lI gA gD gb gr gs gc gp gi yl yr nb hA
  have Z := zz_mk hA
  obtain ⟨S, M, L, m, sr, C, K, G, Lv, T, k, h, R, H⟩ := hA
  obtain ⟨⟨rT, rTT, rk, rk32, ryd⟩, rX, rY, rV, rHR, rTF, rCP, rMO, rH⟩ := R
  have hg : 0 < k → hP (k - 1) = nI (cp_p (G (k - 1))) ∧ cp_p (G (k - 1)) ≤ 32 := fun h => cp_pP (rCP (k - 1) (by omega))
  unfold wpX_frameHeight
  refine xw_protH (fr_X_p rX) (fr_len rV).2 rk rk32 hg ?_
  unfold wpY_frameHeight
  rcases sf_act H with ⟨e, _⟩ | ⟨e, e1, e2, e3⟩
  · exact yw_act1 e (br_f (by decide) (yw_height rV rY ryd rk rk32 hg ⟨rfl, Z⟩))
  · refine yw_act0 e (br_t rfl ⟨?_, Z⟩)
    rw [e1, e2]; rfl
theorem vz_retryClause {u : SX} {v : SY} (I : zz_R u v) : wpX_retryClause (fun r => wpY_retryClause (fun r' => r' = r ∧ zz_R u v) v) u := by
  refine zz_el (P := fun u v => wpX_retryClause (fun r => wpY_retryClause (fun r' => r' = r ∧ zz_R u v) v) u) ?_ I
  intro qB dB hS ub nT aK nM cT cL hL fL kL cls dT dO dC qT stt lm sc ac ev chc cF cTk hT tT chs cs cn cl ca ci kS kB kC kH kP kF dV qV ns nn nc tr fP fB fC fR fT fN hG hB hF hK hH hR hC hP pl pr yd sh nm ln bi lR lB lC lP lI gA gD gb gr gs gc gp gi yl yr nb hA
  have Z := zz_mk hA
  obtain ⟨S, M, L, m, sr, C, K, G, Lv, T, k, h, R, H⟩ := hA
  have rk := R.1.2.2.1
  have rk32 := R.1.2.2.2.1
  rcases Nat.eq_zero_or_pos k with z | z
  · have e0 : chs = 0 := by rw [rk, z]; rfl
    refine br_t e0 ?_
    unfold wpY_retryClause
    rcases sf_act H with ⟨e, _⟩ | ⟨e, e1, e2, e3⟩
    · exact yw_act1 e (br_f (by decide) (br_t (by rw [e0]; decide) ⟨rfl, Z⟩))
    · exact yw_act0 e (br_t rfl ⟨rfl, Z⟩)
  · have hin : vp_in (chs - 1) 32 := by
      rw [rk, show nI k - 1 = nI (k - 1) from pk_sub (b := 1) z]
      exact vp_in_nI (by omega) (by decide)
    refine br_f (by rw [rk]; exact nI_ne0 z (by omega)) ⟨hin, ?_⟩
    unfold wpY_retryClause
    rcases sf_act H with ⟨e, _⟩ | ⟨e, e1, e2, e3⟩
    · exact yw_act1 e (br_f (by decide) (br_f (by rw [rk]; exact nI_nle z (by omega)) ⟨hin, rfl, Z⟩))
    · omega
theorem vz_nextPlace {u : SX} {v : SY} (I : zz_R u v) : wpX_nextPlace (fun r => wpY_nextPlace (fun r' => r' = r ∧ zz_R u v) v) u := by
  refine zz_el (P := fun u v => wpX_nextPlace (fun r => wpY_nextPlace (fun r' => r' = r ∧ zz_R u v) v) u) ?_ I
  intro qB dB hS ub nT aK nM cT cL hL fL kL cls dT dO dC qT stt lm sc ac ev chc cF cTk hT tT chs cs cn cl ca ci kS kB kC kH kP kF dV qV ns nn nc tr fP fB fC fR fT fN hG hB hF hK hH hR hC hP pl pr yd sh nm ln bi lR lB lC lP lI gA gD gb gr gs gc gp gi yl yr nb hA
  have Z := zz_mk hA
  obtain ⟨S, M, L, m, sr, C, K, G, Lv, T, k, h, R, H⟩ := hA
  obtain ⟨⟨rT, rTT, rk, rk32, ryd⟩, rX, rY, rV, rHR, rTF, rCP, rMO, rH⟩ := R
  by_cases hs : stt = 1
  · have hlen := fr_len rV
    rcases K with _ | ⟨⟨r, b, c, p, i⟩, K⟩
    · exfalso
      rcases H.2 with ⟨e, _⟩ | ⟨_, _, ⟨_, e⟩ | ⟨e, _⟩ | ⟨e, _⟩⟩
      · rw [hs] at e; rcases e with e | e | e <;> exact absurd e (by decide)
      · exact e rfl
      · rw [hs] at e; exact absurd e (by decide)
      · rw [hs] at e; exact absurd e (by decide)
    · obtain ⟨x1, x2, x3, x4, x5, x6, x7⟩ := rX
      obtain ⟨y1, y2, y3, y4, y5, y6⟩ := rY
      have hp : fr_p ((r, b, c, p, i) :: K) = p := rfl
      have hl : ((r, b, c, p, i) :: K).length = K.length + 1 := rfl
      rw [hp, hl] at hlen
      rw [hl] at ryd
      have e1 : yd - 1 = nI K.length := by rw [ryd]; exact nI_pred _
      refine br_t hs ⟨by rw [x1]; exact vp_in_nI (by omega) (by decide), br_t hs (br_f (by rw [ryd]; exact nI_ne0 (by omega) (by omega)) ⟨by rw [e1]; exact vp_in_nI (by omega) (by decide), ?_, Z⟩)⟩
      rw [e1, nI_clamp (by omega), y1, x1, nI_clamp (by omega), x3]
  · exact br_f hs (br_f hs ⟨rfl, Z⟩)
theorem vz_nextToken {u : SX} {v : SY} (I : zz_R u v) : wpX_nextToken (fun r => wpY_nextToken (fun r' => r' = r ∧ zz_R u v) v) u := by
  refine zz_el (P := fun u v => wpX_nextToken (fun r => wpY_nextToken (fun r' => r' = r ∧ zz_R u v) v) u) ?_ I
  intro qB dB hS ub nT aK nM cT cL hL fL kL cls dT dO dC qT stt lm sc ac ev chc cF cTk hT tT chs cs cn cl ca ci kS kB kC kH kP kF dV qV ns nn nc tr fP fB fC fR fT fN hG hB hF hK hH hR hC hP pl pr yd sh nm ln bi lR lB lC lP lI gA gD gb gr gs gc gp gi yl yr nb hA
  have Z := zz_mk hA
  obtain ⟨S, M, L, m, sr, C, K, G, Lv, T, k, h, R, H⟩ := hA
  obtain ⟨⟨rT, rTT, rk, rk32, ryd⟩, rX, rY, rV, rHR, rTF, rCP, rMO, rH⟩ := R
  obtain ⟨_, hnb, hcl, O, CX, CY, CK, hqT, hD⟩ := C
  have hm := O.1
  by_cases hs : stt = 1
  · have hlen := fr_len rV
    rcases K with _ | ⟨⟨r, b, c, p, i⟩, K⟩
    · exfalso
      rcases H.2 with ⟨e, _⟩ | ⟨_, _, ⟨_, e⟩ | ⟨e, _⟩ | ⟨e, _⟩⟩
      · rw [hs] at e; rcases e with e | e | e <;> exact absurd e (by decide)
      · exact e rfl
      · rw [hs] at e; exact absurd e (by decide)
      · rw [hs] at e; exact absurd e (by decide)
    · obtain ⟨x1, x2, x3, x4, x5, x6, x7⟩ := rX
      obtain ⟨y1, y2, y3, y4, y5, y6⟩ := rY
      have v1 := rV.1
      have v2 := rV.2.1
      have hp : fr_p ((r, b, c, p, i) :: K) = p := rfl
      have hl : ((r, b, c, p, i) :: K).length = K.length + 1 := rfl
      rw [hp, hl] at hlen
      rw [hl] at ryd
      have hsr := (CX r v1).1
      have e1 : yd - 1 = nI K.length := by rw [ryd]; exact nI_pred _
      subst x1 x2
      have fin : nI (sr r + i) - nI (sr r) = nI i := by rw [pk_sub (by omega)]; exact congrArg nI (by omega)
      have YF : ∀ x, x = nI i → wpY_nextToken (fun r' => r' = x ∧ zz_R (qB, dB, hS, ub, nT, aK, nM, cT, cL, hL, fL, kL, cls, dT, dO, dC, qT, stt, lm, sc, ac, ev, chc, nI p, nI (sr r + i), hT, tT, chs, cs, cn, cl, ca, ci, kS, kB, kC, kH, kP, kF, dV, qV, ns, nn, nc, tr, fP, fB, fC, fR, fT, fN, hG, hB, hF, hK, hH, hR, hC, hP, pl, pr) (cL, hL, fL, kL, cls, stt, lm, sc, ac, ev, chc, hT, yd, chs, sh, nm, ln, bi, lR, lB, lC, lP, lI, gA, hB, hH, hC, hP, gD, gb, gr, gs, gc, gp, gi, yl, yr, nb)) (cL, hL, fL, kL, cls, stt, lm, sc, ac, ev, chc, hT, yd, chs, sh, nm, ln, bi, lR, lB, lC, lP, lI, gA, hB, hH, hC, hP, gD, gb, gr, gs, gc, gp, gi, yl, yr, nb) := by
        intro x ex
        refine br_t hs (br_f (by rw [ryd]; exact nI_ne0 (by omega) (by omega)) ⟨by rw [e1]; exact vp_in_nI (by omega) (by decide), ?_, Z⟩)
        rw [e1, nI_clamp (by omega), y5, ex]
      refine br_t hs ⟨vp_in_nI (by omega) (by decide), ?_⟩
      rw [nI_clamp (by omega), x3]
      rcases v1 with e | ⟨e2, e3⟩
      · subst e
        refine br_f (by decide) (br_t (by decide) ?_)
        exact YF _ (by rw [← fin, CK.1]; rfl)
      · have er : nI r - 2 = nI (r - 2) := pk_sub (b := 2) e2
        rw [er]
        refine br_f (tm_nI_m1 (by omega)) (br_f ?_ (br_f (nI_pos (by omega)) (br_t (by rw [hcl]; exact nI_lt (by omega) (by omega)) ⟨vp_in_nI (by omega) (by decide), ?_⟩)))
        · intro e
          have := congrArg Int32.toInt e
          rw [nI_toInt (by omega)] at this
          have e9 : (-2 : Int32).toInt = -2 := by decide
          rw [e9] at this
          omega
        · rw [nI_clamp (by omega), CK.2.2.2.1 (r - 2) (by omega), show r - 2 + 2 = r by omega]
          exact YF _ fin
  · exact br_f hs (br_f hs ⟨rfl, Z⟩)
end
section
/-! pending goals, stop, tokens -/
def zs_set {α : Type} (f : Nat → α) (r0 : Nat) (x : α) : Nat → α := fun r => if r = r0 then x else f r
theorem zs_s {α : Type} {f : Nat → α} {r0 : Nat} {x : α} : zs_set f r0 x r0 = x := if_pos rfl
theorem zs_n {α : Type} {f : Nat → α} {r0 r : Nat} {x : α} (h : r ≠ r0) : zs_set f r0 x r = f r := if_neg h
section
variable {cL hL fL kL cls stt lm sc ac ev chc hT yd chs : Int32} {sh nm ln bi lR lB lC lP lI gA hB hH hC hP gD gb gr gs gc gp gi yl yr : Nat → Int32} {nb : Nat}
variable {S M : Nat → Nat → Int32} {L : Nat → Nat} {m : Nat} {Lv : Nat → Prop}
theorem yw_pd48 (O : sg_OK S M L m) (C : cy_OK S M L m sh nm ln) {r : Nat} (hr : sg_VR m r) {x2 : Int32} {post : Int32 → Prop} {J4 : Int32 → Int32 → Prop} : ∀ (q i kk n c : Nat), i ≤ L r → L r - i ≤ q → kk + q ≤ 40 → q < n → J4 (nI (c + tx_ic (S r) (L r) i)) (x2 + 1) → wY_pending_48 post J4 x2 (nI (r * 40 + L r)) cL hL fL kL cls stt lm sc ac ev chc hT yd chs sh nm ln bi lR lB lC lP lI gA hB hH hC hP gD gb gr gs gc gp gi yl yr nb n (nI c) (nI (r * 40 + i)) (nI kk)
  | q, i, kk, 0, c, _, _, _, h, _ => by omega
  | q, i, kk, n + 1, c, hi, hq, hk, hn, hp => by
    have hrow := sg_row O.1 hr
    obtain ⟨_, h40, hop, _⟩ := O.2 r hr
    by_cases hlt : i < L r
    · have hen := tx_en_1 h40 hop hlt
      rw [tx_ic_s h40 hop hlt] at hp
      refine br_f (nI_ge (b := 40) (by omega) (by decide)) (br_f (nI_ge (by omega) (by omega)) (nm_r (nI_1 c) (yw_endOf O C hr hlt (nm_r (nI_1 kk) ?_))))
      refine yw_pd48 O C hr (q - 1) (tx_en (S r) i) (kk + 1) n (c + 1) (by omega) (by omega) (by omega) (by omega) ?_
      rw [show c + 1 + tx_ic (S r) (L r) (tx_en (S r) i) = c + (tx_ic (S r) (L r) (tx_en (S r) i) + 1) by omega]
      exact hp
    · rw [tx_ic_0 (by omega), Nat.add_zero] at hp
      exact br_c (fun _ => nm_e hp) (fun _ => br_t (nI_le (by omega) (by omega)) (nm_e hp))
theorem yw_pd4 (O : sg_OK S M L m) (C : cy_OK S M L m sh nm ln) {D : Nat} (hD : D ≤ 32) {post : Int32 → Prop} : ∀ (K : List fr_L), fr_Y lR lB lC lP lI K → fr_V S L m Lv K → K.length ≤ D → ∀ n, wY_pending_4 post cL hL fL kL cls stt lm sc ac ev chc hT (nI D) chs sh nm ln bi lR lB lC lP lI gA hB hH hC hP gD gb gr gs gc gp gi yl yr nb n (nI (fr_pd S L K)) (nI K.length) → wY_pending_4 post cL hL fL kL cls stt lm sc ac ev chc hT (nI D) chs sh nm ln bi lR lB lC lP lI gA hB hH hC hP gD gb gr gs gc gp gi yl yr nb (n + K.length) (nI 0) (nI 0)
  | [], _, _, _, n, h => h
  | (r, b, c, p, i) :: K, hY, hV, hl, n, h => by
    have V0 := hV
    obtain ⟨y1, y2, y3, y4, y5, y6⟩ := hY
    obtain ⟨v1, v2, v3, v4, v5, v6, v7, v8, v9⟩ := hV
    have hl' : K.length + 1 ≤ D := hl
    have hrow := sg_row O.1 v1
    have h40 := (O.2 r v1).2.1
    have e40 : nI r * 40 = nI (r * 40) := pk_mul r 40
    have hin : vp_in (nI K.length) 32 := vp_in_nI (by omega) (by decide)
    have ec : (nI K.length).toNatClampNeg = K.length := nI_clamp (by omega)
    have := yw_pd4 O C hD (post := post) K y6 v9 (by omega) (n + 1) (br_f (nI_ge (by omega) (by omega)) ⟨hin, nm_r (e' := nI r) (by rw [ec]; exact y1) ⟨vp_in_nI hrow.1 (by decide), nm_r (e' := nI (r * 40 + L r)) (by rw [nI_clamp (by omega), (C r v1).1, e40, nI_add]) ⟨hin, nm_r (e' := nI (r * 40 + i)) (by rw [ec, y5, e40, nI_add]) ⟨41, ?_⟩⟩⟩⟩)
    · rw [show n + 1 + K.length = n + ((r, b, c, p, i) :: K).length by show n + 1 + K.length = n + (K.length + 1); omega] at this
      exact this
    · refine yw_pd48 O C v1 40 i 0 41 (fr_pd S L K) (by omega) (by omega) (by omega) (by omega) ?_
      rw [nI_1, Nat.add_comm (fr_pd S L K)]
      exact h
theorem yw_pending (O : sg_OK S M L m) (C : cy_OK S M L m sh nm ln) {K : List fr_L} (hY : fr_Y lR lB lC lP lI K) (hV : fr_V S L m Lv K) (hyd : yd = nI K.length) {post : Int32 → Prop} (hp : post (nI (fr_pd S L K))) : wpY_pending post (cL, hL, fL, kL, cls, stt, lm, sc, ac, ev, chc, hT, yd, chs, sh, nm, ln, bi, lR, lB, lC, lP, lI, gA, hB, hH, hC, hP, gD, gb, gr, gs, gc, gp, gi, yl, yr, nb) := by
  have hlen := fr_len hV
  subst hyd
  exact ⟨1 + K.length, yw_pd4 O C (show K.length ≤ 32 by omega) K hY hV (Nat.le_refl _) 1 (br_t (nI_le (Nat.le_refl _) (by omega)) hp)⟩
end
theorem vz_pendingGoals {u : SX} {v : SY} (I : zz_R u v) : wpX_pendingGoals (fun r => wpY_pendingGoals (fun r' => r' = r ∧ zz_R u v) v) u := by
  refine zz_el (P := fun u v => wpX_pendingGoals (fun r => wpY_pendingGoals (fun r' => r' = r ∧ zz_R u v) v) u) ?_ I
  intro qB dB hS ub nT aK nM cT cL hL fL kL cls dT dO dC qT stt lm sc ac ev chc cF cTk hT tT chs cs cn cl ca ci kS kB kC kH kP kF dV qV ns nn nc tr fP fB fC fR fT fN hG hB hF hK hH hR hC hP pl pr yd sh nm ln bi lR lB lC lP lI gA gD gb gr gs gc gp gi yl yr nb hA
  have Z := zz_mk hA
  obtain ⟨S, M, L, m, sr, C, K, G, Lv, T, k, h, R, H⟩ := hA
  obtain ⟨⟨rT, rTT, rk, rk32, ryd⟩, rX, rY, rV, rHR, rTF, rCP, rMO, rH⟩ := R
  obtain ⟨_, hnb, hcl, O, CX, CY, CK, hqT, hD⟩ := C
  by_cases h1 : stt = 1
  · exact br_t h1 (xw_pend O CX rX rV (br_t h1 (yw_pending O CY rY rV ryd ⟨rfl, Z⟩)))
  · by_cases h2 : stt = 2
    · exact br_f h1 (br_t h2 (xw_pend O CX rX rV (br_f h1 (br_t h2 (yw_pending O CY rY rV ryd ⟨rfl, Z⟩)))))
    · exact br_f h1 (br_f h2 (br_f h1 (br_f h2 ⟨rfl, Z⟩)))
section
variable {qB dB hS : Int32} {ub nT aK nM cT : Int64} {cL hL fL kL cls dT dO dC qT stt lm sc ac ev chc cF cTk hT tT chs : Int32} {cs cn cl ca ci kS kB kC kH dV qV ns nn tr fP fB fC fR fT fN hG hB hF hK hH hR hC hP : Nat → Int32} {kP kF nc pl pr : Nat → Int64} {yd : Int32} {sh nm ln bi lR lB lC lP lI gA gD gb gr gs gc gp gi yl yr : Nat → Int32} {nb : Nat}
variable {S M : Nat → Nat → Int32} {L : Nat → Nat} {m : Nat} {sr : Nat → Nat}
theorem rl_stop (C : rl_C S M L m sr cL hL fL kL cls dT dO dC qT cs cn cl ca ci kS kB kC kH kP kF dV sh nm ln nb) : rl_C S M (zs_set L 0 0) m sr cL hL fL kL cls dT dO dC 0 cs cn cl ca ci kS kB kC kH kP kF dV sh nm (upd ln 0 0) nb := by
  obtain ⟨hlm, hnb, hcl, O, CX, CY, CK, hqT, N, DS, DM, d1, d2, d3, d4⟩ := C
  obtain ⟨k1, k2, k3, k4, k5⟩ := CK
  refine ⟨hlm, hnb, hcl, ⟨O.1, fun r hr => ?_⟩, fun r hr => ?_, fun r hr => ?_, ⟨k1, k2, k3, k4, fun c hc => ?_⟩, rfl, N, DS, DM, d1, d2, ?_, d4⟩
  · by_cases e : r = 0
    · subst e
      rw [zs_s]
      exact ⟨fun i hi => by omega, by omega, rfl, fun h => by omega⟩
    · rw [zs_n e]; exact O.2 r hr
  · by_cases e : r = 0
    · subst e
      rw [zs_s, k1]
      exact ⟨by omega, fun i hi => by omega⟩
    · rw [zs_n e]; exact CX r hr
  · by_cases e : r = 0
    · subst e
      rw [zs_s, pk_us]
      exact ⟨rfl, fun i hi => by omega⟩
    · rw [zs_n e, pk_un e]; exact CY r hr
  · rw [zs_n (by omega)]; exact k5 c hc
  · rw [pk_un (by decide)]; exact d3
end
theorem vz_stop {u : SX} {v : SY} (I : zz_R u v) : wpX_stop (fun r u' => wpY_stop (fun r' v' => r' = r ∧ zz_R u' v') v) u := by
  refine zz_el (P := fun u v => wpX_stop (fun r u' => wpY_stop (fun r' v' => r' = r ∧ zz_R u' v') v) u) ?_ I
  intro qB dB hS ub nT aK nM cT cL hL fL kL cls dT dO dC qT stt lm sc ac ev chc cF cTk hT tT chs cs cn cl ca ci kS kB kC kH kP kF dV qV ns nn nc tr fP fB fC fR fT fN hG hB hF hK hH hR hC hP pl pr yd sh nm ln bi lR lB lC lP lI gA gD gb gr gs gc gp gi yl yr nb hA
  by_cases hs : stt = 0
  · exact br_t hs (br_t hs ⟨rfl, zz_mk hA⟩)
  · obtain ⟨S, M, L, m, sr, C, R⟩ := hA
    exact br_f hs (br_f hs (nm_e ⟨rfl, zz_in (rl_stop C) (Or.inl rfl) (fun _ => rfl)⟩))
section
variable {qB dB hS : Int32} {ub nT aK nM cT : Int64} {cL hL fL kL cls dT dO dC qT stt lm sc ac ev chc cF cTk hT tT chs : Int32} {cs cn cl ca ci kS kB kC kH dV qV ns nn tr fP fB fC fR fT fN hG hB hF hK hH hR hC hP : Nat → Int32} {kP kF nc pl pr : Nat → Int64} {yd : Int32} {sh nm ln bi lR lB lC lP lI gA gD gb gr gs gc gp gi yl yr : Nat → Int32} {nb : Nat}
theorem jt_tok {p0 p1 : Int32} {N s r : Nat} (hN : N ≤ 40) (hr : r < 34) (XL : ∀ post : Int32 → Prop, post (nI N) → wpX_textLength post (qB, dB, hS, ub, nT, aK, nM, cT, cL, hL, fL, kL, cls, dT, dO, dC, qT, stt, lm, sc, ac, ev, chc, cF, cTk, hT, tT, chs, cs, cn, cl, ca, ci, kS, kB, kC, kH, kP, kF, dV, qV, ns, nn, nc, tr, fP, fB, fC, fR, fT, fN, hG, hB, hF, hK, hH, hR, hC, hP, pl, pr) p0) (XS : ∀ post : Int32 → Prop, post (nI s) → wpX_textStart post (qB, dB, hS, ub, nT, aK, nM, cT, cL, hL, fL, kL, cls, dT, dO, dC, qT, stt, lm, sc, ac, ev, chc, cF, cTk, hT, tT, chs, cs, cn, cl, ca, ci, kS, kB, kC, kH, kP, kF, dV, qV, ns, nn, nc, tr, fP, fB, fC, fR, fT, fN, hG, hB, hF, hK, hH, hR, hC, hP, pl, pr) p0) (y1 : ¬ p0 < -2) (y2 : p0 < cls) (y3 : p0 + 2 = nI r) (y4 : ln r = nI N) (hh : ∀ i, i < N → s + i < 240 ∧ cs (s + i) = sh (r * 40 + i) ∧ cn (s + i) = nm (r * 40 + i)) : ((∀ post : Int32 → Prop, post (-1) → wpX_tokenAddress post (qB, dB, hS, ub, nT, aK, nM, cT, cL, hL, fL, kL, cls, dT, dO, dC, qT, stt, lm, sc, ac, ev, chc, cF, cTk, hT, tT, chs, cs, cn, cl, ca, ci, kS, kB, kC, kH, kP, kF, dV, qV, ns, nn, nc, tr, fP, fB, fC, fR, fT, fN, hG, hB, hF, hK, hH, hR, hC, hP, pl, pr) p0 p1) ∧ (∀ post : Int32 → Prop, post (-1) → wpY_tokenAddress post (cL, hL, fL, kL, cls, stt, lm, sc, ac, ev, chc, hT, yd, chs, sh, nm, ln, bi, lR, lB, lC, lP, lI, gA, hB, hH, hC, hP, gD, gb, gr, gs, gc, gp, gi, yl, yr, nb) p0 p1)) ∨ ∃ ax ay, ax < 240 ∧ ay < 1360 ∧ cs ax = sh ay ∧ cn ax = nm ay ∧ (∀ post : Int32 → Prop, post (nI ax) → wpX_tokenAddress post (qB, dB, hS, ub, nT, aK, nM, cT, cL, hL, fL, kL, cls, dT, dO, dC, qT, stt, lm, sc, ac, ev, chc, cF, cTk, hT, tT, chs, cs, cn, cl, ca, ci, kS, kB, kC, kH, kP, kF, dV, qV, ns, nn, nc, tr, fP, fB, fC, fR, fT, fN, hG, hB, hF, hK, hH, hR, hC, hP, pl, pr) p0 p1) ∧ (∀ post : Int32 → Prop, post (nI ay) → wpY_tokenAddress post (cL, hL, fL, kL, cls, stt, lm, sc, ac, ev, chc, hT, yd, chs, sh, nm, ln, bi, lR, lB, lC, lP, lI, gA, hB, hH, hC, hP, gD, gb, gr, gs, gc, gp, gi, yl, yr, nb) p0 p1) := by
  have hin : vp_in (nI r) 34 := vp_in_nI hr (by decide)
  by_cases h0 : p1 < 0
  · left
    refine ⟨fun post hp => ?_, fun post hp => br_f y1 (br_t y2 (nm_r y3 (br_t h0 hp)))⟩
    unfold wpX_tokenAddress
    exact XL _ (br_t h0 hp)
  · obtain ⟨i, hi, rfl⟩ := nI_of h0
    by_cases h1 : i < N
    · right
      obtain ⟨a1, a2, a3⟩ := hh i h1
      refine ⟨s + i, r * 40 + i, a1, by omega, a2, a3, fun post hp => ?_, fun post hp => br_f y1 (br_t y2 (nm_r y3 (br_f h0 ⟨hin, ?_⟩)))⟩
      · unfold wpX_tokenAddress
        refine XL _ (br_f h0 (br_t (nI_lt h1 (by omega)) (XS _ ?_)))
        rw [nI_add]; exact hp
      · rw [nI_clamp (by omega), y4]
        refine br_t (nI_lt h1 (by omega)) ?_
        rw [show nI r * 40 = nI (r * 40) from pk_mul r 40, nI_add]; exact hp
    · left
      refine ⟨fun post hp => ?_, fun post hp => br_f y1 (br_t y2 (nm_r y3 (br_f h0 ⟨hin, ?_⟩)))⟩
      · unfold wpX_tokenAddress
        exact XL _ (br_f h0 (br_f (nI_nlt (by omega) hi) hp))
      · rw [nI_clamp (by omega), y4]
        exact br_f (nI_nlt (by omega) hi) hp
theorem jt_addr {S M : Nat → Nat → Int32} {L : Nat → Nat} {m : Nat} {sr : Nat → Nat} (C : rl_C S M L m sr cL hL fL kL cls dT dO dC qT cs cn cl ca ci kS kB kC kH kP kF dV sh nm ln nb) (p0 p1 : Int32) : ((∀ post : Int32 → Prop, post (-1) → wpX_tokenAddress post (qB, dB, hS, ub, nT, aK, nM, cT, cL, hL, fL, kL, cls, dT, dO, dC, qT, stt, lm, sc, ac, ev, chc, cF, cTk, hT, tT, chs, cs, cn, cl, ca, ci, kS, kB, kC, kH, kP, kF, dV, qV, ns, nn, nc, tr, fP, fB, fC, fR, fT, fN, hG, hB, hF, hK, hH, hR, hC, hP, pl, pr) p0 p1) ∧ (∀ post : Int32 → Prop, post (-1) → wpY_tokenAddress post (cL, hL, fL, kL, cls, stt, lm, sc, ac, ev, chc, hT, yd, chs, sh, nm, ln, bi, lR, lB, lC, lP, lI, gA, hB, hH, hC, hP, gD, gb, gr, gs, gc, gp, gi, yl, yr, nb) p0 p1)) ∨ ∃ ax ay, ax < 240 ∧ ay < 1360 ∧ cs ax = sh ay ∧ cn ax = nm ay ∧ (∀ post : Int32 → Prop, post (nI ax) → wpX_tokenAddress post (qB, dB, hS, ub, nT, aK, nM, cT, cL, hL, fL, kL, cls, dT, dO, dC, qT, stt, lm, sc, ac, ev, chc, cF, cTk, hT, tT, chs, cs, cn, cl, ca, ci, kS, kB, kC, kH, kP, kF, dV, qV, ns, nn, nc, tr, fP, fB, fC, fR, fT, fN, hG, hB, hF, hK, hH, hR, hC, hP, pl, pr) p0 p1) ∧ (∀ post : Int32 → Prop, post (nI ay) → wpY_tokenAddress post (cL, hL, fL, kL, cls, stt, lm, sc, ac, ev, chc, hT, yd, chs, sh, nm, ln, bi, lR, lB, lC, lP, lI, gA, hB, hH, hC, hP, gD, gb, gr, gs, gc, gp, gi, yl, yr, nb) p0 p1) := by
  obtain ⟨hlm, hnb, hcl, O, CX, CY, CK, hqT, N, DS, DM, d1, d2, d3, d4, d5, _⟩ := C
  have hm := O.1
  have hneg : ∀ x : Int32, x.toInt < 0 → x < cls := by
    intro x hx
    rw [hcl, Int32.lt_iff_toInt_lt, nI_toInt (by omega)]; omega
  have t1 : (-1 : Int32).toInt = -1 := by decide
  have t2 : (-2 : Int32).toInt = -2 := by decide
  have t0 : (0 : Int32).toInt = 0 := by decide
  by_cases c1 : p0 = -1
  · subst c1
    refine jt_tok (N := N) (s := 200) (r := 1) d1 (by omega) (fun post hp => br_t rfl (by rw [d2]; exact hp)) (fun post hp => br_t rfl hp) (by decide) (hneg _ (by rw [t1]; omega)) (by decide) d3 (fun i hi => ⟨by omega, ?_, ?_⟩)
    · obtain ⟨e1, e2, e3, e4, e5⟩ := d5 i hi
      rw [e1, show 1 * 40 + i = 40 + i by omega, e4]
    · obtain ⟨e1, e2, e3, e4, e5⟩ := d5 i hi
      rw [e2, show 1 * 40 + i = 40 + i by omega, e5]
  · by_cases c2 : p0 = -2
    · subst c2
      have hv : sg_VR m 0 := Or.inl rfl
      have h40 := (O.2 0 hv).2.1
      refine jt_tok (N := L 0) (s := 160) (r := 0) h40 (by omega) (fun post hp => br_f c1 (br_t rfl (by rw [hqT]; exact hp))) (fun post hp => br_f c1 (br_t rfl hp)) (by decide) (hneg _ (by rw [t2]; omega)) (by decide) (CY 0 hv).1 (fun i hi => ⟨by omega, ?_, ?_⟩)
      · have a := ((CX 0 hv).2 i hi).1
        rw [CK.1] at a
        rw [a, ((CY 0 hv).2 i hi).1]
      · have a := ((CX 0 hv).2 i hi).2.1
        rw [CK.1] at a
        rw [a, ((CY 0 hv).2 i hi).2]
    · by_cases c3 : p0 < 0
      · left
        have hlt : p0 < -2 := by
          rw [Int32.lt_iff_toInt_lt, t0] at c3
          rw [Int32.lt_iff_toInt_lt, t2]
          have n1 : p0.toInt ≠ -1 := fun e => c1 (Int32.toInt_inj.mp (by rw [e, t1]))
          have n2 : p0.toInt ≠ -2 := fun e => c2 (Int32.toInt_inj.mp (by rw [e, t2]))
          omega
        refine ⟨fun post hp => ?_, fun post hp => br_t hlt hp⟩
        unfold wpX_tokenAddress
        refine br_f c1 (br_f c2 (br_t c3 (br_c (fun _ => hp) (fun h => br_f h hp))))
      · obtain ⟨c, hc, rfl⟩ := nI_of c3
        have y1 : ¬ nI c < -2 := by
          rw [Int32.lt_iff_toInt_lt, t2, nI_toInt hc]; omega
        by_cases c4 : c < m
        · have hv : sg_VR m (c + 2) := Or.inr ⟨by omega, by omega⟩
          have h40 := (O.2 _ hv).2.1
          have hsr := (CX _ hv).1
          have k0 := CK.2.2.2.1 c (by omega)
          have k1 := CK.2.2.2.1 (c + 1) (by omega)
          have k5 := (CK.2.2.2.2 c c4).1
          have hlt : nI c < cls := by rw [hcl]; exact nI_lt c4 (by omega)
          refine jt_tok (N := L (c + 2)) (s := sr (c + 2)) (r := c + 2) h40 (by omega) (fun post hp => br_f c1 (br_f c2 (br_f c3 (br_t hlt ⟨?_, vp_in_nI (by omega) (by decide), ?_⟩)))) (fun post hp => br_f c1 (br_f c2 (br_f c3 (br_t hlt ⟨vp_in_nI (by omega) (by decide), ?_⟩)))) y1 hlt (nI_add c 2) (CY _ hv).1 (fun i hi => ⟨by omega, ?_, ?_⟩)
          · rw [nI_1]; exact vp_in_nI (by omega) (by decide)
          · rw [nI_1, nI_clamp (by omega), nI_clamp (by omega), k0, k1, show c + 1 + 2 = c + 3 by omega, k5, pk_sub (by omega), show sr (c + 2) + L (c + 2) - sr (c + 2) = L (c + 2) by omega]
            exact hp
          · rw [nI_clamp (by omega), k0]; exact hp
          · rw [((CX _ hv).2 i hi).1, ((CY _ hv).2 i hi).1]
          · rw [((CX _ hv).2 i hi).2.1, ((CY _ hv).2 i hi).2]
        · left
          have hlt : ¬ nI c < cls := by rw [hcl]; exact nI_nlt (by omega) hc
          refine ⟨fun post hp => ?_, fun post hp => br_f y1 (br_f hlt hp)⟩
          unfold wpX_tokenAddress
          exact br_f c1 (br_f c2 (br_f c3 (br_f hlt (br_c (fun _ => hp) (fun h => br_f h hp)))))
end
theorem vz_tokenShape {u : SX} {v : SY} (I : zz_R u v) (v1 v2 : Int32) : wpX_tokenShape (fun r => wpY_tokenShape (fun r' => r' = r ∧ zz_R u v) v v1 v2) u v1 v2 := by
  refine zz_el (P := fun u v => wpX_tokenShape (fun r => wpY_tokenShape (fun r' => r' = r ∧ zz_R u v) v v1 v2) u v1 v2) ?_ I
  intro qB dB hS ub nT aK nM cT cL hL fL kL cls dT dO dC qT stt lm sc ac ev chc cF cTk hT tT chs cs cn cl ca ci kS kB kC kH kP kF dV qV ns nn nc tr fP fB fC fR fT fN hG hB hF hK hH hR hC hP pl pr yd sh nm ln bi lR lB lC lP lI gA gD gb gr gs gc gp gi yl yr nb hA
  have Z := zz_mk hA
  obtain ⟨S, M, L, m, sr, C, R⟩ := hA
  have J := jt_addr (qB := qB) (dB := dB) (hS := hS) (ub := ub) (nT := nT) (aK := aK) (nM := nM) (cT := cT) (stt := stt) (lm := lm) (sc := sc) (ac := ac) (ev := ev) (chc := chc) (cF := cF) (cTk := cTk) (hT := hT) (tT := tT) (chs := chs) (qV := qV) (ns := ns) (nn := nn) (nc := nc) (tr := tr) (fP := fP) (fB := fB) (fC := fC) (fR := fR) (fT := fT) (fN := fN) (hG := hG) (hB := hB) (hF := hF) (hK := hK) (hH := hH) (hR := hR) (hC := hC) (hP := hP) (pl := pl) (pr := pr) (yd := yd) (bi := bi) (lR := lR) (lB := lB) (lC := lC) (lP := lP) (lI := lI) (gA := gA) (gD := gD) (gb := gb) (gr := gr) (gs := gs) (gc := gc) (gp := gp) (gi := gi) (yl := yl) (yr := yr) C v1 v2
  unfold wpX_tokenShape
  rcases J with ⟨JX, JY⟩ | ⟨ax, ay, h1, h2, h3, h4, JX, JY⟩
  · refine JX _ (br_f (by decide) ?_)
    unfold wpY_tokenShape
    exact JY _ (br_f (by decide) ⟨rfl, Z⟩)
  · refine JX _ (br_t (nI_pos' (by omega)) ⟨vp_in_nI h1 (by decide), ?_⟩)
    unfold wpY_tokenShape
    refine JY _ (br_t (nI_pos' (by omega)) ⟨vp_in_nI h2 (by decide), ?_, Z⟩)
    rw [nI_clamp (by omega), nI_clamp (by omega), h3]
theorem vz_tokenName {u : SX} {v : SY} (I : zz_R u v) (v1 v2 : Int32) : wpX_tokenName (fun r => wpY_tokenName (fun r' => r' = r ∧ zz_R u v) v v1 v2) u v1 v2 := by
  refine zz_el (P := fun u v => wpX_tokenName (fun r => wpY_tokenName (fun r' => r' = r ∧ zz_R u v) v v1 v2) u v1 v2) ?_ I
  intro qB dB hS ub nT aK nM cT cL hL fL kL cls dT dO dC qT stt lm sc ac ev chc cF cTk hT tT chs cs cn cl ca ci kS kB kC kH kP kF dV qV ns nn nc tr fP fB fC fR fT fN hG hB hF hK hH hR hC hP pl pr yd sh nm ln bi lR lB lC lP lI gA gD gb gr gs gc gp gi yl yr nb hA
  have Z := zz_mk hA
  obtain ⟨S, M, L, m, sr, C, R⟩ := hA
  have J := jt_addr (qB := qB) (dB := dB) (hS := hS) (ub := ub) (nT := nT) (aK := aK) (nM := nM) (cT := cT) (stt := stt) (lm := lm) (sc := sc) (ac := ac) (ev := ev) (chc := chc) (cF := cF) (cTk := cTk) (hT := hT) (tT := tT) (chs := chs) (qV := qV) (ns := ns) (nn := nn) (nc := nc) (tr := tr) (fP := fP) (fB := fB) (fC := fC) (fR := fR) (fT := fT) (fN := fN) (hG := hG) (hB := hB) (hF := hF) (hK := hK) (hH := hH) (hR := hR) (hC := hC) (hP := hP) (pl := pl) (pr := pr) (yd := yd) (bi := bi) (lR := lR) (lB := lB) (lC := lC) (lP := lP) (lI := lI) (gA := gA) (gD := gD) (gb := gb) (gr := gr) (gs := gs) (gc := gc) (gp := gp) (gi := gi) (yl := yl) (yr := yr) C v1 v2
  unfold wpX_tokenName
  rcases J with ⟨JX, JY⟩ | ⟨ax, ay, h1, h2, h3, h4, JX, JY⟩
  · refine JX _ (br_f (by decide) ?_)
    unfold wpY_tokenName
    exact JY _ (br_f (by decide) ⟨rfl, Z⟩)
  · refine JX _ (br_t (nI_pos' (by omega)) ⟨vp_in_nI h1 (by decide), ?_⟩)
    unfold wpY_tokenName
    refine JY _ (br_t (nI_pos' (by omega)) ⟨vp_in_nI h2 (by decide), ?_, Z⟩)
    rw [nI_clamp (by omega), nI_clamp (by omega), h4]
end
section
/-! terms of the present answer -/
def lc_X (S M : Nat → Nat → Int32) (FX : Nat → Nat) (o : Option Nat) : Int64 := match o with
  | none => -1
  | some t => tm_xt S M (FX t)
def lc_Y (FY : Nat → Nat) (o : Option Nat) : Int32 := match o with
  | none => -1
  | some t => nI (FY t)
section
variable {ns nn sh nm ln bi : Nat → Int32} {nc : Nat → Int64}
variable {S M : Nat → Nat → Int32} {L : Nat → Nat} {m top : Nat} {Lv : Nat → Prop} {FY FX : Nat → Nat}
theorem jl_53 (O : sg_OK S M L m) (C : cy_OK S M L m sh nm ln) (ht : top ≤ 256) (A : hr_A S M L m top Lv ns nn nc) (F : hr_F S M Lv nc bi FY FX) : ∀ (q g : Nat) (rest : Int32) (t : Nat), g + q = 16 → Lv t → ∃ o : Option Nat, (∀ t', o = some t' → Lv t') ∧ (∀ {qB dB hS cL hL fL kL cls dT dO dC qT stt lm sc ac ev chc cF cTk hT tT chs : Int32} {ub nT aK nM cT : Int64} {cs cn cl ca ci kS kB kC kH dV qV tr fP fB fC fR fT fN hG hB hF hK hH hR hC hP : Nat → Int32} {kP kF pl pr : Nat → Int64} (post : Int64 → Prop) (n : Nat), q < n → post (lc_X S M FX o) → wX_locate_53 post qB dB hS ub nT aK nM cT cL hL fL kL cls dT dO dC qT stt lm sc ac ev chc cF cTk hT tT chs cs cn cl ca ci kS kB kC kH kP kF dV qV ns nn nc tr fP fB fC fR fT fN hG hB hF hK hH hR hC hP pl pr n (tm_xt S M (FX t)) rest (nI g)) ∧ (∀ {cL hL fL kL cls stt lm sc ac ev chc hT yd chs : Int32} {lR lB lC lP lI gA hB hH hC hP gD gb gr gs gc gp gi yl yr : Nat → Int32} {nb : Nat} (post : Int32 → Prop) (n : Nat), q < n → post (lc_Y FY o) → wY_reach_100 post cL hL fL kL cls stt lm sc ac ev chc hT yd chs sh nm ln bi lR lB lC lP lI gA hB hH hC hP gD gb gr gs gc gp gi yl yr nb n (nI (FY t)) rest (nI g))
  | 0, g, rest, t, hg, l => by
    have e : g = 16 := by omega
    subst e
    refine ⟨some t, (fun t' h => by cases h; exact l), fun post n hn hp => ?_, fun post n hn hp => ?_⟩
    · obtain ⟨n, rfl⟩ : ∃ n', n = n' + 1 := ⟨n - 1, by omega⟩
      exact br_t (by decide) hp
    · obtain ⟨n, rfl⟩ : ∃ n', n = n' + 1 := ⟨n - 1, by omega⟩
      exact br_t (by decide) hp
  | q + 1, g, rest, t, hg, l => by
    have hge : ¬ (16 : Int32) ≤ nI g := nI_ge (b := 16) (by omega) (by decide)
    by_cases h0 : rest = 0
    · refine ⟨some t, (fun t' h => by cases h; exact l), fun post n hn hp => ?_, fun post n hn hp => ?_⟩
      · obtain ⟨n, rfl⟩ : ∃ n', n = n' + 1 := ⟨n - 1, by omega⟩
        exact br_f hge (br_t h0 hp)
      · obtain ⟨n, rfl⟩ : ∃ n', n = n' + 1 := ⟨n - 1, by omega⟩
        exact br_f hge (br_t h0 hp)
    · obtain ⟨d, hd, ed⟩ := pk_andE rest (m := 3) 2 (by decide)
      have hd4 : d < 4 := hd
      obtain ⟨LY, _⟩ := hr_FY_L F l
      obtain ⟨LX, _⟩ := hr_FX_L F l
      obtain ⟨_, _, f1, f2⟩ := F.1 t l
      have gY := (A _ LY).1
      obtain ⟨hu, _, _, h13⟩ := tm_lt O gY
      obtain ⟨r1, r2⟩ := yw_rd O C gY
      have e5 : nI (FY t) / 512 = nI (FY t / 512) := yw_512 (by omega)
      have SH : ∀ {qB dB hS cL hL fL kL cls dT dO dC qT stt lm sc ac ev chc cF cTk hT tT chs : Int32} {ub nT aK nM cT : Int64} {cs cn cl ca ci kS kB kC kH dV qV tr fP fB fC fR fT fN hG hB hF hK hH hR hC hP : Nat → Int32} {kP kF pl pr : Nat → Int64} (post : Int32 → Prop), post (tm_s S (FY t)) → wpX_shapeOf post (qB, dB, hS, ub, nT, aK, nM, cT, cL, hL, fL, kL, cls, dT, dO, dC, qT, stt, lm, sc, ac, ev, chc, cF, cTk, hT, tT, chs, cs, cn, cl, ca, ci, kS, kB, kC, kH, kP, kF, dV, qV, ns, nn, nc, tr, fP, fB, fC, fR, fT, fN, hG, hB, hF, hK, hH, hR, hC, hP, pl, pr) (tm_xt S M (FX t)) := by
        intros
        rename_i post hp
        by_cases v : tm_s S (FY t) = -1
        · refine xw_shapeOf O ht A LX ?_
          rw [f2 v, ← v]; exact hp
        · rw [(f1 v).1]
          exact xw_shapeOf O ht A LY hp
      have NONE : (nI d = 0 ∨ ¬ nI d ≤ tm_s S (FY t)) → ∃ o : Option Nat, (∀ t', o = some t' → Lv t') ∧ (∀ {qB dB hS cL hL fL kL cls dT dO dC qT stt lm sc ac ev chc cF cTk hT tT chs : Int32} {ub nT aK nM cT : Int64} {cs cn cl ca ci kS kB kC kH dV qV tr fP fB fC fR fT fN hG hB hF hK hH hR hC hP : Nat → Int32} {kP kF pl pr : Nat → Int64} (post : Int64 → Prop) (n : Nat), q + 1 < n → post (lc_X S M FX o) → wX_locate_53 post qB dB hS ub nT aK nM cT cL hL fL kL cls dT dO dC qT stt lm sc ac ev chc cF cTk hT tT chs cs cn cl ca ci kS kB kC kH kP kF dV qV ns nn nc tr fP fB fC fR fT fN hG hB hF hK hH hR hC hP pl pr n (tm_xt S M (FX t)) rest (nI g)) ∧ (∀ {cL hL fL kL cls stt lm sc ac ev chc hT yd chs : Int32} {lR lB lC lP lI gA hB hH hC hP gD gb gr gs gc gp gi yl yr : Nat → Int32} {nb : Nat} (post : Int32 → Prop) (n : Nat), q + 1 < n → post (lc_Y FY o) → wY_reach_100 post cL hL fL kL cls stt lm sc ac ev chc hT yd chs sh nm ln bi lR lB lC lP lI gA hB hH hC hP gD gb gr gs gc gp gi yl yr nb n (nI (FY t)) rest (nI g)) := by
        intro hno
        refine ⟨none, (fun t' h => by cases h), fun post n hn hp => ?_, fun post n hn hp => ?_⟩
        · obtain ⟨n, rfl⟩ : ∃ n', n = n' + 1 := ⟨n - 1, by omega⟩
          refine br_f hge (br_f h0 (nm_r ed (SH _ ?_)))
          refine br_c (fun _ => hp) (fun hz => ?_)
          exact br_f (hno.resolve_left hz) hp
        · obtain ⟨n, rfl⟩ : ∃ n', n = n' + 1 := ⟨n - 1, by omega⟩
          refine br_f hge (br_f h0 (nm_r ed (br_c (fun _ => hp) (fun hz => ⟨by decide, nm_r e5 ⟨vp_in_nI h13 (by decide), ?_⟩⟩))))
          rw [nI_clamp (by omega), r1]
          exact br_f (hno.resolve_left hz) hp
      by_cases hno : nI d = 0 ∨ ¬ nI d ≤ tm_s S (FY t)
      · exact NONE hno
      · have hdz : ¬ nI d = 0 := fun h => hno (Or.inl h)
        have hle : nI d ≤ tm_s S (FY t) := Decidable.byContradiction fun h => hno (Or.inr h)
        have hd0 : 0 < d := by
          rcases Nat.eq_zero_or_pos d with z | z
          · subst z; exact absurd rfl hdz
          · exact z
        obtain ⟨a, ha3, ha, v⟩ : ∃ a, a ≤ 3 ∧ tm_s S (FY t) = nI a ∧ tm_s S (FY t) ≠ -1 := by
          rcases tm_kind O gY with ⟨e, _⟩ | ⟨e, _⟩ | ⟨a, _, ha, e, _⟩
          · exfalso
            rw [e] at hle
            rw [Int32.le_iff_toInt_le, nI_toInt (by omega)] at hle
            have : (-1 : Int32).toInt = -1 := by decide
            rw [this] at hle; omega
          · exact ⟨0, by omega, e, by rw [e]; exact tm_nI_ne (by omega)⟩
          · exact ⟨a, ha, e, by rw [e]; exact tm_nI_ne ha⟩
        have hda : d ≤ a := by
          rw [ha, nI_leI (by omega) (by omega)] at hle; exact hle
        have hk : d - 1 < tx_ar (tm_s S (FY t)) := by rw [ha, tx_ar_n (by omega)]; omega
        obtain ⟨_, aY, cY⟩ := A _ LY
        obtain ⟨l1, ec⟩ := cY (d - 1) hk
        have sY := tm_ar_sl O gY hk
        have nY := (aY sY).1
        obtain ⟨o, o1, o2, o3⟩ := jl_53 O C ht A F q (g + 1) ((rest.toUInt32 >>> ((2 : Int32).toUInt32 &&& Int32.toUInt32 31)).toInt32) (tm_ag S (FY t) (d - 1)) (by omega) l1
        refine ⟨o, o1, fun post n hn hp => ?_, fun post n hn hp => ?_⟩
        · obtain ⟨n, rfl⟩ : ∃ n', n = n' + 1 := ⟨n - 1, by omega⟩
          refine br_f hge (br_f h0 (nm_r ed (SH _ (br_f hdz (br_t hle ?_)))))
          have ex : tm_xt S M (FX t) = lN (tm_nd S M (FY t)) := by rw [(f1 v).1]; unfold tm_xt; rw [if_neg sY]
          have ei : ((tm_xt S M (FX t)).toInt32 * 3 + nI d) - 1 = nI (tm_nd S M (FY t) * 3 + (d - 1)) := by
            rw [ex, lN_i, show nI (tm_nd S M (FY t)) * 3 = nI (tm_nd S M (FY t) * 3) from pk_mul _ 3, nI_add]
            have := nI_pred (tm_nd S M (FY t) * 3 + (d - 1))
            rw [show tm_nd S M (FY t) * 3 + (d - 1) + 1 = tm_nd S M (FY t) * 3 + d by omega] at this
            exact this
          rw [ei, nI_clamp (by omega), ec]
          refine ⟨vp_in_nI (by omega) (by decide), xw_deref O ht A F l1 (nm_e (nm_r (nI_1 g) (o2 post n (by omega) hp)))⟩
        · obtain ⟨n, rfl⟩ : ∃ n', n = n' + 1 := ⟨n - 1, by omega⟩
          refine br_f hge (br_f h0 (nm_r ed (br_f hdz ⟨by decide, nm_r e5 ⟨vp_in_nI h13 (by decide), ?_⟩⟩)))
          rw [nI_clamp (by omega), r1]
          refine br_t hle ?_
          rw [hr_div (FY t), show nI d = nI ((d - 1) + 1) by rw [show d - 1 + 1 = d by omega]]
          refine yw_argument O C gY.1 gY.2.1 hk ⟨by decide, ?_⟩
          rw [yw_m512 (by omega), yw_cd]
          exact yw_follow O C A F l1 (nm_e (nm_r (nI_1 g) (o3 post n (by omega) hp)))
end
section
variable {cL hL fL kL cls stt lm sc ac ev chc hT yd chs : Int32} {sh nm ln bi lR lB lC lP lI gA hB hH hC hP gD gb gr gs gc gp gi yl yr : Nat → Int32} {nb : Nat}
variable {S M : Nat → Nat → Int32} {L : Nat → Nat} {m : Nat} {post : Int32 → Prop} {x2 : Int32} {v : Nat}
theorem yw_r25n (O : sg_OK S M L m) (C : cy_OK S M L m sh nm ln) (hv : v < 8) (hno : ∀ j, j < L 0 → ¬ (S 0 j = -1 ∧ M 0 j = nI v)) (hp : post (-1)) : ∀ (q i n : Nat), i + q = L 0 → q < n → wY_reach_25 post (nI v) x2 cL hL fL kL cls stt lm sc ac ev chc hT yd chs sh nm ln bi lR lB lC lP lI gA hB hH hC hP gD gb gr gs gc gp gi yl yr nb n (-1) (nI i)
  | _, _, 0, _, h => by omega
  | 0, i, n + 1, hi, _ => by
    have h0 : sg_VR m 0 := Or.inl rfl
    have h40 := (O.2 0 h0).2.1
    refine And.intro ?_ ?_
    · intro _; exact br_f (by decide) hp
    · intro h; exact absurd (by rw [(C 0 h0).1]; exact nI_le (by omega) (by omega)) h
  | q + 1, i, n + 1, hi, hn => by
    have h0 : sg_VR m 0 := Or.inl rfl
    have h40 := (O.2 0 h0).2.1
    obtain ⟨c1, c2⟩ := C 0 h0
    obtain ⟨s1, s2⟩ := c2 i (by omega)
    rw [show 0 * 40 + i = i by omega] at s1 s2
    have hge : ¬ ln 0 ≤ nI i := by rw [c1]; exact nI_ge (by omega) (by omega)
    have e0 : (0 : Int32) + nI i = nI i := by have := nI_add 0 i; rw [show 0 + i = i by omega] at this; exact this
    have hin : vp_in (nI i) 1360 := vp_in_nI (by omega) (by decide)
    have IH := yw_r25n O C hv hno hp q (i + 1) n (by omega) (by omega)
    refine br_f hge (nm_r e0 (br_f (by decide) ⟨hin, ?_⟩))
    rw [nI_clamp (by omega), s1, s2]
    by_cases q1 : S 0 i = -1
    · exact br_t q1 ⟨hin, br_f (fun e => hno i (by omega) ⟨q1, e⟩) (nm_r (nI_1 i) IH)⟩
    · exact br_f q1 (nm_r (nI_1 i) IH)
theorem yw_r25f (O : sg_OK S M L m) (C : cy_OK S M L m sh nm ln) {j : Nat} (hj : j < 40) (hp : wpY_follow (fun r_6 => ∃ n100, wY_reach_100 post cL hL fL kL cls stt lm sc ac ev chc hT yd chs sh nm ln bi lR lB lC lP lI gA hB hH hC hP gD gb gr gs gc gp gi yl yr nb n100 r_6 x2 0) (cL, hL, fL, kL, cls, stt, lm, sc, ac, ev, chc, hT, yd, chs, sh, nm, ln, bi, lR, lB, lC, lP, lI, gA, hB, hH, hC, hP, gD, gb, gr, gs, gc, gp, gi, yl, yr, nb) (nI (hr_cd 0 j 0))) : ∀ (q i n : Nat), i + q = L 0 → q < n → wY_reach_25 post (nI v) x2 cL hL fL kL cls stt lm sc ac ev chc hT yd chs sh nm ln bi lR lB lC lP lI gA hB hH hC hP gD gb gr gs gc gp gi yl yr nb n (nI j) (nI i)
  | _, _, 0, _, h => by omega
  | 0, i, n + 1, hi, _ => by
    have h0 : sg_VR m 0 := Or.inl rfl
    have h40 := (O.2 0 h0).2.1
    refine br_t (by rw [(C 0 h0).1]; exact nI_le (by omega) (by omega)) (br_t (nI_pos' (by omega)) ?_)
    have e : nI j * 512 = nI (hr_cd 0 j 0) := by
      rw [show nI j * 512 = nI (j * 512) from pk_mul j 512]
      exact congrArg nI (by unfold hr_cd; omega)
    rw [e]; exact hp
  | q + 1, i, n + 1, hi, hn => by
    have h0 : sg_VR m 0 := Or.inl rfl
    have h40 := (O.2 0 h0).2.1
    have hge : ¬ ln 0 ≤ nI i := by rw [(C 0 h0).1]; exact nI_ge (by omega) (by omega)
    exact br_f hge (nm_e (br_t (nI_pos' (by omega)) (nm_r (nI_1 i) (yw_r25f O C hj hp q (i + 1) n (by omega) (by omega)))))
theorem yw_r25s (O : sg_OK S M L m) (C : cy_OK S M L m sh nm ln) (hv : v < 8) {j : Nat} (hj : j < L 0) (h1 : S 0 j = -1) (h2 : M 0 j = nI v) (hno : ∀ i, i < j → ¬ (S 0 i = -1 ∧ M 0 i = nI v)) (hp : wpY_follow (fun r_6 => ∃ n100, wY_reach_100 post cL hL fL kL cls stt lm sc ac ev chc hT yd chs sh nm ln bi lR lB lC lP lI gA hB hH hC hP gD gb gr gs gc gp gi yl yr nb n100 r_6 x2 0) (cL, hL, fL, kL, cls, stt, lm, sc, ac, ev, chc, hT, yd, chs, sh, nm, ln, bi, lR, lB, lC, lP, lI, gA, hB, hH, hC, hP, gD, gb, gr, gs, gc, gp, gi, yl, yr, nb) (nI (hr_cd 0 j 0))) : ∀ (q i n : Nat), i + q = L 0 → q < n → i ≤ j → wY_reach_25 post (nI v) x2 cL hL fL kL cls stt lm sc ac ev chc hT yd chs sh nm ln bi lR lB lC lP lI gA hB hH hC hP gD gb gr gs gc gp gi yl yr nb n (-1) (nI i)
  | _, _, 0, _, h, _ => by omega
  | 0, i, n + 1, hi, _, hij => by omega
  | q + 1, i, n + 1, hi, hn, hij => by
    have h0 : sg_VR m 0 := Or.inl rfl
    have h40 := (O.2 0 h0).2.1
    obtain ⟨c1, c2⟩ := C 0 h0
    obtain ⟨s1, s2⟩ := c2 i (by omega)
    rw [show 0 * 40 + i = i by omega] at s1 s2
    have hge : ¬ ln 0 ≤ nI i := by rw [c1]; exact nI_ge (by omega) (by omega)
    have e0 : (0 : Int32) + nI i = nI i := by have := nI_add 0 i; rw [show 0 + i = i by omega] at this; exact this
    have hin : vp_in (nI i) 1360 := vp_in_nI (by omega) (by decide)
    refine br_f hge (nm_r e0 (br_f (by decide) ⟨hin, ?_⟩))
    rw [nI_clamp (by omega), s1, s2]
    by_cases e : i = j
    · subst e
      exact br_t h1 ⟨hin, br_t h2 (nm_r (nI_1 i) (yw_r25f O C (by omega) hp q (i + 1) n (by omega) (by omega)))⟩
    · have IH := yw_r25s O C hv hj h1 h2 hno hp q (i + 1) n (by omega) (by omega) (by omega)
      by_cases q1 : S 0 i = -1
      · exact br_t q1 ⟨hin, br_f (fun e' => hno i (by omega) ⟨q1, e'⟩) (nm_r (nI_1 i) IH)⟩
      · exact br_f q1 (nm_r (nI_1 i) IH)
end
section
variable {stt : Int32} {ns nn sh nm ln bi qV : Nat → Int32} {nc : Nat → Int64}
variable {S M : Nat → Nat → Int32} {L : Nat → Nat} {m top : Nat} {Lv : Nat → Prop} {FY FX : Nat → Nat}
theorem jl_all (O : sg_OK S M L m) (C : cy_OK S M L m sh nm ln) (ht : top ≤ 256) (A : hr_A S M L m top Lv ns nn nc) (F : hr_F S M Lv nc bi FY FX) (H : stt = 3 → ql_OK S L Lv ∧ qv_OK S M L qV) (p0 p1 : Int32) : ∃ o : Option Nat, (∀ t', o = some t' → Lv t') ∧ (∀ {qB dB hS cL hL fL kL cls dT dO dC qT lm sc ac ev chc cF cTk hT tT chs : Int32} {ub nT aK nM cT : Int64} {cs cn cl ca ci kS kB kC kH dV tr fP fB fC fR fT fN hG hB hF hK hH hR hC hP : Nat → Int32} {kP kF pl pr : Nat → Int64} (post : Int64 → Prop), post (lc_X S M FX o) → wpX_locate post (qB, dB, hS, ub, nT, aK, nM, cT, cL, hL, fL, kL, cls, dT, dO, dC, qT, stt, lm, sc, ac, ev, chc, cF, cTk, hT, tT, chs, cs, cn, cl, ca, ci, kS, kB, kC, kH, kP, kF, dV, qV, ns, nn, nc, tr, fP, fB, fC, fR, fT, fN, hG, hB, hF, hK, hH, hR, hC, hP, pl, pr) p0 p1) ∧ (∀ {cL hL fL kL cls lm sc ac ev chc hT yd chs : Int32} {lR lB lC lP lI gA hB hH hC hP gD gb gr gs gc gp gi yl yr : Nat → Int32} {nb : Nat} (post : Int32 → Prop), post (lc_Y FY o) → wpY_reach post (cL, hL, fL, kL, cls, stt, lm, sc, ac, ev, chc, hT, yd, chs, sh, nm, ln, bi, lR, lB, lC, lP, lI, gA, hB, hH, hC, hP, gD, gb, gr, gs, gc, gp, gi, yl, yr, nb) p0 p1) := by
  by_cases hs : stt = 3
  · obtain ⟨Q, qv⟩ := H hs
    by_cases hneg : p0 < 0
    · exact ⟨none, (fun t' h => by cases h), fun post hp => br_t hs (br_t hneg hp), fun post hp => br_t hs (br_t hneg hp)⟩
    · by_cases h8 : p0 < 8
      · obtain ⟨v, hv31, rfl⟩ := nI_of hneg
        have hv : v < 8 := by
          have := (nI_ltI (b := 8) hv31 (by decide)).mp h8
          exact this
        have hvr : sg_VR m 0 := Or.inl rfl
        obtain ⟨w, h40, hop, _⟩ := O.2 0 hvr
        have hin : vp_in (nI v) 8 := vp_in_nI hv (by decide)
        have hq := qv v hv
        by_cases hz : tx_vs (S 0) (M 0) (L 0) v = 0
        · have hno : ∀ j, j < L 0 → ¬ (S 0 j = -1 ∧ M 0 j = nI v) := by
            rintro j hj ⟨e1, e2⟩
            exact (tx_occ.mpr ⟨j, hj, e1, by rw [e2, nI_clamp (by omega)]⟩) hz
          refine ⟨none, (fun t' h => by cases h), fun post hp => br_t hs (br_f hneg (br_t h8 ⟨hin, ?_⟩)), fun post hp => br_t hs (br_f hneg (br_t h8 ⟨L 0 + 1, yw_r25n O C hv hno hp (L 0) 0 (L 0 + 1) (by omega) (by omega)⟩))⟩
          rw [nI_clamp (by omega), hq, hz, tx_s32_0]
          exact br_f (by decide) hp
        · obtain ⟨j, ⟨hj, e1, e2⟩, least⟩ := pk_least (fun i => i < L 0 ∧ S 0 i = -1 ∧ (M 0 i).toNatClampNeg = v) (tx_occ.mp hz)
          have e3 : M 0 j = nI v := by
            rcases w j hj with ⟨q, _⟩ | ⟨_, _, x, hx, ex⟩ | ⟨a, ha, q⟩
            · rw [e1] at q; exact absurd q (by decide)
            · rw [ex, nI_clamp (by omega)] at e2; rw [ex, e2]
            · rw [e1] at q; exact absurd q.symm (tm_nI_ne ha)
          have ho : 0 < tx_op (S 0) j := by
            rcases w j hj with ⟨q, _⟩ | ⟨_, h, _⟩ | ⟨a, ha, q⟩
            · rw [e1] at q; exact absurd q (by decide)
            · exact h
            · rw [e1] at q; exact absurd q.symm (tm_nI_ne ha)
          have hno : ∀ i, i < j → ¬ (S 0 i = -1 ∧ M 0 i = nI v) := by
            rintro i hi ⟨q1, q2⟩
            exact least i hi ⟨by omega, q1, by rw [q2, nI_clamp (by omega)]⟩
          have lt := Q j hj ho
          have hslv := tx_sl_v (nm := M 0) e1 hj
          rw [e2] at hslv
          have hcn := tx_sl_le (sh := S 0) (nm := M 0) hj
          have hcl := tx_ch_n (sh := S 0) (nm := M 0) (L 0)
          have ext : tm_xt S M (hr_cd 0 j 0) = lN (tx_vs (S 0) (M 0) (L 0) v - 1) := by
            rw [tm_cd_xt (by omega) (by omega), if_neg hslv.2, hslv.1]
            rw [show 0 + (tx_vs (S 0) (M 0) (L 0) v - 1) = tx_vs (S 0) (M 0) (L 0) v - 1 by omega]
          obtain ⟨o, o1, o2, o3⟩ := jl_53 O C ht A F 16 0 p1 (hr_cd 0 j 0) (by omega) lt
          refine ⟨o, o1, fun post hp => br_t hs (br_f hneg (br_t h8 ⟨hin, ?_⟩)), fun post hp => br_t hs (br_f hneg (br_t h8 ⟨L 0 + 1, yw_r25s O C hv hj e1 e3 hno (yw_follow O C A F lt ⟨17, o3 post 17 (by omega) hp⟩) (L 0) 0 (L 0 + 1) (by omega) (by omega) (by omega)⟩))⟩
          rw [nI_clamp (by omega), hq, tx_s32_p hz]
          refine br_t (nI_pos' (by omega)) ⟨hin, ?_⟩
          rw [nI_l (by omega), ← ext]
          exact xw_deref O ht A F lt ⟨17, o2 post 17 (by omega) hp⟩
      · exact ⟨none, (fun t' h => by cases h), fun post hp => br_t hs (br_f hneg (br_f h8 hp)), fun post hp => br_t hs (br_f hneg (br_f h8 hp))⟩
  · exact ⟨none, (fun t' h => by cases h), fun post hp => br_f hs hp, fun post hp => br_f hs hp⟩
end
end
section
/-! the getters of terms -/
section
variable {qB dB hS : Int32} {ub nT aK nM cT : Int64} {cL hL fL kL cls dT dO dC qT stt lm sc ac ev chc cF cTk hT tT chs : Int32} {cs cn cl ca ci kS kB kC kH dV qV ns nn tr fP fB fC fR fT fN hG hB hF hK hH hR hC hP : Nat → Int32} {kP kF nc pl pr : Nat → Int64}
variable {S M : Nat → Nat → Int32} {L : Nat → Nat} {m top : Nat} {Lv : Nat → Prop} {FY FX : Nat → Nat} {bi : Nat → Int32}
theorem xw_shF (O : sg_OK S M L m) (ht : top ≤ 256) (A : hr_A S M L m top Lv ns nn nc) (F : hr_F S M Lv nc bi FY FX) {t : Nat} (l : Lv t) {post : Int32 → Prop} (hp : post (tm_s S (FY t))) : wpX_shapeOf post (qB, dB, hS, ub, nT, aK, nM, cT, cL, hL, fL, kL, cls, dT, dO, dC, qT, stt, lm, sc, ac, ev, chc, cF, cTk, hT, tT, chs, cs, cn, cl, ca, ci, kS, kB, kC, kH, kP, kF, dV, qV, ns, nn, nc, tr, fP, fB, fC, fR, fT, fN, hG, hB, hF, hK, hH, hR, hC, hP, pl, pr) (tm_xt S M (FX t)) := by
  obtain ⟨_, _, f1, f2⟩ := F.1 t l
  by_cases v : tm_s S (FY t) = -1
  · refine xw_shapeOf O ht A (hr_FX_L F l).1 ?_
    rw [f2 v, ← v]; exact hp
  · rw [(f1 v).1]
    exact xw_shapeOf O ht A (hr_FY_L F l).1 hp
theorem sf_3 {K : List fr_L} {G : Nat → cp_R} {T k h : Nat} {stt lm : Int32} {qV : Nat → Int32} (H : sf_OK S M L K G Lv T k h stt lm qV) (hs : stt = 3) : ql_OK S L Lv ∧ qv_OK S M L qV := by
  rcases H.2 with ⟨e, _⟩ | ⟨Q, qv, _⟩
  · rw [hs] at e; rcases e with e | e | e <;> exact absurd e (by decide)
  · exact ⟨Q, qv⟩
end
theorem vz_termShape {u : SX} {v : SY} (I : zz_R u v) (v1 v2 : Int32) : wpX_termShape (fun r => wpY_termShape (fun r' => r' = r ∧ zz_R u v) v v1 v2) u v1 v2 := by
  refine zz_el (P := fun u v => wpX_termShape (fun r => wpY_termShape (fun r' => r' = r ∧ zz_R u v) v v1 v2) u v1 v2) ?_ I
  intro qB dB hS ub nT aK nM cT cL hL fL kL cls dT dO dC qT stt lm sc ac ev chc cF cTk hT tT chs cs cn cl ca ci kS kB kC kH kP kF dV qV ns nn nc tr fP fB fC fR fT fN hG hB hF hK hH hR hC hP pl pr yd sh nm ln bi lR lB lC lP lI gA gD gb gr gs gc gp gi yl yr nb hA
  have Z := zz_mk hA
  obtain ⟨S, M, L, m, sr, C, K, G, Lv, T, k, h, R, H⟩ := hA
  obtain ⟨_, hnb, hcl, O, CX, CY, CK, hqT, hD⟩ := C
  obtain ⟨_, _, _, _, ⟨ht, A, _, FY, FX, F⟩, _⟩ := R
  obtain ⟨o, o1, JX, JY⟩ := jl_all O CY ht A F (sf_3 H) v1 v2
  unfold wpX_termShape
  refine JX _ ?_
  rcases o with _ | t
  · refine br_t (show (-1 : Int64) < 4294967296 by decide) (br_t (show (-1 : Int64) < 0 by decide) ?_)
    unfold wpY_termShape
    exact JY _ (br_f (show ¬ (0 : Int32) ≤ -1 by decide) ⟨rfl, Z⟩)
  · have l := o1 t rfl
    obtain ⟨LY, _⟩ := hr_FY_L F l
    have gY := (A _ LY).1
    obtain ⟨hu, _, _, h13⟩ := tm_lt O gY
    obtain ⟨r1, r2⟩ := yw_rd O CY gY
    refine xw_shF O ht A F l ?_
    unfold wpY_termShape
    have e5 : nI (FY t) / 512 = nI (FY t / 512) := yw_512 (by omega)
    refine JY _ (br_t (nI_pos' (by omega)) ⟨by decide, ?_, ?_, Z⟩)
    · rw [show lc_Y FY (some t) = nI (FY t) from rfl, e5]; exact vp_in_nI h13 (by decide)
    · rw [show lc_Y FY (some t) = nI (FY t) from rfl, e5, nI_clamp (by omega), r1]
theorem vz_termName {u : SX} {v : SY} (I : zz_R u v) (v1 v2 : Int32) : wpX_termName (fun r => wpY_termName (fun r' => r' = r ∧ zz_R u v) v v1 v2) u v1 v2 := by
  refine zz_el (P := fun u v => wpX_termName (fun r => wpY_termName (fun r' => r' = r ∧ zz_R u v) v v1 v2) u v1 v2) ?_ I
  intro qB dB hS ub nT aK nM cT cL hL fL kL cls dT dO dC qT stt lm sc ac ev chc cF cTk hT tT chs cs cn cl ca ci kS kB kC kH kP kF dV qV ns nn nc tr fP fB fC fR fT fN hG hB hF hK hH hR hC hP pl pr yd sh nm ln bi lR lB lC lP lI gA gD gb gr gs gc gp gi yl yr nb hA
  have Z := zz_mk hA
  obtain ⟨S, M, L, m, sr, C, K, G, Lv, T, k, h, R, H⟩ := hA
  obtain ⟨_, hnb, hcl, O, CX, CY, CK, hqT, hD⟩ := C
  obtain ⟨_, _, _, _, ⟨ht, A, _, FY, FX, F⟩, _⟩ := R
  obtain ⟨o, o1, JX, JY⟩ := jl_all O CY ht A F (sf_3 H) v1 v2
  unfold wpX_termName
  refine JX _ ?_
  rcases o with _ | t
  · refine br_t (show (-1 : Int64) < 4294967296 by decide) (br_t (show (-1 : Int64) < 0 by decide) (br_f (by decide) ?_))
    unfold wpY_termName
    exact JY _ (br_f (show ¬ (0 : Int32) ≤ -1 by decide) ⟨rfl, Z⟩)
  · have l := o1 t rfl
    obtain ⟨LY, _⟩ := hr_FY_L F l
    obtain ⟨_, _, f1, f2⟩ := F.1 t l
    have gY := (A _ LY).1
    obtain ⟨hu, _, _, h13⟩ := tm_lt O gY
    obtain ⟨r1, r2⟩ := yw_rd O CY gY
    have e5 : nI (FY t) / 512 = nI (FY t / 512) := yw_512 (by omega)
    have el : lc_Y FY (some t) = nI (FY t) := rfl
    have hin : vp_in (lc_Y FY (some t) / 512) 1360 := by rw [el, e5]; exact vp_in_nI h13 (by decide)
    have es : sh (lc_Y FY (some t) / 512).toNatClampNeg = tm_s S (FY t) := by rw [el, e5, nI_clamp (by omega), r1]
    have en : nm (lc_Y FY (some t) / 512).toNatClampNeg = tm_s M (FY t) := by rw [el, e5, nI_clamp (by omega), r2]
    refine xw_shF O ht A F l ?_
    rcases tm_kind O gY with ⟨e, _⟩ | h
    · refine br_f (by rw [e]; decide) ?_
      unfold wpY_termName
      refine JY _ (br_t (nI_pos' (by omega)) ⟨by decide, hin, ?_⟩)
      rw [es, e]
      exact br_f (by decide) ⟨rfl, Z⟩
    · obtain ⟨a, ha3, ha⟩ : ∃ a, a ≤ 3 ∧ tm_s S (FY t) = nI a := by
        rcases h with ⟨e, _⟩ | ⟨a, _, ha, e, _⟩
        · exact ⟨0, by omega, e⟩
        · exact ⟨a, ha, e⟩
      have v : tm_s S (FY t) ≠ -1 := by rw [ha]; exact tm_nI_ne ha3
      have e1 : lc_X S M FX (some t) = tm_xt S M (FY t) := (f1 v).1
      refine br_t (by rw [ha]; exact nI_pos' (by omega)) ?_
      rw [e1]
      refine xw_fkey O ht A LY v ?_
      rw [ha, kk_mk_i (by omega)]
      unfold wpY_termName
      refine JY _ (br_t (nI_pos' (by omega)) ⟨by decide, hin, ?_⟩)
      rw [es, ha]
      exact br_t (nI_pos' (by omega)) ⟨by decide, hin, en, Z⟩
theorem vz_sameVariable {u : SX} {v : SY} (I : zz_R u v) (v1 v2 v3 v4 : Int32) : wpX_sameVariable (fun r => wpY_sameVariable (fun r' => r' = r ∧ zz_R u v) v v1 v2 v3 v4) u v1 v2 v3 v4 := by
  refine zz_el (P := fun u v => wpX_sameVariable (fun r => wpY_sameVariable (fun r' => r' = r ∧ zz_R u v) v v1 v2 v3 v4) u v1 v2 v3 v4) ?_ I
  intro qB dB hS ub nT aK nM cT cL hL fL kL cls dT dO dC qT stt lm sc ac ev chc cF cTk hT tT chs cs cn cl ca ci kS kB kC kH kP kF dV qV ns nn nc tr fP fB fC fR fT fN hG hB hF hK hH hR hC hP pl pr yd sh nm ln bi lR lB lC lP lI gA gD gb gr gs gc gp gi yl yr nb hA
  have Z := zz_mk hA
  obtain ⟨S, M, L, m, sr, C, K, G, Lv, T, k, h, R, H⟩ := hA
  obtain ⟨_, hnb, hcl, O, CX, CY, CK, hqT, hD⟩ := C
  obtain ⟨_, _, _, _, ⟨ht, A, _, FY, FX, F⟩, _⟩ := R
  obtain ⟨o, o1, JX, JY⟩ := jl_all O CY ht A F (sf_3 H) v1 v2
  obtain ⟨p, p1, KX, KY⟩ := jl_all O CY ht A F (sf_3 H) v3 v4
  unfold wpX_sameVariable
  refine JX _ (KX _ ?_)
  have ne1 : ∀ t, Lv t → ¬ tm_xt S M (FX t) = -1 := fun t l => by
    have LX := (hr_FX_L F l).1
    exact tm_xt_ne O (A _ LX).1 (fun hs => by have := ((A _ LX).2.1 hs).1; omega)
  rcases o with _ | t
  · have Y0 : wpY_sameVariable (fun r' => r' = 0 ∧ zz_R (qB, dB, hS, ub, nT, aK, nM, cT, cL, hL, fL, kL, cls, dT, dO, dC, qT, stt, lm, sc, ac, ev, chc, cF, cTk, hT, tT, chs, cs, cn, cl, ca, ci, kS, kB, kC, kH, kP, kF, dV, qV, ns, nn, nc, tr, fP, fB, fC, fR, fT, fN, hG, hB, hF, hK, hH, hR, hC, hP, pl, pr) (cL, hL, fL, kL, cls, stt, lm, sc, ac, ev, chc, hT, yd, chs, sh, nm, ln, bi, lR, lB, lC, lP, lI, gA, hB, hH, hC, hP, gD, gb, gr, gs, gc, gp, gi, yl, yr, nb)) (cL, hL, fL, kL, cls, stt, lm, sc, ac, ev, chc, hT, yd, chs, sh, nm, ln, bi, lR, lB, lC, lP, lI, gA, hB, hH, hC, hP, gD, gb, gr, gs, gc, gp, gi, yl, yr, nb) v1 v2 v3 v4 := by
      unfold wpY_sameVariable
      exact JY _ (KY _ (br_t (show (-1 : Int32) < 0 by decide) ⟨rfl, Z⟩))
    refine br_c (fun _ => ?_) (fun _ => Y0)
    exact br_t (show (-1 : Int64) < 0 by decide) (br_t rfl Y0)
  · have l := o1 t rfl
    rcases p with _ | t'
    · have Y0 : wpY_sameVariable (fun r' => r' = 0 ∧ zz_R (qB, dB, hS, ub, nT, aK, nM, cT, cL, hL, fL, kL, cls, dT, dO, dC, qT, stt, lm, sc, ac, ev, chc, cF, cTk, hT, tT, chs, cs, cn, cl, ca, ci, kS, kB, kC, kH, kP, kF, dV, qV, ns, nn, nc, tr, fP, fB, fC, fR, fT, fN, hG, hB, hF, hK, hH, hR, hC, hP, pl, pr) (cL, hL, fL, kL, cls, stt, lm, sc, ac, ev, chc, hT, yd, chs, sh, nm, ln, bi, lR, lB, lC, lP, lI, gA, hB, hH, hC, hP, gD, gb, gr, gs, gc, gp, gi, yl, yr, nb)) (cL, hL, fL, kL, cls, stt, lm, sc, ac, ev, chc, hT, yd, chs, sh, nm, ln, bi, lR, lB, lC, lP, lI, gA, hB, hH, hC, hP, gD, gb, gr, gs, gc, gp, gi, yl, yr, nb) v1 v2 v3 v4 := by
        unfold wpY_sameVariable
        refine JY _ (KY _ (br_f ?_ (br_f (show ¬ (0 : Int32) ≤ -1 by decide) ⟨rfl, Z⟩)))
        exact nI_pos (by have := (tm_lt O (A _ (hr_FY_L F l).1).1).1; omega)
      exact br_f (ne1 t l) Y0
    · have l' := p1 t' rfl
      obtain ⟨LY, _⟩ := hr_FY_L F l
      obtain ⟨LX, _⟩ := hr_FX_L F l
      obtain ⟨LY', _⟩ := hr_FY_L F l'
      obtain ⟨LX', _⟩ := hr_FX_L F l'
      obtain ⟨_, _, f1, f2⟩ := F.1 t l
      obtain ⟨_, _, f1', f2'⟩ := F.1 t' l'
      have gY := (A _ LY).1
      have gY' := (A _ LY').1
      obtain ⟨a1, a2, a3, a4, a5, a6, a7, a8⟩ := yw_u_pre O CY gY gY'
      have lt1 := (tm_lt O gY).1
      have lt2 := (tm_lt O gY').1
      have el : lc_Y FY (some t) = nI (FY t) := rfl
      have el' : lc_Y FY (some t') = nI (FY t') := rfl
      have YP : ∀ x : Int32, ((tm_s S (FY t) = -1 ∧ tm_s S (FY t') = -1 ∧ tm_ce M (FY t) = tm_ce M (FY t')) → x = 1) → (¬ (tm_s S (FY t) = -1 ∧ tm_s S (FY t') = -1 ∧ tm_ce M (FY t) = tm_ce M (FY t')) → x = 0) → wpY_sameVariable (fun r' => r' = x ∧ zz_R (qB, dB, hS, ub, nT, aK, nM, cT, cL, hL, fL, kL, cls, dT, dO, dC, qT, stt, lm, sc, ac, ev, chc, cF, cTk, hT, tT, chs, cs, cn, cl, ca, ci, kS, kB, kC, kH, kP, kF, dV, qV, ns, nn, nc, tr, fP, fB, fC, fR, fT, fN, hG, hB, hF, hK, hH, hR, hC, hP, pl, pr) (cL, hL, fL, kL, cls, stt, lm, sc, ac, ev, chc, hT, yd, chs, sh, nm, ln, bi, lR, lB, lC, lP, lI, gA, hB, hH, hC, hP, gD, gb, gr, gs, gc, gp, gi, yl, yr, nb)) (cL, hL, fL, kL, cls, stt, lm, sc, ac, ev, chc, hT, yd, chs, sh, nm, ln, bi, lR, lB, lC, lP, lI, gA, hB, hH, hC, hP, gD, gb, gr, gs, gc, gp, gi, yl, yr, nb) v1 v2 v3 v4 := by
        intro x hx1 hx0
        unfold wpY_sameVariable
        refine JY _ (KY _ ?_)
        rw [el, el', a1, a2]
        refine br_f (nI_pos (by omega)) (br_t (nI_pos' (by omega)) ⟨by decide, a3, ?_⟩)
        rw [a5, a6]
        by_cases v : tm_s S (FY t) = -1
        · refine br_t v ⟨by decide, a4, ?_⟩
          by_cases v' : tm_s S (FY t') = -1
          · refine br_t v' (yw_cellOf O CY gY v (yw_cellOf O CY gY' v' ?_))
            have c1 := tm_ce_lt O gY v
            have c2 := tm_ce_lt O gY' v'
            by_cases e : tm_ce M (FY t) = tm_ce M (FY t')
            · exact br_t (by rw [e]) ⟨(hx1 ⟨v, v', e⟩).symm, Z⟩
            · exact br_f (fun e' => e ((nI_eq (by omega) (by omega)).mp e')) ⟨(hx0 (fun h => e h.2.2)).symm, Z⟩
          · exact br_f v' ⟨(hx0 (fun h => v' h.2.1)).symm, Z⟩
        · exact br_f v ⟨(hx0 (fun h => v h.1)).symm, Z⟩
      have key2 : tm_s S (FX t) = -1 → tm_s S (FY t) = -1 := fun h => Decidable.byContradiction fun h' => (f1 h').2 h
      have key2' : tm_s S (FX t') = -1 → tm_s S (FY t') = -1 := fun h => Decidable.byContradiction fun h' => (f1' h').2 h
      by_cases v : tm_s S (FX t) = -1
      · by_cases e : tm_xt S M (FX t) = tm_xt S M (FX t')
        · obtain ⟨v', en⟩ := tm_xt_eqV O ht A LX LX' v e
          have hce := (F.2 t t' l l' (key2 v) (key2' v')).mpr en
          refine br_t e (xw_isVar1 O ht A LX v (br_f (by decide) ?_))
          exact YP 1 (fun _ => rfl) (fun h => absurd ⟨key2 v, key2' v', hce⟩ h)
        · refine br_f e ?_
          refine YP 0 (fun h => absurd ?_ e) (fun _ => rfl)
          have en := (F.2 t t' l l' h.1 h.2.1).mp h.2.2
          rw [tm_xt_V O (A _ LX).1 v, tm_xt_V O (A _ LX').1 (f2' h.2.1), en]
      · have Y0 := YP 0 (fun h => absurd (f2 h.1) v) (fun _ => rfl)
        refine br_c (fun _ => xw_isVar0 O ht A LX v (br_t rfl Y0)) (fun _ => Y0)
end
section
/-! the draft -/
section
variable {qB dB hS : Int32} {ub nT aK nM cT : Int64} {cL hL fL kL cls dT dO dC qT stt lm sc ac ev chc cF cTk hT tT chs : Int32} {cs cn cl ca ci kS kB kC kH dV qV ns nn tr fP fB fC fR fT fN hG hB hF hK hH hR hC hP : Nat → Int32} {kP kF nc pl pr : Nat → Int64} {yd : Int32} {sh nm ln bi lR lB lC lP lI gA gD gb gr gs gc gp gi yl yr : Nat → Int32} {nb : Nat}
variable {S M : Nat → Nat → Int32} {L : Nat → Nat} {m : Nat} {sr : Nat → Nat}
theorem rl_dr {dT' dO' dC' : Int32} {cs' cn' cl' dV' sh' nm' ln' : Nat → Int32} (C : rl_C S M L m sr cL hL fL kL cls dT dO dC qT cs cn cl ca ci kS kB kC kH kP kF dV sh nm ln nb) (h1 : ∀ a, a < 200 → cs' a = cs a ∧ cn' a = cn a ∧ cl' a = cl a) (h2 : ∀ r i, r ≠ 1 → i < 40 → sh' (r * 40 + i) = sh (r * 40 + i) ∧ nm' (r * 40 + i) = nm (r * 40 + i)) (h3 : ∀ r, r ≠ 1 → ln' r = ln r) (D : dr_OK dT' dO' dC' cs' cn' cl' dV' sh' nm' ln') : rl_C S M L m sr cL hL fL kL cls dT' dO' dC' qT cs' cn' cl' ca ci kS kB kC kH kP kF dV' sh' nm' ln' nb := by
  obtain ⟨hlm, hnb, hcl, O, CX, CY, CK, hqT, _⟩ := C
  refine ⟨hlm, hnb, hcl, O, fun r hr => ?_, fun r hr => ?_, CK, hqT, D⟩
  · obtain ⟨a, b⟩ := CX r hr
    refine ⟨a, fun i hi => ?_⟩
    obtain ⟨b1, b2, b3, b4, b5⟩ := b i hi
    obtain ⟨e1, e2, e3⟩ := h1 (sr r + i) (by omega)
    exact ⟨by rw [e1]; exact b1, by rw [e2]; exact b2, by rw [e3]; exact b3, b4, b5⟩
  · obtain ⟨a, b⟩ := CY r hr
    have hrow := sg_row O.1 hr
    have h40 := (O.2 r hr).2.1
    refine ⟨by rw [h3 r hrow.2]; exact a, fun i hi => ?_⟩
    obtain ⟨b1, b2⟩ := b i hi
    obtain ⟨e1, e2⟩ := h2 r i hrow.2 (by omega)
    exact ⟨by rw [e1]; exact b1, by rw [e2]; exact b2⟩
theorem xw_put {N : Nat} {p0 p1 p2 : Int32} (hd : dT = nI N) (hN : N < 40) {post : SX → Prop} (hp : post (qB, dB, hS, ub, nT, aK, nM, cT, cL, hL, fL, kL, cls, nI (N + 1), dO, dC, qT, stt, lm, sc, ac, ev, chc, cF, cTk, hT, tT, chs, upd cs (200 + N) p0, upd cn (200 + N) p1, upd cl (200 + N) p2, ca, ci, kS, kB, kC, kH, kP, kF, dV, qV, ns, nn, nc, tr, fP, fB, fC, fR, fT, fN, hG, hB, hF, hK, hH, hR, hC, hP, pl, pr)) : wpX_putToken post (qB, dB, hS, ub, nT, aK, nM, cT, cL, hL, fL, kL, cls, dT, dO, dC, qT, stt, lm, sc, ac, ev, chc, cF, cTk, hT, tT, chs, cs, cn, cl, ca, ci, kS, kB, kC, kH, kP, kF, dV, qV, ns, nn, nc, tr, fP, fB, fC, fR, fT, fN, hG, hB, hF, hK, hH, hR, hC, hP, pl, pr) p0 p1 p2 := by
  subst hd
  have e : (200 : Int32) + nI N = nI (200 + N) := nI_add 200 N
  have hin : vp_in (nI (200 + N)) 240 := vp_in_nI (by omega) (by decide)
  have ec : (nI (200 + N)).toNatClampNeg = 200 + N := nI_clamp (by omega)
  exact nm_r e ⟨hin, nm_r (e' := upd cs (200 + N) p0) (by rw [ec]) ⟨hin, nm_r (e' := upd cn (200 + N) p1) (by rw [ec]) ⟨hin, nm_r (e' := upd cl (200 + N) p2) (by rw [ec]) (nm_r (nI_1 N) hp)⟩⟩⟩
theorem yw_put {N : Nat} {p0 p1 : Int32} (hd : ln 1 = nI N) (hN : N < 40) {post : SY → Prop} (hp : post (cL, hL, fL, kL, cls, stt, lm, sc, ac, ev, chc, hT, yd, chs, upd sh (40 + N) p0, upd nm (40 + N) p1, upd ln 1 (nI (N + 1)), bi, lR, lB, lC, lP, lI, gA, hB, hH, hC, hP, gD, gb, gr, gs, gc, gp, gi, yl, yr, nb)) : wpY_put post (cL, hL, fL, kL, cls, stt, lm, sc, ac, ev, chc, hT, yd, chs, sh, nm, ln, bi, lR, lB, lC, lP, lI, gA, hB, hH, hC, hP, gD, gb, gr, gs, gc, gp, gi, yl, yr, nb) p0 p1 := by
  have e : (40 : Int32) + nI N = nI (40 + N) := nI_add 40 N
  have hin : vp_in (nI (40 + N)) 1360 := vp_in_nI (by omega) (by decide)
  have ec : (nI (40 + N)).toNatClampNeg = 40 + N := nI_clamp (by omega)
  refine nm_r hd (br_f (nI_ge (b := 40) hN (by decide)) ?_)
  rw [e, ec, nI_1]
  exact ⟨hin, nm_e ⟨hin, nm_e (nm_e hp)⟩⟩
/-- a token is put into the draft -/
theorem dr_put {N : Nat} {DS DM : Nat → Int32} {s n : Int32} {dV' : Nat → Int32} (hN : N < 40) (wt : tx_WT DS DM N) (hd : ∀ i, i < N → cs (200 + i) = DS i ∧ cn (200 + i) = DM i ∧ cl (200 + i) = tx_s32 (tx_sl DS DM i) ∧ sh (40 + i) = DS i ∧ nm (40 + i) = DM i) (ht : tx_tok s (tx_op DS N) n) (hv : ∀ v, v < 8 → dV' v = tx_s32 (tx_vs (zs_set DS N s) (zs_set DM N n) (N + 1) v)) : dr_OK (nI (N + 1)) (nI (tx_op DS N - 1 + tx_ar s)) (nI (tx_ch (zs_set DS N s) (zs_set DM N n) (N + 1))) (upd cs (200 + N) s) (upd cn (200 + N) n) (upd cl (200 + N) (tx_s32 (tx_sl (zs_set DS N s) (zs_set DM N n) N))) dV' (upd sh (40 + N) s) (upd nm (40 + N) n) (upd ln 1 (nI (N + 1))) := by
  have eo : ∀ i, i ≤ N → tx_op (zs_set DS N s) i = tx_op DS i := fun i hi => tx_op_c (fun j hj => zs_n (by omega))
  refine ⟨N + 1, zs_set DS N s, zs_set DM N n, by omega, rfl, pk_us, fun i hi => ?_, fun i hi => ?_, ?_, rfl, hv⟩
  · rw [eo i (by omega)]
    by_cases e : i = N
    · subst e; rw [zs_s, zs_s]; exact ht
    · rw [zs_n e, zs_n e]; exact wt i (by omega)
  · by_cases e : i = N
    · subst e
      rw [pk_us, pk_us, pk_us, pk_us, pk_us, zs_s, zs_s]
      exact ⟨rfl, rfl, rfl, rfl, rfl⟩
    · obtain ⟨a1, a2, a3, a4, a5⟩ := hd i (by omega)
      rw [pk_un (by omega), pk_un (by omega), pk_un (by omega), pk_un (by omega), pk_un (by omega), zs_n e, zs_n e, tx_sl_c (sh := DS) (nm := DM) (fun j hj => ⟨zs_n (by omega), zs_n (by omega)⟩)]
      exact ⟨a1, a2, a3, a4, a5⟩
  · simp only [tx_op]
    rw [eo N (Nat.le_refl _), zs_s]
theorem zz_put (C : rl_C S M L m sr cL hL fL kL cls dT dO dC qT cs cn cl ca ci kS kB kC kH kP kF dV sh nm ln nb) (R : rl_R S M L m sr stt lm cF cTk yd hT tT chs qV ns nn tr nc fP fB fC fR fT fN hG hB hF hK hH hR hC hP bi lR lB lC lP lI gA gD gb gr gs gc gp gi) {N : Nat} {DS DM : Nat → Int32} {s n : Int32} {dV' : Nat → Int32} {o c l : Int32} (hN : N < 40) (wt : tx_WT DS DM N) (hd : ∀ i, i < N → cs (200 + i) = DS i ∧ cn (200 + i) = DM i ∧ cl (200 + i) = tx_s32 (tx_sl DS DM i) ∧ sh (40 + i) = DS i ∧ nm (40 + i) = DM i) (ht : tx_tok s (tx_op DS N) n) (hv : ∀ v, v < 8 → dV' v = tx_s32 (tx_vs (zs_set DS N s) (zs_set DM N n) (N + 1) v)) (ho : o = nI (tx_op DS N - 1 + tx_ar s)) (hc : c = nI (tx_ch (zs_set DS N s) (zs_set DM N n) (N + 1))) (hl : l = tx_s32 (tx_sl (zs_set DS N s) (zs_set DM N n) N)) : zz_R (qB, dB, hS, ub, nT, aK, nM, cT, cL, hL, fL, kL, cls, nI (N + 1), o, c, qT, stt, lm, sc, ac, ev, chc, cF, cTk, hT, tT, chs, upd cs (200 + N) s, upd cn (200 + N) n, upd cl (200 + N) l, ca, ci, kS, kB, kC, kH, kP, kF, dV', qV, ns, nn, nc, tr, fP, fB, fC, fR, fT, fN, hG, hB, hF, hK, hH, hR, hC, hP, pl, pr) (cL, hL, fL, kL, cls, stt, lm, sc, ac, ev, chc, hT, yd, chs, upd sh (40 + N) s, upd nm (40 + N) n, upd ln 1 (nI (N + 1)), bi, lR, lB, lC, lP, lI, gA, hB, hH, hC, hP, gD, gb, gr, gs, gc, gp, gi, yl, yr, nb) := by
  subst ho hc hl
  refine zz_mk ⟨S, M, L, m, sr, rl_dr C (fun a ha => ⟨pk_un (by omega), pk_un (by omega), pk_un (by omega)⟩) (fun r i hr hi => ?_) (fun r hr => pk_un hr) (dr_put hN wt hd ht hv), R⟩
  have : r * 40 + i ≠ 40 + N := by
    rcases Nat.lt_or_gt_of_ne hr with z | z <;> omega
  exact ⟨pk_un this, pk_un this⟩
end
theorem vz_functor {u : SX} {v : SY} (I : zz_R u v) (v1 v2 : Int32) : wpX_functor (fun r u' => wpY_functor (fun r' v' => r' = r ∧ zz_R u' v') v v1 v2) u v1 v2 := by
  refine zz_el (P := fun u v => wpX_functor (fun r u' => wpY_functor (fun r' v' => r' = r ∧ zz_R u' v') v v1 v2) u v1 v2) ?_ I
  intro qB dB hS ub nT aK nM cT cL hL fL kL cls dT dO dC qT stt lm sc ac ev chc cF cTk hT tT chs cs cn cl ca ci kS kB kC kH kP kF dV qV ns nn nc tr fP fB fC fR fT fN hG hB hF hK hH hR hC hP pl pr yd sh nm ln bi lR lB lC lP lI gA gD gb gr gs gc gp gi yl yr nb hA
  have Z := zz_mk hA
  obtain ⟨S, M, L, m, sr, C, R⟩ := hA
  have C0 := C
  obtain ⟨_, _, _, _, _, _, _, _, N, DS, DM, d1, d2, d3, d4, d5, d6, d7, d8⟩ := C
  by_cases h1 : v2 < 0
  · exact br_t h1 (br_t h1 ⟨rfl, Z⟩)
  · by_cases h2 : v2 ≤ 3
    · obtain ⟨a, ha, rfl⟩ := nI_of2 (M := 3) (n := 3) (by decide) h1 h2
      by_cases h3 : N < 40
      · have hX : dT < 40 := by rw [d2]; exact nI_lt (b := 40) h3 (by decide)
        have hY : ln 1 < 40 := by rw [d3]; exact nI_lt (b := 40) h3 (by decide)
        have hop := tx_op_le d4
        have ht : tx_tok (nI a) (tx_op DS N) v1 := Or.inr (Or.inr ⟨a, ha, rfl⟩)
        have hne : zs_set DS N (nI a) N ≠ -1 := by rw [zs_s]; exact tm_nI_ne ha
        have har : tx_ar (zs_set DS N (nI a) N) = a := by rw [zs_s]; exact tx_ar_n (by omega)
        have hoN : tx_op (zs_set DS N (nI a)) N = tx_op DS N := tx_op_c (fun j hj => zs_n (by omega))
        have hch : tx_ch (zs_set DS N (nI a)) (zs_set DM N v1) N = tx_ch DS DM N := tx_ch_c (fun j hj => ⟨zs_n (by omega), zs_n (by omega)⟩)
        have hvs : tx_vs (zs_set DS N (nI a)) (zs_set DM N v1) N = tx_vs DS DM N := tx_vs_c (fun j hj => ⟨zs_n (by omega), zs_n (by omega)⟩)
        have harn : tx_ar (nI a) = a := tx_ar_n (by omega)
        have Yp : ∀ (P : Int32 → SY → Prop), P 0 (cL, hL, fL, kL, cls, stt, lm, sc, ac, ev, chc, hT, yd, chs, upd sh (40 + N) (nI a), upd nm (40 + N) v1, upd ln 1 (nI (N + 1)), bi, lR, lB, lC, lP, lI, gA, hB, hH, hC, hP, gD, gb, gr, gs, gc, gp, gi, yl, yr, nb) → wpY_functor P (cL, hL, fL, kL, cls, stt, lm, sc, ac, ev, chc, hT, yd, chs, sh, nm, ln, bi, lR, lB, lC, lP, lI, gA, hB, hH, hC, hP, gD, gb, gr, gs, gc, gp, gi, yl, yr, nb) v1 (nI a) := fun P hp => br_f h1 (br_t h2 (br_t hY (yw_put d3 h3 hp)))
        refine br_f h1 (br_t h2 (br_t hX ?_))
        by_cases z : 0 < a ∧ 0 < tx_op DS N
        · obtain ⟨s1, s2⟩ := tx_s3 (nm := zs_set DM N v1) hne (show 0 < tx_ar (zs_set DS N (nI a) N) ∧ 0 < tx_op (zs_set DS N (nI a)) N by rw [har, hoN]; exact z)
          rw [hch] at s1
          rw [hvs] at s2
          have hsl : tx_sl (zs_set DS N (nI a)) (zs_set DM N v1) N = tx_ch DS DM N + 1 := by
            unfold tx_sl
            rw [if_neg hne, if_pos (by rw [har, hoN]; exact z), hch]
          refine br_f (by rw [d6]; exact nI_nle z.2 (by omega)) (br_f (nI_nle z.1 (by omega)) (nm_e (nm_e (nm_e (xw_put d2 h3 ?_)))))
          refine Yp _ ⟨rfl, zz_put C0 R h3 d4 d5 ht (fun v hv => by rw [s2, d8 v hv]) ?_ ?_ ?_⟩
          · rw [d6, harn, show nI (tx_op DS N) - 1 = nI (tx_op DS N - 1) from pk_sub (b := 1) z.2, nI_add]
          · rw [d7, s1, nI_1]
          · rw [d7, hsl, tx_s32_s]
        · obtain ⟨s1, s2⟩ := tx_s4 (nm := zs_set DM N v1) hne (show ¬ (0 < tx_ar (zs_set DS N (nI a) N) ∧ 0 < tx_op (zs_set DS N (nI a)) N) by rw [har, hoN]; exact z)
          rw [hch] at s1
          rw [hvs] at s2
          have hsl : tx_sl (zs_set DS N (nI a)) (zs_set DM N v1) N = 0 := by
            unfold tx_sl
            rw [if_neg hne, if_neg (by rw [har, hoN]; exact z)]
          rcases Nat.eq_zero_or_pos (tx_op DS N) with zo | zo
          · refine br_t (by rw [d6, zo]; decide) (nm_e (xw_put d2 h3 ?_))
            refine Yp _ ⟨rfl, zz_put C0 R h3 d4 d5 ht (fun v hv => by rw [s2, d8 v hv]) ?_ (by rw [d7, s1]) (by rw [hsl, tx_s32_0])⟩
            rw [d6, harn, zo, nI_add]
          · have za : a = 0 := by omega
            subst za
            refine br_f (by rw [d6]; exact nI_nle zo (by omega)) (br_t (by decide) (nm_e (nm_e (xw_put d2 h3 ?_))))
            refine Yp _ ⟨rfl, zz_put C0 R h3 d4 d5 ht (fun v hv => by rw [s2, d8 v hv]) ?_ (by rw [d7, s1]) (by rw [hsl, tx_s32_0])⟩
            rw [d6, harn, show nI (tx_op DS N) - 1 = nI (tx_op DS N - 1) from pk_sub (b := 1) zo, nI_add]
      · have hX : ¬ dT < 40 := by rw [d2]; exact nI_nlt (b := 40) (by omega) (by omega)
        have hY : ¬ ln 1 < 40 := by rw [d3]; exact nI_nlt (b := 40) (by omega) (by omega)
        exact br_f h1 (br_t h2 (br_f hX (br_f h1 (br_t h2 (br_f hY ⟨rfl, Z⟩)))))
    · exact br_f h1 (br_f h2 (br_f h1 (br_f h2 ⟨rfl, Z⟩)))
theorem vz_cut {u : SX} {v : SY} (I : zz_R u v) : wpX_cut (fun r u' => wpY_cut (fun r' v' => r' = r ∧ zz_R u' v') v) u := by
  refine zz_el (P := fun u v => wpX_cut (fun r u' => wpY_cut (fun r' v' => r' = r ∧ zz_R u' v') v) u) ?_ I
  intro qB dB hS ub nT aK nM cT cL hL fL kL cls dT dO dC qT stt lm sc ac ev chc cF cTk hT tT chs cs cn cl ca ci kS kB kC kH kP kF dV qV ns nn nc tr fP fB fC fR fT fN hG hB hF hK hH hR hC hP pl pr yd sh nm ln bi lR lB lC lP lI gA gD gb gr gs gc gp gi yl yr nb hA
  have Z := zz_mk hA
  obtain ⟨S, M, L, m, sr, C, R⟩ := hA
  have C0 := C
  obtain ⟨_, _, _, _, _, _, _, _, N, DS, DM, d1, d2, d3, d4, d5, d6, d7, d8⟩ := C
  have hop := tx_op_le d4
  have RW : rw_OK sh nm ln 1 N DS DM := ⟨by omega, d1, d3, fun i hi => ⟨(d5 i hi).2.2.2.1, (d5 i hi).2.2.2.2⟩, d4⟩
  have YO : ∀ (P : Int32 → SY → Prop), ((nI (tx_op DS N) = 0 → ((ln 1 < 40 → wpY_put (fun u => match u with | (cL, hL, fL, kL, cls, stt, lm, sc, ac, ev, chc, hT, yd, chs, sh, nm, ln, bi, lR, lB, lC, lP, lI, gA, hB, hH, hC, hP, gD, gb, gr, gs, gc, gp, gi, yl, yr, nb) => P 0 (cL, hL, fL, kL, cls, stt, lm, sc, ac, ev, chc, hT, yd, chs, sh, nm, ln, bi, lR, lB, lC, lP, lI, gA, hB, hH, hC, hP, gD, gb, gr, gs, gc, gp, gi, yl, yr, nb)) (cL, hL, fL, kL, cls, stt, lm, sc, ac, ev, chc, hT, yd, chs, sh, nm, ln, bi, lR, lB, lC, lP, lI, gA, hB, hH, hC, hP, gD, gb, gr, gs, gc, gp, gi, yl, yr, nb) (-2) 0) ∧ (¬ ln 1 < 40 → P (-3) (cL, hL, fL, kL, cls, stt, lm, sc, ac, ev, chc, hT, yd, chs, sh, nm, ln, bi, lR, lB, lC, lP, lI, gA, hB, hH, hC, hP, gD, gb, gr, gs, gc, gp, gi, yl, yr, nb)))) ∧ (¬ nI (tx_op DS N) = 0 → P (-2) (cL, hL, fL, kL, cls, stt, lm, sc, ac, ev, chc, hT, yd, chs, sh, nm, ln, bi, lR, lB, lC, lP, lI, gA, hB, hH, hC, hP, gD, gb, gr, gs, gc, gp, gi, yl, yr, nb))) → wpY_cut P (cL, hL, fL, kL, cls, stt, lm, sc, ac, ev, chc, hT, yd, chs, sh, nm, ln, bi, lR, lB, lC, lP, lI, gA, hB, hH, hC, hP, gD, gb, gr, gs, gc, gp, gi, yl, yr, nb) := by
    intro P hp
    unfold wpY_cut
    exact yw_open (r := 1) RW hp
  by_cases h0 : tx_op DS N = 0
  · have e0 : nI (tx_op DS N) = 0 := by rw [h0]; rfl
    by_cases h3 : N < 40
    · have hX : dT < 40 := by rw [d2]; exact nI_lt (b := 40) h3 (by decide)
      have hY : ln 1 < 40 := by rw [d3]; exact nI_lt (b := 40) h3 (by decide)
      have hne : zs_set DS N (-2) N ≠ -1 := by rw [zs_s]; decide
      have hz : ¬ (0 < tx_ar (zs_set DS N (-2) N) ∧ 0 < tx_op (zs_set DS N (-2)) N) := by rw [zs_s, tx_ar_m2]; omega
      obtain ⟨s1, s2⟩ := tx_s4 (nm := zs_set DM N 0) hne hz
      have hch : tx_ch (zs_set DS N (-2)) (zs_set DM N 0) N = tx_ch DS DM N := tx_ch_c (fun j hj => ⟨zs_n (by omega), zs_n (by omega)⟩)
      have hvs : tx_vs (zs_set DS N (-2)) (zs_set DM N 0) N = tx_vs DS DM N := tx_vs_c (fun j hj => ⟨zs_n (by omega), zs_n (by omega)⟩)
      have hsl : tx_sl (zs_set DS N (-2)) (zs_set DM N 0) N = 0 := by
        unfold tx_sl
        rw [if_neg hne, if_neg hz]
      rw [hch] at s1
      rw [hvs] at s2
      refine br_t (by rw [d6, e0]) (br_t hX (xw_put d2 h3 (YO _ (br_t e0 (br_t hY (yw_put d3 h3 ⟨rfl, ?_⟩))))))
      refine zz_put C0 R h3 d4 d5 (Or.inl ⟨rfl, h0, rfl⟩) (fun v hv => by rw [s2, d8 v hv]) ?_ (by rw [d7, s1]) (by rw [hsl, tx_s32_0])
      rw [d6, h0, tx_ar_m2]
    · have hX : ¬ dT < 40 := by rw [d2]; exact nI_nlt (b := 40) (by omega) (by omega)
      have hY : ¬ ln 1 < 40 := by rw [d3]; exact nI_nlt (b := 40) (by omega) (by omega)
      exact br_t (by rw [d6, e0]) (br_f hX (YO _ (br_t e0 (br_f hY ⟨rfl, Z⟩))))
  · have e0 : ¬ nI (tx_op DS N) = 0 := nI_ne0 (by omega) (by omega)
    exact br_f (by rw [d6]; exact e0) (YO _ (br_f e0 ⟨rfl, Z⟩))
end
section
/-! variables, clearing, copying -/
theorem vz_variable {u : SX} {v : SY} (I : zz_R u v) (v1 : Int32) : wpX_variable (fun r u' => wpY_variable (fun r' v' => r' = r ∧ zz_R u' v') v v1) u v1 := by
  refine zz_el (P := fun u v => wpX_variable (fun r u' => wpY_variable (fun r' v' => r' = r ∧ zz_R u' v') v v1) u v1) ?_ I
  intro qB dB hS ub nT aK nM cT cL hL fL kL cls dT dO dC qT stt lm sc ac ev chc cF cTk hT tT chs cs cn cl ca ci kS kB kC kH kP kF dV qV ns nn nc tr fP fB fC fR fT fN hG hB hF hK hH hR hC hP pl pr yd sh nm ln bi lR lB lC lP lI gA gD gb gr gs gc gp gi yl yr nb hA
  have Z := zz_mk hA
  obtain ⟨S, M, L, m, sr, C, R⟩ := hA
  have C0 := C
  obtain ⟨_, _, _, _, _, _, _, _, N, DS, DM, d1, d2, d3, d4, d5, d6, d7, d8⟩ := C
  have hop := tx_op_le d4
  have RW : rw_OK sh nm ln 1 N DS DM := ⟨by omega, d1, d3, fun i hi => ⟨(d5 i hi).2.2.2.1, (d5 i hi).2.2.2.2⟩, d4⟩
  by_cases h1 : v1 < 0
  · exact br_t h1 (br_t h1 ⟨rfl, Z⟩)
  · by_cases h2 : v1 < 8
    · obtain ⟨x, hx31, rfl⟩ := nI_of h1
      have hx : x < 8 := (nI_ltI (b := 8) hx31 (by decide)).mp h2
      have hin : vp_in (nI x) 8 := vp_in_nI hx (by decide)
      have ec : (nI x).toNatClampNeg = x := nI_clamp hx31
      refine br_f h1 (br_t h2 ?_)
      by_cases h0 : tx_op DS N = 0
      · have e0 : nI (tx_op DS N) = 0 := by rw [h0]; rfl
        exact br_t (by rw [d6, e0]) (br_f h1 (br_t h2 (yw_open (r := 1) RW (br_t e0 ⟨rfl, Z⟩))))
      · have e0 : ¬ nI (tx_op DS N) = 0 := nI_ne0 (by omega) (by omega)
        refine br_f (by rw [d6]; exact e0) ?_
        by_cases h3 : N < 40
        · have hX : dT < 40 := by rw [d2]; exact nI_lt (b := 40) h3 (by decide)
          have hY : ln 1 < 40 := by rw [d3]; exact nI_lt (b := 40) h3 (by decide)
          have Yp : ∀ (P : Int32 → SY → Prop), P 0 (cL, hL, fL, kL, cls, stt, lm, sc, ac, ev, chc, hT, yd, chs, upd sh (40 + N) (-1), upd nm (40 + N) (nI x), upd ln 1 (nI (N + 1)), bi, lR, lB, lC, lP, lI, gA, hB, hH, hC, hP, gD, gb, gr, gs, gc, gp, gi, yl, yr, nb) → wpY_variable P (cL, hL, fL, kL, cls, stt, lm, sc, ac, ev, chc, hT, yd, chs, sh, nm, ln, bi, lR, lB, lC, lP, lI, gA, hB, hH, hC, hP, gD, gb, gr, gs, gc, gp, gi, yl, yr, nb) (nI x) := fun P hp => br_f h1 (br_t h2 (yw_open (r := 1) RW (br_f e0 (br_t hY (yw_put d3 h3 hp)))))
          have ht : tx_tok (-1) (tx_op DS N) (nI x) := Or.inr (Or.inl ⟨rfl, by omega, x, hx, rfl⟩)
          have hv1 : zs_set DS N (-1) N = -1 := zs_s
          have hcl : (zs_set DM N (nI x) N).toNatClampNeg = x := by rw [zs_s]; exact ec
          have hch : tx_ch (zs_set DS N (-1)) (zs_set DM N (nI x)) N = tx_ch DS DM N := tx_ch_c (fun j hj => ⟨zs_n (by omega), zs_n (by omega)⟩)
          have hvs : tx_vs (zs_set DS N (-1)) (zs_set DM N (nI x)) N = tx_vs DS DM N := tx_vs_c (fun j hj => ⟨zs_n (by omega), zs_n (by omega)⟩)
          have hcn := tx_ch_n (sh := DS) (nm := DM) N
          have hvl := tx_vs_le (sh := DS) (nm := DM) N x
          have eo : dO - 1 = nI (tx_op DS N - 1 + tx_ar (-1)) := by
            rw [d6, tx_ar_m1, Nat.add_zero]
            exact pk_sub (b := 1) (by omega)
          refine br_t hX ⟨hin, ?_⟩
          rw [ec, d8 x hx]
          by_cases hz : tx_vs DS DM N x = 0
          · obtain ⟨s1, s2⟩ := tx_s1 (nm := zs_set DM N (nI x)) hv1 (by rw [hcl, hvs]; exact hz)
            rw [hch] at s1
            have hsl : tx_sl (zs_set DS N (-1)) (zs_set DM N (nI x)) N = tx_ch DS DM N + 1 := by
              unfold tx_sl
              rw [if_pos hv1, s2, if_pos rfl, hch]
            rw [hz, tx_s32_0]
            refine br_f (by decide) ⟨hin, nm_r (e' := upd dV x dC) rfl (nm_e (nm_e ⟨hin, ?_⟩))⟩
            rw [ec, pk_us]
            refine xw_put d2 h3 (Yp _ ⟨rfl, zz_put C0 R h3 d4 d5 ht (fun w hw => ?_) eo ?_ ?_⟩)
            · rw [s2, hcl, hch, hvs]
              by_cases e : w = x
              · subst e; rw [pk_us, if_pos rfl, tx_s32_s, d7]
              · rw [pk_un e, if_neg e]; exact d8 w hw
            · rw [d7, s1, nI_1]
            · rw [d7, hsl, tx_s32_s]
          · obtain ⟨s1, s2⟩ := tx_s2 (nm := zs_set DM N (nI x)) hv1 (by rw [hcl, hvs]; exact hz)
            rw [hch] at s1
            rw [hvs] at s2
            have hsl : tx_sl (zs_set DS N (-1)) (zs_set DM N (nI x)) N = tx_vs DS DM N x := by
              unfold tx_sl
              rw [if_pos hv1, s2, hcl]
            refine br_t (by rw [tx_s32_p hz]; exact nI_pos' (by omega)) (nm_e ⟨hin, ?_⟩)
            rw [ec, d8 x hx]
            refine xw_put d2 h3 (Yp _ ⟨rfl, zz_put C0 R h3 d4 d5 ht (fun w hw => by rw [s2, d8 w hw]) eo ?_ ?_⟩)
            · rw [d7, s1]
            · rw [hsl]
        · have hX : ¬ dT < 40 := by rw [d2]; exact nI_nlt (b := 40) (by omega) (by omega)
          have hY : ¬ ln 1 < 40 := by rw [d3]; exact nI_nlt (b := 40) (by omega) (by omega)
          exact br_f hX (br_f h1 (br_t h2 (yw_open (r := 1) RW (br_f e0 (br_f hY ⟨rfl, Z⟩)))))
    · exact br_f h1 (br_f h2 (br_f h1 (br_f h2 ⟨rfl, Z⟩)))
section
variable {qB dB hS : Int32} {ub nT aK nM cT : Int64} {cL hL fL kL cls dT dO dC qT stt lm sc ac ev chc cF cTk hT tT chs : Int32} {cs cn cl ca ci kS kB kC kH dV qV ns nn tr fP fB fC fR fT fN hG hB hF hK hH hR hC hP : Nat → Int32} {kP kF nc pl pr : Nat → Int64} {yd : Int32} {sh nm ln bi lR lB lC lP lI gA gD gb gr gs gc gp gi yl yr : Nat → Int32} {nb : Nat}
variable {S M : Nat → Nat → Int32} {L : Nat → Nat} {m : Nat} {sr : Nat → Nat}
theorem xw_c17 {post : SX → Prop} (hp : post (qB, dB, hS, ub, nT, aK, nM, cT, cL, hL, fL, kL, cls, dT, dO, dC, qT, stt, lm, sc, ac, ev, chc, cF, cTk, hT, tT, chs, cs, cn, cl, ca, ci, kS, kB, kC, kH, kP, kF, pw_I dV 0 8 (fun _ => -1), qV, ns, nn, nc, tr, fP, fB, fC, fR, fT, fN, hG, hB, hF, hK, hH, hR, hC, hP, pl, pr)) : ∀ (q i n : Nat), i + q = 8 → q < n → wX_clearDraft_17 post qB dB hS ub nT aK nM cT cL hL fL kL cls dT dO dC qT stt lm sc ac ev chc cF cTk hT tT chs n (nI i) cs cn cl ca ci kS kB kC kH kP kF (pw_I dV 0 i (fun _ => -1)) qV ns nn nc tr fP fB fC fR fT fN hG hB hF hK hH hR hC hP pl pr
  | _, _, 0, _, h => by omega
  | 0, i, n + 1, hi, _ => by
    have e : i = 8 := by omega
    subst e
    exact br_t (by decide) hp
  | q + 1, i, n + 1, hi, hn => by
    refine br_f (nI_ge (b := 8) (by omega) (by decide)) ⟨vp_in_nI (by omega) (by decide), nm_r (e' := pw_I dV 0 (i + 1) (fun _ => -1)) ?_ (nm_r (nI_1 i) (xw_c17 hp q (i + 1) n (by omega) (by omega)))⟩
    rw [nI_clamp (by omega), ← pw_Iup (Nat.zero_le _)]
theorem xw_clearD {post : SX → Prop} (hp : post (qB, dB, hS, ub, nT, aK, nM, cT, cL, hL, fL, kL, cls, 0, 0, 0, qT, stt, lm, sc, ac, ev, chc, cF, cTk, hT, tT, chs, cs, cn, cl, ca, ci, kS, kB, kC, kH, kP, kF, pw_I dV 0 8 (fun _ => -1), qV, ns, nn, nc, tr, fP, fB, fC, fR, fT, fN, hG, hB, hF, hK, hH, hR, hC, hP, pl, pr)) : wpX_clearDraft post (qB, dB, hS, ub, nT, aK, nM, cT, cL, hL, fL, kL, cls, dT, dO, dC, qT, stt, lm, sc, ac, ev, chc, cF, cTk, hT, tT, chs, cs, cn, cl, ca, ci, kS, kB, kC, kH, kP, kF, dV, qV, ns, nn, nc, tr, fP, fB, fC, fR, fT, fN, hG, hB, hF, hK, hH, hR, hC, hP, pl, pr) := by
  refine ⟨9, ?_⟩
  have := xw_c17 (dV := dV) hp 8 0 9 (by omega) (by omega)
  rw [pw_I0 (Nat.le_refl _)] at this
  exact this
theorem dr_nil : dr_OK 0 0 0 cs cn cl (pw_I dV 0 8 (fun _ => -1)) sh nm (upd ln 1 0) := by
  refine ⟨0, fun _ => 0, fun _ => 0, by omega, rfl, pk_us, fun i hi => by omega, fun i hi => by omega, rfl, rfl, fun v hv => ?_⟩
  rw [pw_Iin (Nat.zero_le _) hv]
  exact tx_s32_0.symm
end
theorem vz_clearDraft {u : SX} {v : SY} (I : zz_R u v) : wpX_clearDraft (fun u' => wpY_clearDraft (fun v' => zz_R u' v') v) u := by
  refine zz_el (P := fun u v => wpX_clearDraft (fun u' => wpY_clearDraft (fun v' => zz_R u' v') v) u) ?_ I
  intro qB dB hS ub nT aK nM cT cL hL fL kL cls dT dO dC qT stt lm sc ac ev chc cF cTk hT tT chs cs cn cl ca ci kS kB kC kH kP kF dV qV ns nn nc tr fP fB fC fR fT fN hG hB hF hK hH hR hC hP pl pr yd sh nm ln bi lR lB lC lP lI gA gD gb gr gs gc gp gi yl yr nb hA
  obtain ⟨S, M, L, m, sr, C, R⟩ := hA
  exact xw_clearD (nm_e (zz_mk ⟨S, M, L, m, sr, rl_dr C (fun a ha => ⟨rfl, rfl, rfl⟩) (fun r i hr hi => ⟨rfl, rfl⟩) (fun r hr => pk_un hr) dr_nil, R⟩))
section
variable {cL hL fL kL cls stt lm sc ac ev chc hT yd chs : Int32} {sh nm ln bi lR lB lC lP lI gA hB hH hC hP gD gb gr gs gc gp gi yl yr : Nat → Int32} {nb : Nat}
theorem yw_cp2 {x N : Nat} {DS DM : Nat → Int32} (hx : x < 34) (hx1 : x ≠ 1) (hN : N ≤ 40) (hln : ln 1 = nI N) (hd : ∀ i, i < N → sh (40 + i) = DS i ∧ nm (40 + i) = DM i) {post : SY → Prop} (hp : post (cL, hL, fL, kL, cls, stt, lm, sc, ac, ev, chc, hT, yd, chs, pw_I sh (x * 40) (x * 40 + N) (fun y => DS (y - x * 40)), pw_I nm (x * 40) (x * 40 + N) (fun y => DM (y - x * 40)), upd ln x (nI N), bi, lR, lB, lC, lP, lI, gA, hB, hH, hC, hP, gD, gb, gr, gs, gc, gp, gi, yl, yr, nb)) : ∀ (q i n : Nat), i + q = N → q < n → wY_copyText_2 post (nI 1) (nI x) cL hL fL kL cls stt lm sc ac ev chc hT yd chs nb n (nI i) (pw_I sh (x * 40) (x * 40 + i) (fun y => DS (y - x * 40))) (pw_I nm (x * 40) (x * 40 + i) (fun y => DM (y - x * 40))) ln bi lR lB lC lP lI gA hB hH hC hP gD gb gr gs gc gp gi yl yr
  | _, _, 0, _, h => by omega
  | 0, i, n + 1, hi, _ => by
    have e : i = N := by omega
    subst e
    refine And.intro (vp_in_nI (by omega) (by decide)) ?_
    have e1 : (nI 1).toNatClampNeg = 1 := by decide
    have ex : (nI x).toNatClampNeg = x := nI_clamp (by omega)
    rw [e1, hln]
    refine br_t (nI_le (Nat.le_refl _) (by omega)) ⟨vp_in_nI (by omega) (by decide), vp_in_nI (by omega) (by decide), nm_r (e' := upd ln x (nI i)) (by rw [ex]) hp⟩
  | q + 1, i, n + 1, hi, hn => by
    have e1 : (nI 1).toNatClampNeg = 1 := by decide
    have a1 : nI 1 * 40 + nI i = nI (40 + i) := by
      have : nI 1 * 40 = nI 40 := by decide
      rw [this, nI_add]
    have a2 : nI x * 40 + nI i = nI (x * 40 + i) := by
      rw [show nI x * 40 = nI (x * 40) from pk_mul x 40, nI_add]
    have v1 : vp_in (nI 1 * 40 + nI i) 1360 := by rw [a1]; exact vp_in_nI (by omega) (by decide)
    have v2 : vp_in (nI x * 40 + nI i) 1360 := by rw [a2]; exact vp_in_nI (by omega) (by decide)
    have hne : ∀ (f : Nat → Int32) (w : Nat → Int32), pw_I f (x * 40) (x * 40 + i) w (40 + i) = f (40 + i) := by
      intro f w
      refine pw_Io ?_
      rcases Nat.lt_or_gt_of_ne hx1 with z | z <;> omega
    obtain ⟨d1, d2⟩ := hd i (by omega)
    refine And.intro (vp_in_nI (by omega) (by decide)) ?_
    rw [e1, hln]
    refine br_f (nI_ge (by omega) (by omega)) ⟨v1, v2, nm_r (e' := pw_I sh (x * 40) (x * 40 + (i + 1)) (fun y => DS (y - x * 40))) ?_ ⟨v1, v2, nm_r (e' := pw_I nm (x * 40) (x * 40 + (i + 1)) (fun y => DM (y - x * 40))) ?_ (nm_r (nI_1 i) ?_)⟩⟩
    · rw [a1, a2, nI_clamp (by omega), nI_clamp (by omega), hne, d1, ← Nat.add_assoc, ← pw_Iup (by omega), Nat.add_sub_cancel_left]
    · rw [a1, a2, nI_clamp (by omega), nI_clamp (by omega), hne, d2, ← Nat.add_assoc, ← pw_Iup (by omega), Nat.add_sub_cancel_left]
    · exact yw_cp2 hx hx1 hN hln hd hp q (i + 1) n (by omega) (by omega)
theorem yw_copy {x N : Nat} {DS DM : Nat → Int32} (hx : x < 34) (hx1 : x ≠ 1) (hN : N ≤ 40) (hln : ln 1 = nI N) (hd : ∀ i, i < N → sh (40 + i) = DS i ∧ nm (40 + i) = DM i) {post : SY → Prop} (hp : post (cL, hL, fL, kL, cls, stt, lm, sc, ac, ev, chc, hT, yd, chs, pw_I sh (x * 40) (x * 40 + N) (fun y => DS (y - x * 40)), pw_I nm (x * 40) (x * 40 + N) (fun y => DM (y - x * 40)), upd ln x (nI N), bi, lR, lB, lC, lP, lI, gA, hB, hH, hC, hP, gD, gb, gr, gs, gc, gp, gi, yl, yr, nb)) : wpY_copyText post (cL, hL, fL, kL, cls, stt, lm, sc, ac, ev, chc, hT, yd, chs, sh, nm, ln, bi, lR, lB, lC, lP, lI, gA, hB, hH, hC, hP, gD, gb, gr, gs, gc, gp, gi, yl, yr, nb) 1 (nI x) := by
  refine ⟨N + 1, ?_⟩
  have := yw_cp2 hx hx1 hN hln hd hp N 0 (N + 1) (by omega) (by omega)
  rw [show x * 40 + 0 = x * 40 from rfl, pw_I0 (Nat.le_refl _), pw_I0 (Nat.le_refl _)] at this
  exact this
end
end
section
/-! the component copies and links a text, compiles a head -/
def lk_F (DS : Nat → Int32) (s N q : Nat) (ca ci ca' ci' : Nat → Int32) : Prop := (∀ i, q ≤ i → i < N → ca' (s + i) = nI (s + tx_en DS i) ∧ ci' (s + i) = nI (tx_ic DS N i)) ∧ (∀ a, (a < s ∨ s + N ≤ a) → ca' a = ca a ∧ ci' a = ci a)
section
variable {qB dB hS : Int32} {ub nT aK nM cT : Int64} {cL hL fL kL cls dT dO dC qT stt lm sc ac ev chc cF cTk hT tT chs : Int32} {cs cn cl ca ci kS kB kC kH dV qV ns nn tr fP fB fC fR fT fN hG hB hF hK hH hR hC hP : Nat → Int32} {kP kF nc pl pr : Nat → Int64}
variable {DS DM : Nat → Int32} {s N : Nat}
theorem xw_l25 (wt : tx_WT DS DM N) (h40 : N ≤ 40) (hop : tx_op DS N = 0) (hs : s + N ≤ 200) {i : Nat} (hi : i < N) {post : SX → Prop} {n : Nat} (L1 : ∀ j, i < j → j < N → ca (s + j) = nI (s + tx_en DS j) ∧ ci (s + j) = nI (tx_ic DS N j)) (hp : ∀ ca' ci', ca' = upd ca (s + i) (nI (s + tx_en DS i)) → (∀ a, a ≠ s + i → ci' a = ci a) → ci' (s + i) = nI (tx_ic DS N i) → wX_linkText_4 post (nI s) (nI (s + N)) qB dB hS ub nT aK nM cT cL hL fL kL cls dT dO dC qT stt lm sc ac ev chc cF cTk hT tT chs n (tx_s32 (s + i)) cs cn cl ca' ci' kS kB kC kH kP kF dV qV ns nn nc tr fP fB fC fR fT fN hG hB hF hK hH hR hC hP pl pr) : ∀ (q k n25 : Nat), k + q = tx_ar (DS i) → q < n25 → wX_linkText_25 post (wX_linkText_4 post (nI s) (nI (s + N)) qB dB hS ub nT aK nM cT cL hL fL kL cls dT dO dC qT stt lm sc ac ev chc cF cTk hT tT chs n) (nI s) (nI (s + N)) (nI (s + i)) (DS i) qB dB hS ub nT aK nM cT cL hL fL kL cls dT dO dC qT stt lm sc ac ev chc cF cTk hT tT chs cs cn cl ca ci kS kB kC kH kP kF dV qV ns nn nc tr fP fB fC fR fT fN hG hB hF hK hH hR hC hP pl pr n25 (nI (s + tx_ag DS i k)) (nI k)
  | _, _, 0, _, h => by omega
  | 0, k, n25 + 1, hk, _ => by
    have h3 := tx_tok_ar (wt i hi)
    have ek : k = tx_ar (DS i) := by omega
    have hle : DS i ≤ nI k := by
      rcases wt i hi with ⟨e, _⟩ | ⟨e, _⟩ | ⟨a, ha, e⟩
      · rw [e]; exact Int32.le_trans (by decide) (nI_pos' (by omega))
      · rw [e]; exact Int32.le_trans (by decide) (nI_pos' (by omega))
      · rw [e, tx_ar_n (by omega)] at ek
        rw [e]; exact nI_le (by omega) (by omega)
    have hen := tx_en_1 h40 hop hi
    have ea : tx_ag DS i k = tx_en DS i := by rw [ek]; exact tx_ag_en h40 hop hi
    have hin : vp_in (nI (s + i)) 240 := vp_in_nI (by omega) (by decide)
    have ec : (nI (s + i)).toNatClampNeg = s + i := nI_clamp (by omega)
    have hic := tx_ic_s h40 hop hi
    rw [ea]
    refine br_t hle ⟨hin, nm_r (e' := upd ca (s + i) (nI (s + tx_en DS i))) (by rw [ec]) ⟨hin, nm_r (e' := upd ci (s + i) 1) (by rw [ec]) ?_⟩⟩
    by_cases hl : tx_en DS i < N
    · refine br_f (nI_ge (by omega) (by omega)) ⟨vp_in_nI (by omega) (by decide), hin, nm_r (e' := upd (upd ci (s + i) 1) (s + i) (nI (tx_ic DS N i))) ?_ (nm_r (tx_s32_m _) ?_)⟩
      · rw [ec, nI_clamp (by omega), pk_un (by omega), (L1 _ hen.1 hl).2, nI_1, ← hic]
      · refine hp _ _ rfl (fun a ha => ?_) pk_us
        rw [pk_un ha, pk_un ha]
    · refine br_t (nI_le (by omega) (by omega)) (nm_r (tx_s32_m _) ?_)
      refine hp _ _ rfl (fun a ha => pk_un ha) ?_
      rw [pk_us, hic, tx_ic_0 (by omega)]; rfl
  | q + 1, k, n25 + 1, hk, hn => by
    have h3 := tx_tok_ar (wt i hi)
    obtain ⟨a1, a2, a3, a4⟩ := tx_ag_lt h40 hop hi (show k < tx_ar (DS i) by omega)
    have hq : DS i = nI (tx_ar (DS i)) := by
      rcases wt i hi with ⟨e, _⟩ | ⟨e, _⟩ | ⟨a, ha, e⟩
      · rw [e, tx_ar_m2] at hk; omega
      · rw [e, tx_ar_m1] at hk; omega
      · rw [e, tx_ar_n (by omega)]
    have hle : ¬ DS i ≤ nI k := by rw [hq]; exact nI_ge (by omega) (by omega)
    refine br_f hle ⟨vp_in_nI (by omega) (by decide), nm_r (e' := nI (s + tx_ag DS i (k + 1))) ?_ (nm_r (nI_1 k) ?_)⟩
    · rw [nI_clamp (by omega), (L1 _ a1 a3).1]; rfl
    · exact xw_l25 wt h40 hop hs hi L1 hp q (k + 1) n25 (by omega) (by omega)
theorem xw_l4 (wt : tx_WT DS DM N) (h40 : N ≤ 40) (hop : tx_op DS N = 0) (hs : s + N ≤ 200) (hcs : ∀ i, i < N → cs (s + i) = DS i) {post : SX → Prop} {ca0 ci0 : Nat → Int32} (hp : ∀ ca' ci', lk_F DS s N 0 ca0 ci0 ca' ci' → post (qB, dB, hS, ub, nT, aK, nM, cT, cL, hL, fL, kL, cls, dT, dO, dC, qT, stt, lm, sc, ac, ev, chc, cF, cTk, hT, tT, chs, cs, cn, cl, ca', ci', kS, kB, kC, kH, kP, kF, dV, qV, ns, nn, nc, tr, fP, fB, fC, fR, fT, fN, hG, hB, hF, hK, hH, hR, hC, hP, pl, pr)) : ∀ (q n : Nat) (ca ci : Nat → Int32), q ≤ N → q < n → lk_F DS s N q ca0 ci0 ca ci → wX_linkText_4 post (nI s) (nI (s + N)) qB dB hS ub nT aK nM cT cL hL fL kL cls dT dO dC qT stt lm sc ac ev chc cF cTk hT tT chs n (tx_s32 (s + q)) cs cn cl ca ci kS kB kC kH kP kF dV qV ns nn nc tr fP fB fC fR fT fN hG hB hF hK hH hR hC hP pl pr
  | _, 0, _, _, _, h, _ => by omega
  | 0, n + 1, ca, ci, _, _, f => by
    refine br_t ?_ (hp ca ci f)
    rw [Nat.add_zero]
    rcases Nat.eq_zero_or_pos s with z | z
    · subst z; decide
    · rw [tx_s32_p (by omega)]; exact nI_lt (by omega) (by omega)
  | q + 1, n + 1, ca, ci, hq, hn, f => by
    have ec : (nI (s + q)).toNatClampNeg = s + q := nI_clamp (by omega)
    rw [show s + (q + 1) = (s + q) + 1 by omega, tx_s32_s]
    refine br_f (nI_nlt (by omega) (by omega)) (nm_r (e' := nI (s + tx_ag DS q 0)) (nI_1 _) ⟨vp_in_nI (by omega) (by decide), nm_r (e' := DS q) (by rw [ec]; exact hcs q (by omega)) ⟨tx_ar (DS q) + 1, ?_⟩⟩)
    have hen := tx_en_1 h40 hop (show q < N by omega)
    refine xw_l25 wt h40 hop hs (show q < N by omega) (fun j h1 h2 => f.1 j (by omega) h2) ?_ (tx_ar (DS q)) 0 _ (by omega) (by omega)
    intro ca' ci' e1 e2 e3
    refine xw_l4 wt h40 hop hs hcs hp q n ca' ci' (by omega) (by omega) ⟨fun j h1 h2 => ?_, fun a ha => ?_⟩
    · by_cases e : j = q
      · subst e; rw [e1, pk_us]; exact ⟨rfl, e3⟩
      · rw [e1, pk_un (by omega), e2 _ (by omega)]
        exact f.1 j (by omega) h2
    · rw [e1, pk_un (by omega), e2 _ (by omega)]
      exact f.2 a ha
theorem xw_link (wt : tx_WT DS DM N) (h40 : N ≤ 40) (hop : tx_op DS N = 0) (hs : s + N ≤ 200) (hcs : ∀ i, i < N → cs (s + i) = DS i) {post : SX → Prop} (hp : ∀ ca' ci', lk_F DS s N 0 ca ci ca' ci' → post (qB, dB, hS, ub, nT, aK, nM, cT, cL, hL, fL, kL, cls, dT, dO, dC, qT, stt, lm, sc, ac, ev, chc, cF, cTk, hT, tT, chs, cs, cn, cl, ca', ci', kS, kB, kC, kH, kP, kF, dV, qV, ns, nn, nc, tr, fP, fB, fC, fR, fT, fN, hG, hB, hF, hK, hH, hR, hC, hP, pl, pr)) : wpX_linkText post (qB, dB, hS, ub, nT, aK, nM, cT, cL, hL, fL, kL, cls, dT, dO, dC, qT, stt, lm, sc, ac, ev, chc, cF, cTk, hT, tT, chs, cs, cn, cl, ca, ci, kS, kB, kC, kH, kP, kF, dV, qV, ns, nn, nc, tr, fP, fB, fC, fR, fT, fN, hG, hB, hF, hK, hH, hR, hC, hP, pl, pr) (nI s) (nI (s + N)) :=
  nm_r (e' := tx_s32 (s + N)) rfl ⟨N + 1, xw_l4 wt h40 hop hs hcs hp N (N + 1) ca ci (Nat.le_refl _) (by omega) ⟨fun i h1 h2 => by omega, fun _ _ => ⟨rfl, rfl⟩⟩⟩
theorem xw_cp2 (wt : tx_WT DS DM N) (h40 : N ≤ 40) (hop : tx_op DS N = 0) (hs : s + N ≤ 200) (hd : ∀ i, i < N → cs (200 + i) = DS i ∧ cn (200 + i) = DM i ∧ cl (200 + i) = tx_s32 (tx_sl DS DM i)) {post : SX → Prop} (hp : ∀ ca' ci', lk_F DS s N 0 ca ci ca' ci' → post (qB, dB, hS, ub, nT, aK, nM, cT, cL, hL, fL, kL, cls, nI N, dO, dC, qT, stt, lm, sc, ac, ev, chc, cF, cTk, hT, tT, chs, pw_I cs s (s + N) (fun y => DS (y - s)), pw_I cn s (s + N) (fun y => DM (y - s)), pw_I cl s (s + N) (fun y => tx_s32 (tx_sl DS DM (y - s))), ca', ci', kS, kB, kC, kH, kP, kF, dV, qV, ns, nn, nc, tr, fP, fB, fC, fR, fT, fN, hG, hB, hF, hK, hH, hR, hC, hP, pl, pr)) : ∀ (q i n : Nat), i + q = N → q < n → wX_copyDraft_2 post (nI s) qB dB hS ub nT aK nM cT cL hL fL kL cls (nI N) dO dC qT stt lm sc ac ev chc cF cTk hT tT chs n (nI i) (pw_I cs s (s + i) (fun y => DS (y - s))) (pw_I cn s (s + i) (fun y => DM (y - s))) (pw_I cl s (s + i) (fun y => tx_s32 (tx_sl DS DM (y - s)))) ca ci kS kB kC kH kP kF dV qV ns nn nc tr fP fB fC fR fT fN hG hB hF hK hH hR hC hP pl pr
  | _, _, 0, _, h => by omega
  | 0, i, n + 1, hi, _ => by
    have e : i = N := by omega
    subst e
    refine br_t (nI_le (Nat.le_refl _) (by omega)) ?_
    rw [nI_add]
    refine xw_link wt h40 hop hs (fun j hj => ?_) hp
    rw [pw_Iin (by omega) (by omega), Nat.add_sub_cancel_left]
  | q + 1, i, n + 1, hi, hn => by
    have a1 : (200 : Int32) + nI i = nI (200 + i) := nI_add 200 i
    have a2 : nI s + nI i = nI (s + i) := nI_add s i
    have v1 : vp_in ((200 : Int32) + nI i) 240 := by rw [a1]; exact vp_in_nI (by omega) (by decide)
    have v2 : vp_in (nI s + nI i) 240 := by rw [a2]; exact vp_in_nI (by omega) (by decide)
    have ec1 : ((200 : Int32) + nI i).toNatClampNeg = 200 + i := by rw [a1]; exact nI_clamp (by omega)
    have ec2 : (nI s + nI i).toNatClampNeg = s + i := by rw [a2]; exact nI_clamp (by omega)
    obtain ⟨d1, d2, d3⟩ := hd i (by omega)
    refine br_f (nI_ge (by omega) (by omega)) ⟨v1, v2, nm_r (e' := pw_I cs s (s + (i + 1)) (fun y => DS (y - s))) ?_ ⟨v1, v2, nm_r (e' := pw_I cn s (s + (i + 1)) (fun y => DM (y - s))) ?_ ⟨v1, v2, nm_r (e' := pw_I cl s (s + (i + 1)) (fun y => tx_s32 (tx_sl DS DM (y - s)))) ?_ (nm_r (nI_1 i) ?_)⟩⟩⟩
    · rw [ec1, ec2, pw_Io (by omega), d1, ← Nat.add_assoc, ← pw_Iup (by omega), Nat.add_sub_cancel_left]
    · rw [ec1, ec2, pw_Io (by omega), d2, ← Nat.add_assoc, ← pw_Iup (by omega), Nat.add_sub_cancel_left]
    · rw [ec1, ec2, pw_Io (by omega), d3, ← Nat.add_assoc, ← pw_Iup (by omega), Nat.add_sub_cancel_left]
    · exact xw_cp2 wt h40 hop hs hd hp q (i + 1) n (by omega) (by omega)
theorem xw_copy (wt : tx_WT DS DM N) (h40 : N ≤ 40) (hop : tx_op DS N = 0) (hs : s + N ≤ 200) (hd : ∀ i, i < N → cs (200 + i) = DS i ∧ cn (200 + i) = DM i ∧ cl (200 + i) = tx_s32 (tx_sl DS DM i)) (hdT : dT = nI N) {post : SX → Prop} (hp : ∀ ca' ci', lk_F DS s N 0 ca ci ca' ci' → post (qB, dB, hS, ub, nT, aK, nM, cT, cL, hL, fL, kL, cls, dT, dO, dC, qT, stt, lm, sc, ac, ev, chc, cF, cTk, hT, tT, chs, pw_I cs s (s + N) (fun y => DS (y - s)), pw_I cn s (s + N) (fun y => DM (y - s)), pw_I cl s (s + N) (fun y => tx_s32 (tx_sl DS DM (y - s))), ca', ci', kS, kB, kC, kH, kP, kF, dV, qV, ns, nn, nc, tr, fP, fB, fC, fR, fT, fN, hG, hB, hF, hK, hH, hR, hC, hP, pl, pr)) : wpX_copyDraft post (qB, dB, hS, ub, nT, aK, nM, cT, cL, hL, fL, kL, cls, dT, dO, dC, qT, stt, lm, sc, ac, ev, chc, cF, cTk, hT, tT, chs, cs, cn, cl, ca, ci, kS, kB, kC, kH, kP, kF, dV, qV, ns, nn, nc, tr, fP, fB, fC, fR, fT, fN, hG, hB, hF, hK, hH, hR, hC, hP, pl, pr) (nI s) := by
  subst hdT
  refine ⟨N + 1, ?_⟩
  have := xw_cp2 wt h40 hop hs hd hp N 0 (N + 1) (by omega) (by omega)
  rw [show s + 0 = s from rfl, pw_I0 (Nat.le_refl _), pw_I0 (Nat.le_refl _), pw_I0 (Nat.le_refl _)] at this
  exact this
/-- slots used by the first tokens -/
theorem xw_ch104 {e p : Nat} (he : e ≤ N) (h40 : N ≤ 40) (hs : s + N ≤ 200) (hpl : p < 32) (hd : ∀ i, i < N → cl (s + i) = tx_s32 (tx_sl DS DM i)) {post : SX → Prop} (hp : post (qB, dB, hS, ub, nT, aK, nM, cT, cL, hL, fL, kL, cls, dT, dO, dC, qT, stt, lm, sc, ac, ev, chc, cF, cTk, hT, tT, chs, cs, cn, cl, ca, ci, kS, kB, kC, upd kH p (nI (tx_ch DS DM e)), kP, kF, dV, qV, ns, nn, nc, tr, fP, fB, fC, fR, fT, fN, hG, hB, hF, hK, hH, hR, hC, hP, pl, pr)) : ∀ (q i n : Nat), i + q = e → q < n → wX_compileHead_104 post (nI p) (nI (s + e)) qB dB hS ub nT aK nM cT cL hL fL kL cls dT dO dC qT stt lm sc ac ev chc cF cTk hT tT chs cs cn cl ca ci kS kB kC kH kP kF dV qV ns nn nc tr fP fB fC fR fT fN hG hB hF hK hH hR hC hP pl pr n (nI (tx_ch DS DM i)) (nI (s + i))
  | _, _, 0, _, h => by omega
  | 0, i, n + 1, hi, _ => by
    have ee : i = e := by omega
    subst ee
    refine br_t (nI_le (Nat.le_refl _) (by omega)) ⟨vp_in_nI hpl (by decide), nm_r (e' := upd kH p (nI (tx_ch DS DM i))) ?_ hp⟩
    rw [nI_clamp (by omega)]
  | q + 1, i, n + 1, hi, hn => by
    have ec : (nI (s + i)).toNatClampNeg = s + i := nI_clamp (by omega)
    have hin : vp_in (nI (s + i)) 240 := vp_in_nI (by omega) (by decide)
    have hcn := tx_ch_n (sh := DS) (nm := DM) i
    have IH := xw_ch104 he h40 hs hpl hd hp q (i + 1) n (by omega) (by omega)
    refine br_f (nI_ge (by omega) (by omega)) ⟨hin, ?_⟩
    rw [ec, hd i (by omega)]
    rcases tx_sl_ch (sh := DS) (nm := DM) i with ⟨h1, h2⟩ | ⟨h1, h2⟩
    · rw [h2] at IH
      refine br_t ?_ (nm_r (nI_1 _) IH)
      by_cases z : tx_sl DS DM i = 0
      · rw [z, tx_s32_0, Int32.lt_iff_toInt_lt, nI_toInt (by omega)]
        have : (-1 : Int32).toInt = -1 := by decide
        rw [this]; omega
      · rw [tx_s32_p z]; exact nI_lt (by omega) (by omega)
    · rw [h2] at IH
      rw [h1, tx_s32_s]
      exact br_f (nI_nlt (Nat.le_refl _) (by omega)) ⟨hin, nm_r (nI_1 _) (nm_r (nI_1 _) IH)⟩
theorem xw_head {p : Nat} (wt : tx_WT DS DM N) (h40 : N ≤ 40) (hop : tx_op DS N = 0) (hN : 0 < N) (h0 : DS 0 ≠ -2) (hs : s + N ≤ 200) (hpl : p < 32) (hkS : kS p = nI s) (hd : ∀ i, i < N → cs (s + i) = DS i ∧ cn (s + i) = DM i ∧ cl (s + i) = tx_s32 (tx_sl DS DM i) ∧ ca (s + i) = nI (s + tx_en DS i)) {post : SX → Prop} (hp : ∀ kF', kF' p = (if 0 < tx_ar (DS 0) ∧ DS 1 ≠ -1 then kk_mk (DM 1) (DS 1) else -1) → (∀ c, c ≠ p → kF' c = kF c) → post (qB, dB, hS, ub, nT, aK, nM, cT, cL, hL, fL, kL, cls, dT, dO, dC, qT, stt, lm, sc, ac, ev, chc, cF, cTk, hT, tT, chs, cs, cn, cl, ca, ci, kS, upd kB p (nI (s + tx_en DS 0)), kC, upd kH p (nI (tx_ch DS DM (tx_en DS 0))), vp_updL kP p (kk_mk (DM 0) (DS 0)), kF', dV, qV, ns, nn, nc, tr, fP, fB, fC, fR, fT, fN, hG, hB, hF, hK, hH, hR, hC, hP, pl, pr)) : wpX_compileHead post (qB, dB, hS, ub, nT, aK, nM, cT, cL, hL, fL, kL, cls, dT, dO, dC, qT, stt, lm, sc, ac, ev, chc, cF, cTk, hT, tT, chs, cs, cn, cl, ca, ci, kS, kB, kC, kH, kP, kF, dV, qV, ns, nn, nc, tr, fP, fB, fC, fR, fT, fN, hG, hB, hF, hK, hH, hR, hC, hP, pl, pr) (nI p) := by
  obtain ⟨e1, e2, e3, e4⟩ := tx_en_1 h40 hop hN
  obtain ⟨c1, c2, c3, c4⟩ := hd 0 hN
  rw [Nat.add_zero] at c1 c2 c3 c4
  have hin : vp_in (nI s) 240 := vp_in_nI (by omega) (by decide)
  have hip : vp_in (nI p) 32 := vp_in_nI hpl (by decide)
  have ep : (nI p).toNatClampNeg = p := nI_clamp (by omega)
  have ec : (nI s).toNatClampNeg = s := nI_clamp (by omega)
  obtain ⟨a, ha3, ha⟩ : ∃ a, a ≤ 3 ∧ DS 0 = nI a := by
    rcases wt 0 hN with ⟨q, _⟩ | ⟨_, q, _⟩ | q
    · exact absurd q h0
    · exact absurd q (by simp only [tx_op]; omega)
    · exact q
  have FIN : ∀ kF', kF' p = (if 0 < tx_ar (DS 0) ∧ DS 1 ≠ -1 then kk_mk (DM 1) (DS 1) else -1) → (∀ c, c ≠ p → kF' c = kF c) → ∃ n104, wX_compileHead_104 post (nI p) (nI (s + tx_en DS 0)) qB dB hS ub nT aK nM cT cL hL fL kL cls dT dO dC qT stt lm sc ac ev chc cF cTk hT tT chs cs cn cl ca ci kS (upd kB p (nI (s + tx_en DS 0))) kC kH (vp_updL kP p (kk_mk (DM 0) (DS 0))) kF' dV qV ns nn nc tr fP fB fC fR fT fN hG hB hF hK hH hR hC hP pl pr n104 0 (nI s) := by
    intro kF' f1 f2
    exact ⟨tx_en DS 0 + 1, xw_ch104 (DS := DS) (DM := DM) (N := N) e2 h40 hs hpl (fun i hi => (hd i hi).2.2.1) (hp kF' f1 f2) (tx_en DS 0) 0 (tx_en DS 0 + 1) (by omega) (by omega)⟩
  refine And.intro (vp_in_nI (by omega) (by decide)) (nm_r (e' := nI s) (by rw [ep]; exact hkS) ⟨hin, nm_r (e' := nI (s + tx_en DS 0)) (by rw [ec]; exact c4) ⟨hip, nm_r (e' := upd kB p (nI (s + tx_en DS 0))) (by rw [ep]) ⟨hin, hin, ?_⟩⟩⟩)
  rw [ec, c1, c2]
  refine And.intro hip (nm_r (e' := vp_updL kP p (kk_mk (DM 0) (DS 0))) (by rw [ep]; rfl) ⟨hip, nm_r (e' := vp_updL kF p (-1)) (by rw [ep]) ⟨hin, ?_⟩⟩)
  rcases Nat.eq_zero_or_pos a with z | z
  · subst z
    refine br_t (by rw [ha]; decide) (FIN _ ?_ (fun c hc => pk_uLn hc))
    rw [pk_uLs, if_neg (by rw [ha, tx_ar_n (by omega)]; omega)]
  · have hk : 0 < tx_ar (DS 0) := by rw [ha, tx_ar_n (by omega)]; exact z
    obtain ⟨b1, b2, b3, b4⟩ := tx_ag_lt h40 hop hN hk
    have b3' : 1 < N := b3
    have b4' : 0 < tx_op DS 1 := b4
    obtain ⟨g1, g2, _, _⟩ := hd 1 b3'
    have hin1 : vp_in (nI s + 1) 240 := by rw [nI_1]; exact vp_in_nI (by omega) (by decide)
    have ec1 : (nI s + 1).toNatClampNeg = s + 1 := by rw [nI_1]; exact nI_clamp (by omega)
    refine br_f (by rw [ha]; exact nI_nle z (by omega)) ⟨hin1, ?_⟩
    rw [ec1, g1, g2]
    rcases wt 1 b3' with ⟨_, q, _⟩ | ⟨q, _⟩ | ⟨a1, ha1, q⟩
    · omega
    · refine br_t (by rw [q]; decide) (FIN _ ?_ (fun c hc => pk_uLn hc))
      rw [pk_uLs, if_neg (fun h => h.2 q)]
    · refine br_f (by rw [q]; exact nI_pos (by omega)) ⟨hin1, hin1, ?_⟩
      refine And.intro hip (nm_r (e' := vp_updL (vp_updL kF p (-1)) p (kk_mk (DM 1) (DS 1))) (by rw [ep]; rfl) (FIN _ ?_ (fun c hc => by rw [pk_uLn hc, pk_uLn hc])))
      rw [pk_uLs, if_pos ⟨hk, by rw [q]; exact tm_nI_ne ha1⟩]
end
end
section
/-! adding and removing clauses -/
section
variable {qB dB hS : Int32} {ub nT aK nM cT : Int64} {cL hL fL kL cls dT dO dC qT stt lm sc ac ev chc cF cTk hT tT chs : Int32} {cs cn cl ca ci kS kB kC kH dV qV ns nn tr fP fB fC fR fT fN hG hB hF hK hH hR hC hP : Nat → Int32} {kP kF nc pl pr : Nat → Int64} {yd : Int32} {sh nm ln bi lR lB lC lP lI gA gD gb gr gs gc gp gi yl yr : Nat → Int32} {nb : Nat}
variable {S M S' M' : Nat → Nat → Int32} {L L' : Nat → Nat} {m m' : Nat} {sr sr' : Nat → Nat}
theorem rl_in (R : rl_R S M L m sr stt lm cF cTk yd hT tT chs qV ns nn tr nc fP fB fC fR fT fN hG hB hF hK hH hR hC hP bi lR lB lC lP lI gA gD gb gr gs gc gp gi) (hina : ¬ stt = 1 ∧ ¬ stt = 2 ∧ ¬ stt = 3) : rl_R S' M' L' m' sr' stt lm cF cTk yd hT tT chs qV ns nn tr nc fP fB fC fR fT fN hG hB hF hK hH hR hC hP bi lR lB lC lP lI gA gD gb gr gs gc gp gi := by
  obtain ⟨K, G, Lv, T, k, h, R, hl, hst⟩ := R
  rcases hst with ⟨e, h1, h2, h3⟩ | ⟨_, _, hst⟩
  · subst h1 h2 h3
    obtain ⟨r1, rX, rY, rV, rHR, rTF, rCP, rMO, rH⟩ := R
    exact ⟨[], G, fun _ => False, T, 0, 0, ⟨r1, rX, trivial, trivial, hr_nil (by omega), rTF, fun c hc => by omega, fun c d _ hd => by omega, fun c hc => by omega⟩, hl, Or.inl ⟨e, rfl, rfl, rfl⟩⟩
  · exfalso
    rcases hst with ⟨e, _⟩ | ⟨e, _⟩ | ⟨e, _⟩
    · exact hina.1 e
    · exact hina.2.1 e
    · exact hina.2.2 e
theorem rl_add (C : rl_C S M L m sr cL hL fL kL cls dT dO dC qT cs cn cl ca ci kS kB kC kH kP kF dV sh nm ln nb) {N : Nat} {DS DM : Nat → Int32} (hm : m < 32) (h40 : N ≤ 40) (hN : 0 < N) (wt : tx_WT DS DM N) (hop : tx_op DS N = 0) (h0 : DS 0 ≠ -2) (hcap : sr (m + 2) + N ≤ 160) {ca' ci' : Nat → Int32} (lk : lk_F DS (sr (m + 2)) N 0 ca ci ca' ci') {kF' : Nat → Int64} (f1 : kF' m = (if 0 < tx_ar (DS 0) ∧ DS 1 ≠ -1 then kk_mk (DM 1) (DS 1) else -1)) (f2 : ∀ c, c ≠ m → kF' c = kF c) : rl_C (zs_set S (m + 2) DS) (zs_set M (m + 2) DM) (zs_set L (m + 2) N) (m + 1) (zs_set sr (m + 3) (sr (m + 2) + N)) cL hL fL kL (nI (m + 1)) 0 0 0 qT (pw_I cs (sr (m + 2)) (sr (m + 2) + N) (fun y => DS (y - sr (m + 2)))) (pw_I cn (sr (m + 2)) (sr (m + 2) + N) (fun y => DM (y - sr (m + 2)))) (pw_I cl (sr (m + 2)) (sr (m + 2) + N) (fun y => tx_s32 (tx_sl DS DM (y - sr (m + 2))))) ca' ci' (upd kS (m + 1) (nI (sr (m + 2) + N))) (upd kB m (nI (sr (m + 2) + tx_en DS 0))) (upd kC m (nI (tx_ch DS DM N))) (upd kH m (nI (tx_ch DS DM (tx_en DS 0)))) (vp_updL kP m (kk_mk (DM 0) (DS 0))) kF' (pw_I dV 0 8 (fun _ => -1)) (pw_I sh ((m + 2) * 40) ((m + 2) * 40 + N) (fun y => DS (y - (m + 2) * 40))) (pw_I nm ((m + 2) * 40) ((m + 2) * 40 + N) (fun y => DM (y - (m + 2) * 40))) (upd (upd ln (m + 2) (nI N)) 1 0) nb := by
  obtain ⟨hlm, hnb, hcl, O, CX, CY, CK, hqT, _⟩ := C
  obtain ⟨k1, k2, k3, k4, k5⟩ := CK
  have vr : ∀ r, sg_VR (m + 1) r → r ≠ m + 2 → sg_VR m r := by
    rintro r (e | ⟨e1, e2⟩) hne
    · exact Or.inl e
    · exact Or.inr ⟨e1, by omega⟩
  -- starts grow
  have mono : ∀ c, c ≤ m → sr (c + 2) ≤ sr (m + 2) := by
    have aux : ∀ d c, c + d = m → sr (c + 2) ≤ sr (m + 2) := by
      intro d
      induction d with
      | zero => intro c hc; have : c = m := by omega
                subst this; exact Nat.le_refl _
      | succ d ih =>
        intro c hc
        have a := ih (c + 1) (by omega)
        have b := (k5 c (by omega)).1
        rw [show c + 1 + 2 = c + 3 by omega] at a
        omega
    exact fun c hc => aux (m - c) c (by omega)
  have dis : ∀ r, sg_VR m r → ∀ i, i < L r → (sr r + i < sr (m + 2) ∨ sr (m + 2) + N ≤ sr r + i) := by
    rintro r (e | ⟨e1, e2⟩) i hi
    · subst e; rw [k1]; omega
    · have b := (k5 (r - 2) (by omega)).1
      have a := mono (r - 1) (by omega)
      rw [show r - 2 + 3 = r + 1 by omega, show r - 2 + 2 = r by omega] at b
      rw [show r - 1 + 2 = r + 1 by omega] at a
      omega
  refine ⟨hlm, hnb, rfl, ⟨by omega, fun r hr => ?_⟩, fun r hr => ?_, fun r hr => ?_, ⟨?_, ?_, ?_, fun c hc => ?_, fun c hc => ?_⟩, ?_, dr_nil⟩
  · by_cases e : r = m + 2
    · subst e
      rw [zs_s, zs_s, zs_s]
      exact ⟨wt, h40, hop, fun _ => ⟨hN, h0⟩⟩
    · rw [zs_n e, zs_n e, zs_n e]; exact O.2 r (vr r hr e)
  · by_cases e : r = m + 2
    · subst e
      rw [zs_s, zs_s, zs_s, zs_n (show m + 2 ≠ m + 3 by omega)]
      refine ⟨by omega, fun i hi => ?_⟩
      rw [pw_Iin (by omega) (by omega), pw_Iin (by omega) (by omega), pw_Iin (by omega) (by omega), Nat.add_sub_cancel_left]
      exact ⟨rfl, rfl, rfl, (lk.1 i (by omega) hi).1, (lk.1 i (by omega) hi).2⟩
    · have hv := vr r hr e
      have e3 : r ≠ m + 3 := by rcases hr with z | ⟨_, z⟩ <;> omega
      rw [zs_n e, zs_n e, zs_n e, zs_n e3]
      obtain ⟨a, b⟩ := CX r hv
      refine ⟨a, fun i hi => ?_⟩
      have hd := dis r hv i hi
      rw [pw_Io hd, pw_Io hd, pw_Io hd, (lk.2 _ hd).1, (lk.2 _ hd).2]
      exact b i hi
  · by_cases e : r = m + 2
    · subst e
      rw [zs_s, zs_s, zs_s, pk_un (show m + 2 ≠ 1 by omega), pk_us]
      refine ⟨rfl, fun i hi => ?_⟩
      rw [pw_Iin (by omega) (by omega), pw_Iin (by omega) (by omega), Nat.add_sub_cancel_left]
      exact ⟨rfl, rfl⟩
    · have hv := vr r hr e
      have hrow := sg_row O.1 hv
      have h40r := (O.2 r hv).2.1
      rw [zs_n e, zs_n e, zs_n e, pk_un hrow.2, pk_un e]
      obtain ⟨a, b⟩ := CY r hv
      refine ⟨a, fun i hi => ?_⟩
      have hd : r * 40 + i < (m + 2) * 40 ∨ (m + 2) * 40 + N ≤ r * 40 + i := by
        rcases Nat.lt_or_gt_of_ne e with z | z <;> omega
      rw [pw_Io hd, pw_Io hd]
      exact b i hi
  · rw [zs_n (by omega)]; exact k1
  · rw [zs_n (by omega)]; exact k2
  · rw [show m + 1 + 2 = m + 3 by omega, zs_s]; exact hcap
  · by_cases e : c = m + 1
    · subst e
      rw [pk_us, show m + 1 + 2 = m + 3 by omega, zs_s]
    · rw [pk_un e, zs_n (by omega)]; exact k4 c (by omega)
  · by_cases e : c = m
    · subst e
      rw [zs_s, zs_s, zs_n (show c + 2 ≠ c + 3 by omega), zs_s, zs_s, pk_us, pk_us, pk_us, pk_uLs]
      exact ⟨rfl, rfl, rfl, rfl, rfl, f1⟩
    · rw [zs_n (show c + 3 ≠ m + 3 by omega), zs_n (show c + 2 ≠ m + 3 by omega), zs_n (show c + 2 ≠ m + 2 by omega), zs_n (show c + 2 ≠ m + 2 by omega), zs_n (show c + 2 ≠ m + 2 by omega), pk_un e, pk_un e, pk_un e, pk_uLn e, f2 c e]
      exact k5 c (by omega)
  · rw [zs_n (by omega)]; exact hqT
theorem yw_56 (hnI : cls = nI m) (hm : m ≤ 32) {N : Nat} (hN : N ≤ 40) (hsr2 : sr 2 = 0) (hst : ∀ c, c < m → sr (c + 3) = sr (c + 2) + L (c + 2) ∧ ln (c + 2) = nI (L (c + 2))) {post : Int32 → SY → Prop} (hp : (nI (N + sr (m + 2)) ≤ cL → wpY_copyText (fun u => match u with | (cL, hL, fL, kL, cls, stt, lm, sc, ac, ev, chc, hT, yd, chs, sh, nm, ln, bi, lR, lB, lC, lP, lI, gA, hB, hH, hC, hP, gD, gb, gr, gs, gc, gp, gi, yl, yr, nb) => ∀ a, a = upd ln 1 0 → ∀ c, c = cls + 1 → post (c - 1) (cL, hL, fL, kL, c, stt, lm, sc, ac, ev, chc, hT, yd, chs, sh, nm, a, bi, lR, lB, lC, lP, lI, gA, hB, hH, hC, hP, gD, gb, gr, gs, gc, gp, gi, yl, yr, nb)) (cL, hL, fL, kL, cls, stt, lm, sc, ac, ev, chc, hT, yd, chs, sh, nm, ln, bi, lR, lB, lC, lP, lI, gA, hB, hH, hC, hP, gD, gb, gr, gs, gc, gp, gi, yl, yr, nb) 1 (nI (m + 2))) ∧ (¬ nI (N + sr (m + 2)) ≤ cL → post (-3) (cL, hL, fL, kL, cls, stt, lm, sc, ac, ev, chc, hT, yd, chs, sh, nm, ln, bi, lR, lB, lC, lP, lI, gA, hB, hH, hC, hP, gD, gb, gr, gs, gc, gp, gi, yl, yr, nb))) : ∀ (q c n : Nat), c + q = m → q < n → wY_addClause_56 post cL hL fL kL cls stt lm sc ac ev chc hT yd chs sh nm ln bi lR lB lC lP lI gA hB hH hC hP gD gb gr gs gc gp gi yl yr nb n (nI (N + sr (c + 2))) (nI c)
  | _, _, 0, _, h => by omega
  | 0, c, n + 1, hc, _ => by
    have e : c = m := by omega
    subst e
    refine br_t (by rw [hnI]; exact nI_le (Nat.le_refl _) (by omega)) ?_
    refine ⟨fun h => ?_, fun h => hp.2 h⟩
    have := hp.1 h
    rw [hnI] at this ⊢
    rw [show nI c + 2 = nI (c + 2) from nI_add c 2]
    exact this
  | q + 1, c, n + 1, hc, hn => by
    obtain ⟨h1, h2⟩ := hst c (by omega)
    refine br_f (by rw [hnI]; exact nI_ge (by omega) (by omega)) ?_
    rw [show nI c + 2 = nI (c + 2) from nI_add c 2, nI_clamp (by omega), h2]
    refine ⟨vp_in_nI (by omega) (by decide), nm_r (e' := nI (N + sr (c + 1 + 2))) ?_ (nm_r (nI_1 c) ?_)⟩
    · rw [nI_add, show c + 1 + 2 = c + 3 by omega, h1, Nat.add_assoc]
    · exact yw_56 hnI hm hN hsr2 hst hp q (c + 1) n (by omega) (by omega)
end
theorem vz_addClause {u : SX} {v : SY} (I : zz_R u v) : wpX_addClause (fun r u' => wpY_addClause (fun r' v' => r' = r ∧ zz_R u' v') v) u := by
  refine zz_el (P := fun u v => wpX_addClause (fun r u' => wpY_addClause (fun r' v' => r' = r ∧ zz_R u' v') v) u) ?_ I
  intro qB dB hS ub nT aK nM cT cL hL fL kL cls dT dO dC qT stt lm sc ac ev chc cF cTk hT tT chs cs cn cl ca ci kS kB kC kH kP kF dV qV ns nn nc tr fP fB fC fR fT fN hG hB hF hK hH hR hC hP pl pr yd sh nm ln bi lR lB lC lP lI gA gD gb gr gs gc gp gi yl yr nb hA
  have Z := zz_mk hA
  obtain ⟨S, M, L, m, sr, C, R⟩ := hA
  have C0 := C
  have R0 := R
  obtain ⟨⟨n1, n2, n3, n4, l1, l2, _⟩, hnb, hcl, O, CX, CY, CK, hqT, N, DS, DM, d1, d2, d3, d4, d5, d6, d7, d8⟩ := C
  obtain ⟨K, G, Lv, T, k, h, _, H⟩ := R
  have hop := tx_op_le d4
  have hm := O.1
  have RW : rw_OK sh nm ln 1 N DS DM := ⟨by omega, d1, d3, fun i hi => ⟨(d5 i hi).2.2.2.1, (d5 i hi).2.2.2.2⟩, d4⟩
  unfold wpX_addClause
  rcases sf_act H with ⟨e, _⟩ | ⟨e, _⟩
  · refine xw_act1 e (br_f (by decide) ?_)
    unfold wpY_addClause
    exact yw_act1 e (br_f (by decide) ⟨rfl, Z⟩)
  · refine xw_act0 e (br_t rfl ?_)
    have YA : ∀ (P : Int32 → SY → Prop), wpY_draftComplete (fun r_41 => (((r_41 = 0 → (P (-4) (cL, hL, fL, kL, cls, stt, lm, sc, ac, ev, chc, hT, yd, chs, sh, nm, ln, bi, lR, lB, lC, lP, lI, gA, hB, hH, hC, hP, gD, gb, gr, gs, gc, gp, gi, yl, yr, nb))) ∧ (¬ r_41 = 0 → ((((sh 40) = (-2) → (P (-5) (cL, hL, fL, kL, cls, stt, lm, sc, ac, ev, chc, hT, yd, chs, sh, nm, ln, bi, lR, lB, lC, lP, lI, gA, hB, hH, hC, hP, gD, gb, gr, gs, gc, gp, gi, yl, yr, nb))) ∧ (¬ (sh 40) = (-2) → (((cls < 32 → (∀ x1, x1 = ln 1 → (∃ n56 : Nat, wY_addClause_56 P cL hL fL kL cls stt lm sc ac ev chc hT yd chs sh nm ln bi lR lB lC lP lI gA hB hH hC hP gD gb gr gs gc gp gi yl yr nb n56 x1 0))) ∧ (¬ cls < 32 → (P (-3) (cL, hL, fL, kL, cls, stt, lm, sc, ac, ev, chc, hT, yd, chs, sh, nm, ln, bi, lR, lB, lC, lP, lI, gA, hB, hH, hC, hP, gD, gb, gr, gs, gc, gp, gi, yl, yr, nb)))))))))))) (cL, hL, fL, kL, cls, stt, lm, sc, ac, ev, chc, hT, yd, chs, sh, nm, ln, bi, lR, lB, lC, lP, lI, gA, hB, hH, hC, hP, gD, gb, gr, gs, gc, gp, gi, yl, yr, nb) → wpY_addClause P (cL, hL, fL, kL, cls, stt, lm, sc, ac, ev, chc, hT, yd, chs, sh, nm, ln, bi, lR, lB, lC, lP, lI, gA, hB, hH, hC, hP, gD, gb, gr, gs, gc, gp, gi, yl, yr, nb) := by
      intro P hp
      unfold wpY_addClause
      exact yw_act0 e (br_t rfl hp)
    rcases Nat.eq_zero_or_pos N with z | z
    · refine br_t (by rw [d2, z]; decide) (br_t rfl (YA _ (br_t (by rw [d3, z]; rfl) (br_t rfl ⟨rfl, Z⟩))))
    · have hX : ¬ dT ≤ 0 := by rw [d2]; exact nI_nle z (by omega)
      have hY : ¬ ln 1 = 0 := by rw [d3]; exact nI_ne0 z (by omega)
      refine br_f hX ?_
      by_cases hz : tx_op DS N = 0
      · have e0 : nI (tx_op DS N) = 0 := by rw [hz]; rfl
        have YB : ∀ (P : Int32 → SY → Prop), ((((sh 40) = (-2) → (P (-5) (cL, hL, fL, kL, cls, stt, lm, sc, ac, ev, chc, hT, yd, chs, sh, nm, ln, bi, lR, lB, lC, lP, lI, gA, hB, hH, hC, hP, gD, gb, gr, gs, gc, gp, gi, yl, yr, nb))) ∧ (¬ (sh 40) = (-2) → (((cls < 32 → (∀ x1, x1 = ln 1 → (∃ n56 : Nat, wY_addClause_56 P cL hL fL kL cls stt lm sc ac ev chc hT yd chs sh nm ln bi lR lB lC lP lI gA hB hH hC hP gD gb gr gs gc gp gi yl yr nb n56 x1 0))) ∧ (¬ cls < 32 → (P (-3) (cL, hL, fL, kL, cls, stt, lm, sc, ac, ev, chc, hT, yd, chs, sh, nm, ln, bi, lR, lB, lC, lP, lI, gA, hB, hH, hC, hP, gD, gb, gr, gs, gc, gp, gi, yl, yr, nb)))))))) → wpY_addClause P (cL, hL, fL, kL, cls, stt, lm, sc, ac, ev, chc, hT, yd, chs, sh, nm, ln, bi, lR, lB, lC, lP, lI, gA, hB, hH, hC, hP, gD, gb, gr, gs, gc, gp, gi, yl, yr, nb) := fun P hp => YA P (br_f hY (yw_open (r := 1) RW (br_t e0 (br_f (by decide) hp))))
        refine br_t (by rw [d6, e0]) (br_f (by decide) ?_)
        obtain ⟨g1, g2, g3, g4, g5⟩ := d5 0 z
        have g1' : cs 200 = DS 0 := g1
        have g4' : sh 40 = DS 0 := g4
        by_cases hcut : DS 0 = -2
        · exact br_t (by rw [g1']; exact hcut) (YB _ (br_t (by rw [g4']; exact hcut) ⟨rfl, Z⟩))
        · have hcX : ¬ cs 200 = -2 := by rw [g1']; exact hcut
          have hcY : ¬ sh 40 = -2 := by rw [g4']; exact hcut
          refine br_f hcX ?_
          by_cases h32 : m < 32
          · have hlt : cls < 32 := by rw [hcl]; exact nI_lt (b := 32) h32 (by decide)
            have ecl : cls.toNatClampNeg = m := by rw [hcl]; exact nI_clamp (by omega)
            have hkS : kS m = nI (sr (m + 2)) := CK.2.2.2.1 m (Nat.le_refl _)
            have hs160 := CK.2.2.1
            have hst : ∀ c, c < m → sr (c + 3) = sr (c + 2) + L (c + 2) ∧ ln (c + 2) = nI (L (c + 2)) := fun c hc => ⟨(CK.2.2.2.2 c hc).1, (CY (c + 2) (Or.inr ⟨by omega, by omega⟩)).1⟩
            have YC : ∀ (P : Int32 → SY → Prop), ((nI (N + sr (m + 2)) ≤ cL → wpY_copyText (fun u => match u with | (cL, hL, fL, kL, cls, stt, lm, sc, ac, ev, chc, hT, yd, chs, sh, nm, ln, bi, lR, lB, lC, lP, lI, gA, hB, hH, hC, hP, gD, gb, gr, gs, gc, gp, gi, yl, yr, nb) => ∀ a, a = upd ln 1 0 → ∀ c, c = cls + 1 → P (c - 1) (cL, hL, fL, kL, c, stt, lm, sc, ac, ev, chc, hT, yd, chs, sh, nm, a, bi, lR, lB, lC, lP, lI, gA, hB, hH, hC, hP, gD, gb, gr, gs, gc, gp, gi, yl, yr, nb)) (cL, hL, fL, kL, cls, stt, lm, sc, ac, ev, chc, hT, yd, chs, sh, nm, ln, bi, lR, lB, lC, lP, lI, gA, hB, hH, hC, hP, gD, gb, gr, gs, gc, gp, gi, yl, yr, nb) 1 (nI (m + 2))) ∧ (¬ nI (N + sr (m + 2)) ≤ cL → P (-3) (cL, hL, fL, kL, cls, stt, lm, sc, ac, ev, chc, hT, yd, chs, sh, nm, ln, bi, lR, lB, lC, lP, lI, gA, hB, hH, hC, hP, gD, gb, gr, gs, gc, gp, gi, yl, yr, nb))) → wpY_addClause P (cL, hL, fL, kL, cls, stt, lm, sc, ac, ev, chc, hT, yd, chs, sh, nm, ln, bi, lR, lB, lC, lP, lI, gA, hB, hH, hC, hP, gD, gb, gr, gs, gc, gp, gi, yl, yr, nb) := by
              intro P hp
              refine YB P (br_f hcY (br_t hlt (nm_r d3 ⟨m + 1, ?_⟩)))
              have := yw_56 (sr := sr) (L := L) hcl hm d1 CK.2.1 hst hp m 0 (m + 1) (by omega) (by omega)
              rw [show 0 + 2 = 2 from rfl, CK.2.1, Nat.add_zero] at this
              exact this
            refine br_t hlt ⟨by rw [hcl]; exact vp_in_nI (by omega) (by decide), nm_r (e' := nI (sr (m + 2))) (by rw [ecl]; exact hkS) ?_⟩
            have esum : nI (sr (m + 2)) + dT = nI (sr (m + 2) + N) := by rw [d2, nI_add]
            by_cases hcap : sr (m + 2) + N ≤ n1
            · have hle : nI (sr (m + 2)) + dT ≤ cL := by rw [esum, l1]; exact nI_le hcap (by omega)
              have hleY : nI (N + sr (m + 2)) ≤ cL := by rw [l1]; exact nI_le (by omega) (by omega)
              refine br_t hle ?_
              refine xw_copy d4 d1 hz (by omega) (fun i hi => ⟨(d5 i hi).1, (d5 i hi).2.1, (d5 i hi).2.2.1⟩) d2 ?_
              intro ca' ci' lk
              have ecl1 : (cls + 1).toNatClampNeg = m + 1 := by rw [hcl, nI_1]; exact nI_clamp (by omega)
              refine And.intro (by rw [hcl, nI_1]; exact vp_in_nI (by omega) (by decide)) (nm_r (e' := upd kS (m + 1) (nI (sr (m + 2) + N))) (by rw [ecl1, esum]) ⟨by rw [hcl]; exact vp_in_nI h32 (by decide), nm_r (e' := upd kC m (nI (tx_ch DS DM N))) (by rw [ecl, d7]) ?_⟩)
              have hcl' := hcl
              subst hcl'
              refine xw_head (p := m) d4 d1 hz z hcut (by omega) h32 (by rw [pk_un (by omega)]; exact hkS) (fun i hi => ⟨?_, ?_, ?_, (lk.1 i (by omega) hi).1⟩) ?_
              · rw [pw_Iin (by omega) (by omega), Nat.add_sub_cancel_left]
              · rw [pw_Iin (by omega) (by omega), Nat.add_sub_cancel_left]
              · rw [pw_Iin (by omega) (by omega), Nat.add_sub_cancel_left]
              · intro kF' f1 f2
                refine nm_r (nI_1 m) (xw_clearD (YC _ (br_t hleY ?_)))
                refine yw_copy (x := m + 2) (by omega) (by omega) d1 d3 (fun i hi => ⟨(d5 i hi).2.2.2.1, (d5 i hi).2.2.2.2⟩) (nm_e (nm_r (nI_1 m) ⟨nI_pred m, ?_⟩))
                exact zz_mk ⟨_, _, _, _, _, rl_add C0 h32 d1 z d4 hz hcut (by omega) lk f1 f2, rl_in R0 e⟩
            · have hle : ¬ nI (sr (m + 2)) + dT ≤ cL := by rw [esum, l1]; exact nI_ge (by omega) (by omega)
              have hleY : ¬ nI (N + sr (m + 2)) ≤ cL := by rw [l1]; exact nI_ge (by omega) (by omega)
              exact br_f hle (YC _ (br_f hleY ⟨rfl, Z⟩))
          · have hlt : ¬ cls < 32 := by rw [hcl]; exact nI_nlt (b := 32) (by omega) (by omega)
            exact br_f hlt (YB _ (br_f hcY (br_f hlt ⟨rfl, Z⟩)))
      · have e0 : ¬ nI (tx_op DS N) = 0 := nI_ne0 (by omega) (by omega)
        exact br_f (by rw [d6]; exact e0) (br_t rfl (YA _ (br_f hY (yw_open (r := 1) RW (br_f e0 (br_t rfl ⟨rfl, Z⟩))))))
theorem vz_removeLastClause {u : SX} {v : SY} (I : zz_R u v) : wpX_removeLastClause (fun r u' => wpY_removeLastClause (fun r' v' => r' = r ∧ zz_R u' v') v) u := by
  refine zz_el (P := fun u v => wpX_removeLastClause (fun r u' => wpY_removeLastClause (fun r' v' => r' = r ∧ zz_R u' v') v) u) ?_ I
  intro qB dB hS ub nT aK nM cT cL hL fL kL cls dT dO dC qT stt lm sc ac ev chc cF cTk hT tT chs cs cn cl ca ci kS kB kC kH kP kF dV qV ns nn nc tr fP fB fC fR fT fN hG hB hF hK hH hR hC hP pl pr yd sh nm ln bi lR lB lC lP lI gA gD gb gr gs gc gp gi yl yr nb hA
  have Z := zz_mk hA
  obtain ⟨S, M, L, m, sr, C, R⟩ := hA
  have R0 := R
  obtain ⟨hlm, hnb, hcl, O, CX, CY, CK, hqT, hD⟩ := C
  obtain ⟨K, G, Lv, T, k, h, _, H⟩ := R
  have hm := O.1
  unfold wpX_removeLastClause
  rcases sf_act H with ⟨e, _⟩ | ⟨e, _⟩
  · refine xw_act1 e (br_f (by decide) ?_)
    unfold wpY_removeLastClause
    exact yw_act1 e (br_f (by decide) ⟨rfl, Z⟩)
  · refine xw_act0 e (br_t rfl ?_)
    have YA : ∀ (P : Int32 → SY → Prop), ((cls = 0 → P (-7) (cL, hL, fL, kL, cls, stt, lm, sc, ac, ev, chc, hT, yd, chs, sh, nm, ln, bi, lR, lB, lC, lP, lI, gA, hB, hH, hC, hP, gD, gb, gr, gs, gc, gp, gi, yl, yr, nb)) ∧ (¬ cls = 0 → ∀ c, c = cls - 1 → P c (cL, hL, fL, kL, c, stt, lm, sc, ac, ev, chc, hT, yd, chs, sh, nm, ln, bi, lR, lB, lC, lP, lI, gA, hB, hH, hC, hP, gD, gb, gr, gs, gc, gp, gi, yl, yr, nb))) → wpY_removeLastClause P (cL, hL, fL, kL, cls, stt, lm, sc, ac, ev, chc, hT, yd, chs, sh, nm, ln, bi, lR, lB, lC, lP, lI, gA, hB, hH, hC, hP, gD, gb, gr, gs, gc, gp, gi, yl, yr, nb) := by
      intro P hp
      unfold wpY_removeLastClause
      exact yw_act0 e (br_t rfl hp)
    rcases Nat.eq_zero_or_pos m with z | z
    · have e0 : cls = 0 := by rw [hcl, z]; rfl
      exact br_t e0 (YA _ (br_t e0 ⟨rfl, Z⟩))
    · have e0 : ¬ cls = 0 := by rw [hcl]; exact nI_ne0 z (by omega)
      refine br_f e0 (nm_e (YA _ (br_f e0 (nm_e ⟨rfl, ?_⟩))))
      have hv : ∀ r, sg_VR (m - 1) r → sg_VR m r := by
        rintro r (e | ⟨e1, e2⟩)
        · exact Or.inl e
        · exact Or.inr ⟨e1, by omega⟩
      obtain ⟨k1, k2, k3, k4, k5⟩ := CK
      have hb := (k5 (m - 1) (by omega)).1
      rw [show m - 1 + 3 = m + 2 by omega] at hb
      refine zz_mk ⟨S, M, L, m - 1, sr, ⟨hlm, hnb, ?_, ⟨by omega, fun r hr => O.2 r (hv r hr)⟩, fun r hr => CX r (hv r hr), fun r hr => CY r (hv r hr), ⟨k1, k2, by omega, fun c hc => k4 c (by omega), fun c hc => k5 c (by omega)⟩, hqT, hD⟩, rl_in R0 e⟩
      rw [hcl]; exact pk_sub (b := 1) z
end
section
/-! asking -/
section
variable {qB dB hS : Int32} {ub nT aK nM cT : Int64} {cL hL fL kL cls dT dO dC qT stt lm sc ac ev chc cF cTk hT tT chs : Int32} {cs cn cl ca ci kS kB kC kH dV qV ns nn tr fP fB fC fR fT fN hG hB hF hK hH hR hC hP : Nat → Int32} {kP kF nc pl pr : Nat → Int64} {yd : Int32} {sh nm ln bi lR lB lC lP lI gA gD gb gr gs gc gp gi yl yr : Nat → Int32} {nb : Nat}
variable {S M : Nat → Nat → Int32} {L : Nat → Nat} {m : Nat} {sr : Nat → Nat}
theorem rl_ask (C : rl_C S M L m sr cL hL fL kL cls dT dO dC qT cs cn cl ca ci kS kB kC kH kP kF dV sh nm ln nb) {N : Nat} {DS DM : Nat → Int32} (h40 : N ≤ 40) (wt : tx_WT DS DM N) (hop : tx_op DS N = 0) {ca' ci' : Nat → Int32} (lk : lk_F DS 160 N 0 ca ci ca' ci') : rl_C (zs_set S 0 DS) (zs_set M 0 DM) (zs_set L 0 N) m sr cL hL fL kL cls 0 0 0 (nI N) (pw_I cs 160 (160 + N) (fun y => DS (y - 160))) (pw_I cn 160 (160 + N) (fun y => DM (y - 160))) (pw_I cl 160 (160 + N) (fun y => tx_s32 (tx_sl DS DM (y - 160)))) ca' ci' kS kB kC kH kP kF (pw_I dV 0 8 (fun _ => -1)) (pw_I sh (0 * 40) (0 * 40 + N) (fun y => DS (y - 0 * 40))) (pw_I nm (0 * 40) (0 * 40 + N) (fun y => DM (y - 0 * 40))) (upd (upd ln 0 (nI N)) 1 0) nb := by
  obtain ⟨hlm, hnb, hcl, O, CX, CY, CK, hqT, _⟩ := C
  obtain ⟨k1, k2, k3, k4, k5⟩ := CK
  have mono : ∀ c, c ≤ m → sr (c + 2) ≤ sr (m + 2) := by
    have aux : ∀ d c, c + d = m → sr (c + 2) ≤ sr (m + 2) := by
      intro d
      induction d with
      | zero => intro c hc; have : c = m := by omega
                subst this; exact Nat.le_refl _
      | succ d ih =>
        intro c hc
        have a := ih (c + 1) (by omega)
        have b := (k5 c (by omega)).1
        rw [show c + 1 + 2 = c + 3 by omega] at a
        omega
    exact fun c hc => aux (m - c) c (by omega)
  have dis : ∀ r, sg_VR m r → r ≠ 0 → ∀ i, i < L r → (sr r + i < 160 ∨ 160 + N ≤ sr r + i) := by
    rintro r (e | ⟨e1, e2⟩) hr i hi
    · exact absurd e hr
    · have b := (k5 (r - 2) (by omega)).1
      have a := mono (r - 1) (by omega)
      rw [show r - 2 + 3 = r + 1 by omega, show r - 2 + 2 = r by omega] at b
      rw [show r - 1 + 2 = r + 1 by omega] at a
      omega
  refine ⟨hlm, hnb, hcl, ⟨O.1, fun r hr => ?_⟩, fun r hr => ?_, fun r hr => ?_, ⟨k1, k2, k3, k4, fun c hc => ?_⟩, by rw [zs_s], dr_nil⟩
  · by_cases e : r = 0
    · subst e
      rw [zs_s, zs_s, zs_s]
      exact ⟨wt, h40, hop, fun h => by omega⟩
    · rw [zs_n e, zs_n e, zs_n e]; exact O.2 r hr
  · by_cases e : r = 0
    · subst e
      rw [zs_s, zs_s, zs_s, k1]
      refine ⟨by omega, fun i hi => ?_⟩
      rw [pw_Iin (by omega) (by omega), pw_Iin (by omega) (by omega), pw_Iin (by omega) (by omega), Nat.add_sub_cancel_left]
      exact ⟨rfl, rfl, rfl, (lk.1 i (by omega) hi).1, (lk.1 i (by omega) hi).2⟩
    · rw [zs_n e, zs_n e, zs_n e]
      obtain ⟨a, b⟩ := CX r hr
      refine ⟨a, fun i hi => ?_⟩
      have hd := dis r hr e i hi
      rw [pw_Io hd, pw_Io hd, pw_Io hd, (lk.2 _ hd).1, (lk.2 _ hd).2]
      exact b i hi
  · by_cases e : r = 0
    · subst e
      rw [zs_s, zs_s, zs_s, pk_un (by decide), pk_us]
      refine ⟨rfl, fun i hi => ?_⟩
      rw [pw_Iin (by omega) (by omega), pw_Iin (by omega) (by omega), Nat.add_sub_cancel_left]
      exact ⟨rfl, rfl⟩
    · have hrow := sg_row O.1 hr
      rw [zs_n e, zs_n e, zs_n e, pk_un hrow.2, pk_un e]
      obtain ⟨a, b⟩ := CY r hr
      refine ⟨a, fun i hi => ?_⟩
      have hd : r * 40 + i < 0 * 40 ∨ 0 * 40 + N ≤ r * 40 + i := by omega
      rw [pw_Io hd, pw_Io hd]
      exact b i hi
  · rw [zs_n (by omega), zs_n (by omega), zs_n (by omega)]; exact k5 c hc
theorem xw_a55 {post : Int32 → SX → Prop} (hp : wX_ask_55 post qB dB hS ub nT aK nM cT cL hL fL kL cls dT dO dC qT stt lm sc ac ev chc cF cTk hT tT chs 1 (nI 8) cs cn cl ca ci kS kB kC kH kP kF dV (pw_I qV 0 8 dV) ns nn nc tr fP fB fC fR fT fN hG hB hF hK hH hR hC hP pl pr) : ∀ (q i : Nat), i + q = 8 → wX_ask_55 post qB dB hS ub nT aK nM cT cL hL fL kL cls dT dO dC qT stt lm sc ac ev chc cF cTk hT tT chs (1 + q) (nI i) cs cn cl ca ci kS kB kC kH kP kF dV (pw_I qV 0 i dV) ns nn nc tr fP fB fC fR fT fN hG hB hF hK hH hR hC hP pl pr
  | 0, i, hi => by
    have e : i = 8 := by omega
    subst e
    exact hp
  | q + 1, i, hi => by
    have hin : vp_in (nI i) 8 := vp_in_nI (by omega) (by decide)
    refine br_f (nI_ge (b := 8) (by omega) (by decide)) ⟨hin, hin, nm_r (e' := pw_I qV 0 (i + 1) dV) ?_ (nm_r (nI_1 i) (xw_a55 hp q (i + 1) (by omega)))⟩
    rw [nI_clamp (by omega), ← pw_Iup (Nat.zero_le _)]
theorem yw_a82 {x1 : Int32} {post : Int32 → SY → Prop} (hp : post 0 (cL, hL, fL, kL, cls, 1, lm, sc, ac, ev, chc, x1, 1, chs, sh, nm, ln, pw_I bi 0 2056 (fun _ => -1), upd lR 0 0, upd lB 0 0, upd lC 0 0, upd lP 0 1, upd lI 0 0, gA, hB, hH, hC, hP, gD, gb, gr, gs, gc, gp, gi, yl, yr, nb)) : ∀ (q i n : Nat), i + q = 2056 → q < n → wY_ask_82 post x1 cL hL fL kL cls stt lm sc ac ev chc hT yd chs nb n (nI i) sh nm ln (pw_I bi 0 i (fun _ => -1)) lR lB lC lP lI gA hB hH hC hP gD gb gr gs gc gp gi yl yr
  | _, _, 0, _, h => by omega
  | 0, i, n + 1, hi, _ => by
    have e : i = 2056 := by omega
    subst e
    exact br_t (by decide) (nm_e (nm_e (nm_e (nm_e (nm_e hp)))))
  | q + 1, i, n + 1, hi, hn => by
    refine br_f (nI_ge (b := 2056) (by omega) (by decide)) ⟨vp_in_nI (by omega) (by decide), nm_r (e' := pw_I bi 0 (i + 1) (fun _ => -1)) ?_ (nm_r (nI_1 i) (yw_a82 hp q (i + 1) n (by omega) (by omega)))⟩
    rw [nI_clamp (by omega), ← pw_Iup (Nat.zero_le _)]
end
theorem vz_ask {u : SX} {v : SY} (I : zz_R u v) : wpX_ask (fun r u' => wpY_ask (fun r' v' => r' = r ∧ zz_R u' v') v) u := by
  refine zz_el (P := fun u v => wpX_ask (fun r u' => wpY_ask (fun r' v' => r' = r ∧ zz_R u' v') v) u) ?_ I
  intro qB dB hS ub nT aK nM cT cL hL fL kL cls dT dO dC qT stt lm sc ac ev chc cF cTk hT tT chs cs cn cl ca ci kS kB kC kH kP kF dV qV ns nn nc tr fP fB fC fR fT fN hG hB hF hK hH hR hC hP pl pr yd sh nm ln bi lR lB lC lP lI gA gD gb gr gs gc gp gi yl yr nb hA
  have Z := zz_mk hA
  obtain ⟨S, M, L, m, sr, C, R⟩ := hA
  have C0 := C
  obtain ⟨⟨n1, n2, n3, n4, l1, l2, l3, l4, _⟩, hnb, hcl, O, CX, CY, CK, hqT, N, DS, DM, d1, d2, d3, d4, d5, d6, d7, d8⟩ := C
  obtain ⟨K, G, Lv, T, k, h, _, H⟩ := R
  have hop := tx_op_le d4
  have hm := O.1
  have hcn := tx_ch_n (sh := DS) (nm := DM) N
  have RW : rw_OK sh nm ln 1 N DS DM := ⟨by omega, d1, d3, fun i hi => ⟨(d5 i hi).2.2.2.1, (d5 i hi).2.2.2.2⟩, d4⟩
  unfold wpX_ask
  rcases sf_act H with ⟨e, _⟩ | ⟨e, _⟩
  · refine xw_act1 e (br_f (by decide) ?_)
    unfold wpY_ask
    exact yw_act1 e (br_f (by decide) ⟨rfl, Z⟩)
  · refine xw_act0 e (br_t rfl ?_)
    have YA : ∀ (P : Int32 → SY → Prop), wpY_draftComplete (fun r_41 => (((r_41 = 0 → (P (-4) (cL, hL, fL, kL, cls, stt, lm, sc, ac, ev, chc, hT, yd, chs, sh, nm, ln, bi, lR, lB, lC, lP, lI, gA, hB, hH, hC, hP, gD, gb, gr, gs, gc, gp, gi, yl, yr, nb))) ∧ (¬ r_41 = 0 → (wpY_chargeOf (fun r_81 => (((r_81 ≤ hL → (wpY_copyText (fun u => match u with | (cL, hL, fL, kL, cls, stt, lm, sc, ac, ev, chc, hT, yd, chs, sh, nm, ln, bi, lR, lB, lC, lP, lI, gA, hB, hH, hC, hP, gD, gb, gr, gs, gc, gp, gi, yl, yr, nb) => (∀ a, a = upd ln 1 0 → (∃ n82 : Nat, wY_ask_82 P r_81 cL hL fL kL cls stt 0 0 0 0 (-1) hT yd 0 nb n82 0 sh nm a bi lR lB lC lP lI gA hB hH hC hP gD gb gr gs gc gp gi yl yr))) (cL, hL, fL, kL, cls, stt, lm, sc, ac, ev, chc, hT, yd, chs, sh, nm, ln, bi, lR, lB, lC, lP, lI, gA, hB, hH, hC, hP, gD, gb, gr, gs, gc, gp, gi, yl, yr, nb) 1 0)) ∧ (¬ r_81 ≤ hL → (P (-3) (cL, hL, fL, kL, cls, stt, lm, sc, ac, ev, chc, hT, yd, chs, sh, nm, ln, bi, lR, lB, lC, lP, lI, gA, hB, hH, hC, hP, gD, gb, gr, gs, gc, gp, gi, yl, yr, nb)))))) (cL, hL, fL, kL, cls, stt, lm, sc, ac, ev, chc, hT, yd, chs, sh, nm, ln, bi, lR, lB, lC, lP, lI, gA, hB, hH, hC, hP, gD, gb, gr, gs, gc, gp, gi, yl, yr, nb) 1))))) (cL, hL, fL, kL, cls, stt, lm, sc, ac, ev, chc, hT, yd, chs, sh, nm, ln, bi, lR, lB, lC, lP, lI, gA, hB, hH, hC, hP, gD, gb, gr, gs, gc, gp, gi, yl, yr, nb) → wpY_ask P (cL, hL, fL, kL, cls, stt, lm, sc, ac, ev, chc, hT, yd, chs, sh, nm, ln, bi, lR, lB, lC, lP, lI, gA, hB, hH, hC, hP, gD, gb, gr, gs, gc, gp, gi, yl, yr, nb) := by
      intro P hp
      unfold wpY_ask
      exact yw_act0 e (br_t rfl hp)
    rcases Nat.eq_zero_or_pos N with z | z
    · refine br_t (by rw [d2, z]; decide) (br_t rfl (YA _ (br_t (by rw [d3, z]; rfl) (br_t rfl ⟨rfl, Z⟩))))
    · have hX : ¬ dT ≤ 0 := by rw [d2]; exact nI_nle z (by omega)
      have hY : ¬ ln 1 = 0 := by rw [d3]; exact nI_ne0 z (by omega)
      refine br_f hX ?_
      by_cases hz : tx_op DS N = 0
      · have e0 : nI (tx_op DS N) = 0 := by rw [hz]; rfl
        have YB : ∀ (P : Int32 → SY → Prop), ((nI (tx_ch DS DM N) ≤ hL → (wpY_copyText (fun u => match u with | (cL, hL, fL, kL, cls, stt, lm, sc, ac, ev, chc, hT, yd, chs, sh, nm, ln, bi, lR, lB, lC, lP, lI, gA, hB, hH, hC, hP, gD, gb, gr, gs, gc, gp, gi, yl, yr, nb) => (∀ a, a = upd ln 1 0 → (∃ n82 : Nat, wY_ask_82 P (nI (tx_ch DS DM N)) cL hL fL kL cls stt 0 0 0 0 (-1) hT yd 0 nb n82 0 sh nm a bi lR lB lC lP lI gA hB hH hC hP gD gb gr gs gc gp gi yl yr))) (cL, hL, fL, kL, cls, stt, lm, sc, ac, ev, chc, hT, yd, chs, sh, nm, ln, bi, lR, lB, lC, lP, lI, gA, hB, hH, hC, hP, gD, gb, gr, gs, gc, gp, gi, yl, yr, nb) 1 (nI 0))) ∧ (¬ nI (tx_ch DS DM N) ≤ hL → (P (-3) (cL, hL, fL, kL, cls, stt, lm, sc, ac, ev, chc, hT, yd, chs, sh, nm, ln, bi, lR, lB, lC, lP, lI, gA, hB, hH, hC, hP, gD, gb, gr, gs, gc, gp, gi, yl, yr, nb)))) → wpY_ask P (cL, hL, fL, kL, cls, stt, lm, sc, ac, ev, chc, hT, yd, chs, sh, nm, ln, bi, lR, lB, lC, lP, lI, gA, hB, hH, hC, hP, gD, gb, gr, gs, gc, gp, gi, yl, yr, nb) := fun P hp => YA P (br_f hY (yw_open (r := 1) RW (br_t e0 (br_f (by decide) (yw_charge (r := 1) RW hp)))))
        refine br_t (by rw [d6, e0]) (br_f (by decide) ?_)
        by_cases hcap : tx_ch DS DM N ≤ n2
        · have hle : dC ≤ hL := by rw [d7, l3]; exact nI_le hcap (by omega)
          have hleY : nI (tx_ch DS DM N) ≤ hL := by rw [l3]; exact nI_le hcap (by omega)
          refine br_t hle ?_
          refine xw_copy (s := 160) d4 d1 hz (by omega) (fun i hi => ⟨(d5 i hi).1, (d5 i hi).2.1, (d5 i hi).2.2.1⟩) d2 ?_
          intro ca' ci' lk
          have C1 := rl_ask (qT := qT) C0 d1 d4 hz lk
          obtain ⟨_, _, _, O1, CX1, CY1, CK1, _, _⟩ := C1
          have hv : sg_VR m 0 := Or.inl rfl
          have eL : zs_set L 0 N 0 = N := zs_s
          have eS : zs_set S 0 DS 0 = DS := zs_s
          have eM : zs_set M 0 DM 0 = DM := zs_s
          obtain ⟨ns', nn', nc', B, BX⟩ := xw_build (r := 0) (b := 0) (lo := 0) (i0 := 0) (i1 := N) O1 CX1 hv (by omega) (by rw [eL]; exact Nat.le_refl _) (by rw [eL, eS, eM]; omega) (by omega) ns nn nc
          have HR0 : hr_HR (zs_set S 0 DS) (zs_set M 0 DM) (zs_set L 0 N) m 0 (fun _ => False) ns nn nc bi := hr_nil (by omega)
          have HR1 := hr_head (ns' := ns') (nn' := nn') (nc' := nc') (bi' := pw_I bi 0 2056 (fun _ => -1)) O1 hv (e := N) (by rw [eL]; exact Nat.le_refl _) (by rw [eS]; exact hz) HR0 (by rw [eL, eS, eM]; omega) B (fun v hv => pw_Iin (by omega) (by omega)) (fun x hx => by omega)
          rw [eS, eM] at HR1
          have lv : ∀ i, i < N → 0 < tx_op DS i → hr_NW (zs_set S 0 DS) (zs_set M 0 DM) (zs_set L 0 N) 0 0 0 (tx_ch DS DM N) (hr_cd 0 i 0) := by
            intro i hi ho
            refine ⟨hr_cd_r (by omega) (by omega), hr_cd_b (by omega), ?_, ?_, ?_, ?_⟩
            · rw [hr_cd_i (by omega) (by omega), eL]; exact hi
            · rw [hr_cd_i (by omega) (by omega), eS]; exact ho
            · omega
            · rw [tm_cd_sl (by omega) (by omega), eS, eM]; exact tx_sl_le hi
          refine ⟨9, ?_⟩
          have A55 := fun hp => xw_a55 (qB := qB) (dB := dB) (hS := hS) (ub := ub) (nT := nT) (aK := aK) (nM := nM) (cT := cT) (cL := cL) (hL := hL) (fL := fL) (kL := kL) (cls := cls) (dT := dT) (dO := dO) (dC := dC) (qT := dT) (stt := 0) (lm := 0) (sc := 0) (ac := 0) (ev := 0) (chc := -1) (cF := 0) (cTk := 0) (hT := 0) (tT := 0) (chs := 0) (cs := pw_I cs 160 (160 + N) (fun y => DS (y - 160))) (cn := pw_I cn 160 (160 + N) (fun y => DM (y - 160))) (cl := pw_I cl 160 (160 + N) (fun y => tx_s32 (tx_sl DS DM (y - 160)))) (ca := ca') (ci := ci') (kS := kS) (kB := kB) (kC := kC) (kH := kH) (kP := kP) (kF := kF) (dV := dV) (qV := qV) (ns := ns) (nn := nn) (nc := nc) (tr := tr) (fP := fP) (fB := fB) (fC := fC) (fR := fR) (fT := fT) (fN := fN) (hG := hG) (hB := hB) (hF := hF) (hK := hK) (hH := hH) (hR := hR) (hC := hC) (hP := hP) (pl := pl) (pr := pr) (post := fun r u' => wpY_ask (fun r' v' => r' = r ∧ zz_R u' v') (cL, hL, fL, kL, cls, stt, lm, sc, ac, ev, chc, hT, yd, chs, sh, nm, ln, bi, lR, lB, lC, lP, lI, gA, hB, hH, hC, hP, gD, gb, gr, gs, gc, gp, gi, yl, yr, nb)) hp 8 0 (by omega)
          rw [pw_I0 (Nat.le_refl _)] at A55
          refine A55 (br_t (by decide) ?_)
          rw [d2, show (160 : Int32) + nI N = nI (160 + N) from nI_add 160 N]
          rw [CK1.1] at BX
          refine BX _ ?_
          refine xw_clearD ?_
          refine xw_makeFrame (K := []) (Lv := fun _ => False) (p := 1) O1 CX1 rfl trivial (by omega) (by show 0 < 1; omega) ?_
          refine YB _ (br_t hleY ?_)
          refine yw_copy (x := 0) (by omega) (by omega) d1 d3 (fun i hi => ⟨(d5 i hi).2.2.2.1, (d5 i hi).2.2.2.2⟩) (nm_e ⟨2057, ?_⟩)
          have A82 := fun hp => yw_a82 (x1 := nI (tx_ch DS DM N)) (cL := cL) (hL := hL) (fL := fL) (kL := kL) (cls := cls) (stt := stt) (lm := 0) (sc := 0) (ac := 0) (ev := 0) (chc := -1) (hT := hT) (yd := yd) (chs := 0) (sh := pw_I sh (0 * 40) (0 * 40 + N) (fun y => DS (y - 0 * 40))) (nm := pw_I nm (0 * 40) (0 * 40 + N) (fun y => DM (y - 0 * 40))) (ln := upd (upd ln 0 (nI N)) 1 0) (bi := bi) (lR := lR) (lB := lB) (lC := lC) (lP := lP) (lI := lI) (gA := gA) (hB := hB) (hH := hH) (hC := hC) (hP := hP) (gD := gD) (gb := gb) (gr := gr) (gs := gs) (gc := gc) (gp := gp) (gi := gi) (yl := yl) (yr := yr) (nb := nb) (post := fun r' v' => r' = 0 ∧ zz_R (qB, dB, hS, ub, nT, aK, nM, cT, cL, hL, fL, kL, cls, 0, 0, 0, nI N, 1, 0, 0, 0, 0, -1, 1, 160, dC, 0, 0, pw_I cs 160 (160 + N) (fun y => DS (y - 160)), pw_I cn 160 (160 + N) (fun y => DM (y - 160)), pw_I cl 160 (160 + N) (fun y => tx_s32 (tx_sl DS DM (y - 160))), ca', ci', kS, kB, kC, kH, kP, kF, pw_I dV 0 8 (fun _ => -1), pw_I qV 0 8 dV, ns', nn', nc', tr, upd fP 1 (-2), upd fB 1 0, upd fC 1 0, upd fR 1 0, upd fT 1 0, upd fN 1 (nI (fr_pd (zs_set S 0 DS) (zs_set L 0 N) [])), hG, hB, hF, hK, hH, hR, hC, hP, pl, pr) v') hp 2056 0 2057 (by omega) (by omega)
          rw [pw_I0 (Nat.le_refl _)] at A82
          refine A82 ⟨rfl, ?_⟩
          rw [d7]
          refine zz_mk ⟨_, _, _, m, sr, rl_ask (qT := qT) C0 d1 d4 hz lk, [(0, 0, 0, 1, 0)], fun _ => (0, 0, 0, 0, 0, 0, 0, [], fun _ => False), fun t => False ∨ hr_NW (zs_set S 0 DS) (zs_set M 0 DM) (zs_set L 0 N) 0 0 0 (tx_ch DS DM N) t, 0, 0, tx_ch DS DM N, ⟨⟨rfl, rfl, rfl, by omega, rfl⟩, ⟨rfl, ?_, ?_, pk_us, pk_us, pk_us, ?_⟩, ⟨pk_us, pk_us, pk_us, pk_us, pk_us, trivial⟩, ⟨hv, by rw [eL]; exact z, rfl, by omega, by omega, by omega, by show 0 < 1; omega, ?_, trivial⟩, ?_, ⟨fun i hi => by omega, fun i j _ hj => by omega⟩, fun c hc => by omega, fun c d _ hd => by omega, fun c hc => by omega⟩, fun _ => rfl, Or.inr ⟨?_, ?_, Or.inl ⟨rfl, by simp⟩⟩⟩
          · rw [CK1.1]; rfl
          · rw [pk_us]; decide
          · show upd fR 1 0 1 = 0
            exact pk_us
          · intro j h1 h2 h3
            rw [eL] at h2
            rw [eS] at h3
            exact Or.inr (lv j h2 h3)
          · rw [show 0 + tx_ch DS DM N = tx_ch DS DM N by omega] at HR1
            exact HR1
          · intro i hi ho
            rw [eL] at hi
            rw [eS] at ho
            exact Or.inr (lv i hi ho)
          · intro v hv8
            rw [pw_Iin (Nat.zero_le _) hv8, eS, eM, eL]
            exact d8 v hv8
        · have hle : ¬ dC ≤ hL := by rw [d7, l3]; exact nI_ge (by omega) (by omega)
          have hleY : ¬ nI (tx_ch DS DM N) ≤ hL := by rw [l3]; exact nI_ge (by omega) (by omega)
          exact br_f hle (YB _ (br_f hleY ⟨rfl, Z⟩))
      · have e0 : ¬ nI (tx_op DS N) = 0 := nI_ne0 (by omega) (by omega)
        exact br_f (by rw [d6]; exact e0) (br_t rfl (YA _ (br_f hY (yw_open (r := 1) RW (br_f e0 (br_t rfl ⟨rfl, Z⟩))))))
end
section
/-! what is owed -/
/-- the relation at the head of a turn -/
def i_Rel (_ : Nat) (u : SX) (v : SY) : Prop := zz_R u v
theorem i_up {k : Nat} {u : SX} {v : SY} (h : i_Rel k u v) : i_Rel (k + 5) u v := h
theorem i_vc0 (k0 : Int32) (k1 : Int32) (k2 : Int32) (k3 : Int32) : wpX_init (fun u => wpY_init (fun v => i_Rel 4 u v) k0 k1 k2 k3) k0 k1 k2 k3 := by
  obtain ⟨c1, _, h1, X1, Y1⟩ := cl_v (lo := 16) (hi := 160) (by omega) (by omega) k0
  obtain ⟨c2, _, h2, X2, Y2⟩ := cl_v (lo := 16) (hi := 256) (by omega) (by omega) k1
  obtain ⟨c3, _, h3, X3, Y3⟩ := cl_v (lo := 2) (hi := 32) (by omega) (by omega) k2
  obtain ⟨c4, _, h4, X4, Y4⟩ := cl_v (lo := 1) (hi := 32) (by omega) (by omega) k3
  unfold wpX_init
  refine X1 _ (X2 _ (X3 _ (X4 _ (xw_clearD ?_))))
  show wpY_init _ k0 k1 k2 k3
  unfold wpY_init
  refine ⟨by decide, nm_r (e' := 65792) (by decide) ⟨by omega, Y1 _ (Y2 _ (Y3 _ (Y4 _ ?_)))⟩⟩
  refine zz_in (S := fun _ _ => 0) (M := fun _ _ => 0) (L := fun _ => 0) (m := 0) (sr := zs_set (fun _ => 0) 0 160) ?_ (Or.inl rfl) (fun _ => rfl)
  have hv : ∀ r, sg_VR 0 r → r = 0 := by
    rintro r (e | ⟨e1, e2⟩)
    · exact e
    · omega
  refine ⟨⟨c1, c2, c3, c4, rfl, h1, rfl, h2, rfl, h3, rfl, h4⟩, rfl, rfl, ⟨by omega, fun r hr => ⟨fun i hi => absurd hi (Nat.not_lt_zero _), Nat.zero_le _, rfl, fun h => ?_⟩⟩, fun r hr => ⟨?_, fun i hi => absurd hi (Nat.not_lt_zero _)⟩, fun r hr => ⟨rfl, fun i hi => absurd hi (Nat.not_lt_zero _)⟩, ⟨zs_s, zs_n (by omega), ?_, fun c hc => ?_, fun c hc => absurd hc (Nat.not_lt_zero _)⟩, rfl, ?_⟩
  · have := hv r hr; omega
  · have := hv r hr
    subst this
    rw [zs_s]
    show 160 + 0 ≤ 200
    omega
  · rw [zs_n (by omega)]; omega
  · have : c = 0 := by omega
    subst this
    rw [zs_n (by omega)]; rfl
  · refine ⟨0, fun _ => 0, fun _ => 0, by omega, rfl, rfl, fun i hi => by omega, fun i hi => by omega, rfl, rfl, fun v hv => ?_⟩
    rw [pw_Iin (Nat.zero_le _) hv]
    exact tx_s32_0.symm
theorem i_vc_functor {k : Nat} {u : SX} {v : SY} (I : i_Rel k u v) (hk : k + 5 ≤ 2564) (v1 : Int32) (v2 : Int32) : wpX_functor (fun r u' => wpY_functor (fun r' v' => r' = r ∧ i_Rel (k + 5) u' v') v v1 v2) u v1 v2 := vz_functor I v1 v2
theorem i_vc_variable {k : Nat} {u : SX} {v : SY} (I : i_Rel k u v) (hk : k + 5 ≤ 2564) (v1 : Int32) : wpX_variable (fun r u' => wpY_variable (fun r' v' => r' = r ∧ i_Rel (k + 5) u' v') v v1) u v1 := vz_variable I v1
theorem i_vc_cut {k : Nat} {u : SX} {v : SY} (I : i_Rel k u v) (hk : k + 5 ≤ 2564) : wpX_cut (fun r u' => wpY_cut (fun r' v' => r' = r ∧ i_Rel (k + 5) u' v') v) u := vz_cut I
theorem i_vc_clearDraft {k : Nat} {u : SX} {v : SY} (I : i_Rel k u v) (hk : k + 5 ≤ 2564) : wpX_clearDraft (fun u' => wpY_clearDraft (fun v' => i_Rel (k + 5) u' v') v) u := vz_clearDraft I
theorem i_vc_addClause {k : Nat} {u : SX} {v : SY} (I : i_Rel k u v) (hk : k + 5 ≤ 2564) : wpX_addClause (fun r u' => wpY_addClause (fun r' v' => r' = r ∧ i_Rel (k + 5) u' v') v) u := vz_addClause I
theorem i_vc_removeLastClause {k : Nat} {u : SX} {v : SY} (I : i_Rel k u v) (hk : k + 5 ≤ 2564) : wpX_removeLastClause (fun r u' => wpY_removeLastClause (fun r' v' => r' = r ∧ i_Rel (k + 5) u' v') v) u := vz_removeLastClause I
theorem i_vc_ask {k : Nat} {u : SX} {v : SY} (I : i_Rel k u v) (hk : k + 5 ≤ 2564) : wpX_ask (fun r u' => wpY_ask (fun r' v' => r' = r ∧ i_Rel (k + 5) u' v') v) u := vz_ask I
theorem i_vc_run {k : Nat} {u : SX} {v : SY} (I : i_Rel k u v) (hk : k + 5 ≤ 2564) (v1 : Int32) : wpX_run (fun r u' => wpY_run (fun r' v' => r' = r ∧ i_Rel (k + 5) u' v') v v1) u v1 := vz_run I v1
theorem i_vc_more {k : Nat} {u : SX} {v : SY} (I : i_Rel k u v) (hk : k + 5 ≤ 2564) : wpX_more (fun r u' => wpY_more (fun r' v' => r' = r ∧ i_Rel (k + 5) u' v') v) u := vz_more I
theorem i_vc_stop {k : Nat} {u : SX} {v : SY} (I : i_Rel k u v) (hk : k + 5 ≤ 2564) : wpX_stop (fun r u' => wpY_stop (fun r' v' => r' = r ∧ i_Rel (k + 5) u' v') v) u := vz_stop I
theorem i_vc_state {k : Nat} {u : SX} {v : SY} (I : i_Rel k u v) (hk : k + 5 ≤ 2564) : wpX_state (fun r => wpY_state (fun r' => r' = r ∧ i_Rel (k + 5) u v) v) u := vz_state I
theorem i_vc_limit {k : Nat} {u : SX} {v : SY} (I : i_Rel k u v) (hk : k + 5 ≤ 2564) : wpX_limit (fun r => wpY_limit (fun r' => r' = r ∧ i_Rel (k + 5) u v) v) u := vz_limit I
theorem i_vc_steps {k : Nat} {u : SX} {v : SY} (I : i_Rel k u v) (hk : k + 5 ≤ 2564) : wpX_steps (fun r => wpY_steps (fun r' => r' = r ∧ i_Rel (k + 5) u v) v) u := vz_steps I
theorem i_vc_answers {k : Nat} {u : SX} {v : SY} (I : i_Rel k u v) (hk : k + 5 ≤ 2564) : wpX_answers (fun r => wpY_answers (fun r' => r' = r ∧ i_Rel (k + 5) u v) v) u := vz_answers I
theorem i_vc_choicePoints {k : Nat} {u : SX} {v : SY} (I : i_Rel k u v) (hk : k + 5 ≤ 2564) : wpX_choicePoints (fun r => wpY_choicePoints (fun r' => r' = r ∧ i_Rel (k + 5) u v) v) u := vz_choicePoints I
theorem i_vc_frameHeight {k : Nat} {u : SX} {v : SY} (I : i_Rel k u v) (hk : k + 5 ≤ 2564) : wpX_frameHeight (fun r => wpY_frameHeight (fun r' => r' = r ∧ i_Rel (k + 5) u v) v) u := vz_frameHeight I
theorem i_vc_heapUsed {k : Nat} {u : SX} {v : SY} (I : i_Rel k u v) (hk : k + 5 ≤ 2564) : wpX_heapUsed (fun r => wpY_heapUsed (fun r' => r' = r ∧ i_Rel (k + 5) u v) v) u := vz_heapUsed I
theorem i_vc_pendingGoals {k : Nat} {u : SX} {v : SY} (I : i_Rel k u v) (hk : k + 5 ≤ 2564) : wpX_pendingGoals (fun r => wpY_pendingGoals (fun r' => r' = r ∧ i_Rel (k + 5) u v) v) u := vz_pendingGoals I
theorem i_vc_lastEvent {k : Nat} {u : SX} {v : SY} (I : i_Rel k u v) (hk : k + 5 ≤ 2564) : wpX_lastEvent (fun r => wpY_lastEvent (fun r' => r' = r ∧ i_Rel (k + 5) u v) v) u := vz_lastEvent I
theorem i_vc_lastClause {k : Nat} {u : SX} {v : SY} (I : i_Rel k u v) (hk : k + 5 ≤ 2564) : wpX_lastClause (fun r => wpY_lastClause (fun r' => r' = r ∧ i_Rel (k + 5) u v) v) u := vz_lastClause I
theorem i_vc_retryClause {k : Nat} {u : SX} {v : SY} (I : i_Rel k u v) (hk : k + 5 ≤ 2564) : wpX_retryClause (fun r => wpY_retryClause (fun r' => r' = r ∧ i_Rel (k + 5) u v) v) u := vz_retryClause I
theorem i_vc_nextPlace {k : Nat} {u : SX} {v : SY} (I : i_Rel k u v) (hk : k + 5 ≤ 2564) : wpX_nextPlace (fun r => wpY_nextPlace (fun r' => r' = r ∧ i_Rel (k + 5) u v) v) u := vz_nextPlace I
theorem i_vc_nextToken {k : Nat} {u : SX} {v : SY} (I : i_Rel k u v) (hk : k + 5 ≤ 2564) : wpX_nextToken (fun r => wpY_nextToken (fun r' => r' = r ∧ i_Rel (k + 5) u v) v) u := vz_nextToken I
theorem i_vc_termShape {k : Nat} {u : SX} {v : SY} (I : i_Rel k u v) (hk : k + 5 ≤ 2564) (v1 : Int32) (v2 : Int32) : wpX_termShape (fun r => wpY_termShape (fun r' => r' = r ∧ i_Rel (k + 5) u v) v v1 v2) u v1 v2 := vz_termShape I v1 v2
theorem i_vc_termName {k : Nat} {u : SX} {v : SY} (I : i_Rel k u v) (hk : k + 5 ≤ 2564) (v1 : Int32) (v2 : Int32) : wpX_termName (fun r => wpY_termName (fun r' => r' = r ∧ i_Rel (k + 5) u v) v v1 v2) u v1 v2 := vz_termName I v1 v2
theorem i_vc_sameVariable {k : Nat} {u : SX} {v : SY} (I : i_Rel k u v) (hk : k + 5 ≤ 2564) (v1 : Int32) (v2 : Int32) (v3 : Int32) (v4 : Int32) : wpX_sameVariable (fun r => wpY_sameVariable (fun r' => r' = r ∧ i_Rel (k + 5) u v) v v1 v2 v3 v4) u v1 v2 v3 v4 := vz_sameVariable I v1 v2 v3 v4
theorem i_vc_tokenShape {k : Nat} {u : SX} {v : SY} (I : i_Rel k u v) (hk : k + 5 ≤ 2564) (v1 : Int32) (v2 : Int32) : wpX_tokenShape (fun r => wpY_tokenShape (fun r' => r' = r ∧ i_Rel (k + 5) u v) v v1 v2) u v1 v2 := vz_tokenShape I v1 v2
theorem i_vc_tokenName {k : Nat} {u : SX} {v : SY} (I : i_Rel k u v) (hk : k + 5 ≤ 2564) (v1 : Int32) (v2 : Int32) : wpX_tokenName (fun r => wpY_tokenName (fun r' => r' = r ∧ i_Rel (k + 5) u v) v v1 v2) u v1 v2 := vz_tokenName I v1 v2
theorem i_vc_draftLength {k : Nat} {u : SX} {v : SY} (I : i_Rel k u v) (hk : k + 5 ≤ 2564) : wpX_draftLength (fun r => wpY_draftLength (fun r' => r' = r ∧ i_Rel (k + 5) u v) v) u := vz_draftLength I
theorem i_vc_clauseCount {k : Nat} {u : SX} {v : SY} (I : i_Rel k u v) (hk : k + 5 ≤ 2564) : wpX_clauseCount (fun r => wpY_clauseCount (fun r' => r' = r ∧ i_Rel (k + 5) u v) v) u := vz_clauseCount I
end
