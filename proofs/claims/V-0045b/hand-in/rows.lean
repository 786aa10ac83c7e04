section
/-! pure rows to paste: stores, nI and lN arithmetic, masks, shifts, narrowing, branches by naturals (pk_le, pk_lt, pk_eq), loops (lp1 .. lp16: the measure of the state; rp1 ..: recursion), negatives. Take what you need -/
theorem pk_us {f : Nat → Int32} {k : Nat} {x : Int32} : upd f k x k = x := if_pos rfl
theorem pk_un {f : Nat → Int32} {k j : Nat} {x : Int32} (h : j ≠ k) : upd f k x j = f j := if_neg h
theorem pk_uLs {f : Nat → Int64} {k : Nat} {x : Int64} : vp_updL f k x k = x := if_pos rfl
theorem pk_uLn {f : Nat → Int64} {k j : Nat} {x : Int64} (h : j ≠ k) : vp_updL f k x j = f j := if_neg h
theorem pk_sub {a b : Nat} (h : b ≤ a) : nI a - nI b = nI (a - b) := by
  obtain ⟨c, rfl⟩ : ∃ c, a = c + b := ⟨a - b, by omega⟩
  rw [← nI_add, Int32.add_sub_cancel, Nat.add_sub_cancel]
theorem pk_m1 (n : Nat) : nI (n + 1) + (-1) = nI n := by
  rw [← nI_1, Int32.add_assoc, show (1 : Int32) + (-1) = 0 from rfl, Int32.add_zero]
theorem pk_mul (a b : Nat) : nI a * nI b = nI (a * b) := (Int32.ofNat_mul a b).symm
theorem pk_div {a d : Nat} (ha : a < 2 ^ 31) (h0 : 0 < d) (hd : d < 2 ^ 31) : nI a / nI d = nI (a / d) := by
  apply Int32.toInt_inj.mp
  rw [lg_idiv_nonneg (by rw [nI_toInt ha]; omega) (by rw [nI_toInt hd]; omega), nI_toInt ha, nI_toInt hd, nI_toInt (Nat.lt_of_le_of_lt (Nat.div_le_self a d) ha)]
  first | rfl | exact (Int.natCast_ediv _ _).symm
theorem pk_rem {a d : Nat} (ha : a < 2 ^ 31) (h0 : 0 < d) (hd : d < 2 ^ 31) : nI a - nI a / nI d * nI d = nI (a % d) := by
  rw [pk_div ha h0 hd, pk_mul, pk_sub (Nat.div_mul_le_self a d)]
  exact congrArg nI (by have := Nat.div_add_mod' a d; omega)
theorem pk_sub_toInt {a b : Nat} (ha : a < 2 ^ 30) (hb : b < 2 ^ 30) : (nI a - nI b).toInt = (a : Int) - b := by
  rw [Int32.toInt_sub, nI_toInt (by omega), nI_toInt (by omega)]
  exact Int.bmod_eq_of_le (by omega) (by omega)
theorem pk_sneg {a b : Nat} (hb : b < 2 ^ 30) (h : a < b) : nI a - nI b < 0 := by
  rw [Int32.lt_iff_toInt_lt, pk_sub_toInt (by omega) hb, show (0 : Int32).toInt = 0 from by decide]
  omega
theorem pk_ix (x : Int32) {n : Nat} (hn : n < 2 ^ 31) : x < 0 ∨ nI n ≤ x ∨ ∃ j : Nat, j < n ∧ x = nI j := by
  by_cases h : x < 0
  · exact Or.inl h
  · obtain ⟨j, hj, rfl⟩ := nI_of h
    by_cases h2 : j < n
    · exact Or.inr (Or.inr ⟨j, h2, rfl⟩)
    · exact Or.inr (Or.inl (nI_le (by omega) hj))
theorem pk_le {x y : Int32} {A B : Prop} (a b : Nat) (f : a ≤ b → A) (g : b < a → B) (hx : x = nI a := by rfl) (hy : y = nI b := by rfl) (ha : a < 2 ^ 31 := by omega) (hb : b < 2 ^ 31 := by omega) : (x ≤ y → A) ∧ (¬ x ≤ y → B) := by
  subst hx hy
  rw [nI_leI ha hb]
  exact ⟨f, fun z => g (by omega)⟩
theorem pk_lt {x y : Int32} {A B : Prop} (a b : Nat) (f : a < b → A) (g : b ≤ a → B) (hx : x = nI a := by rfl) (hy : y = nI b := by rfl) (ha : a < 2 ^ 31 := by omega) (hb : b < 2 ^ 31 := by omega) : (x < y → A) ∧ (¬ x < y → B) := by
  subst hx hy
  rw [nI_ltI ha hb]
  exact ⟨f, fun z => g (by omega)⟩
theorem pk_eq {x y : Int32} {A B : Prop} (a b : Nat) (f : a = b → A) (g : a ≠ b → B) (hx : x = nI a := by rfl) (hy : y = nI b := by rfl) (ha : a < 2 ^ 31 := by omega) (hb : b < 2 ^ 31 := by omega) : (x = y → A) ∧ (¬ x = y → B) := by
  subst hx hy
  rw [nI_eq ha hb]
  exact ⟨f, g⟩
theorem pk_in {x : Int32} (n N : Nat) (h : n < N) (hx : x = nI n := by rfl) (hN : N < 2 ^ 31 := by omega) : vp_in x N := by
  subst hx
  exact vp_in_nI h hN
theorem pk_cl {x : Int32} (n : Nat) (hx : x = nI n := by rfl) (h : n < 2 ^ 31 := by omega) : x.toNatClampNeg = n := by
  subst hx
  exact nI_clamp h
theorem pk_tn {n : Nat} (h : n < 2 ^ 32) : (nI n).toBitVec.toNat = n := Nat.mod_eq_of_lt h
theorem pk_and (x : Int32) {m : Int32} (k : Nat) (hm : m.toBitVec.toNat = 2 ^ k - 1) : x &&& m = nI (x.toBitVec.toNat % 2 ^ k) := by
  apply Int32.toBitVec_inj.mp
  apply BitVec.eq_of_toNat_eq
  rw [Int32.toBitVec_and, BitVec.toNat_and, hm, Nat.and_two_pow_sub_one_eq_mod]
  show _ = (BitVec.ofNat 32 _).toNat
  rw [BitVec.toNat_ofNat]
  exact (Nat.mod_eq_of_lt (Nat.lt_of_le_of_lt (Nat.mod_le _ _) x.toBitVec.isLt)).symm
theorem pk_andN {n : Nat} (h : n < 2 ^ 32) {m : Int32} (k : Nat) (hm : m.toBitVec.toNat = 2 ^ k - 1) : nI n &&& m = nI (n % 2 ^ k) := by
  rw [pk_and _ k hm, pk_tn h]
theorem pk_andE (x : Int32) {m : Int32} (k : Nat) (hm : m.toBitVec.toNat = 2 ^ k - 1) : ∃ j : Nat, j < 2 ^ k ∧ x &&& m = nI j := ⟨_, Nat.mod_lt _ (Nat.two_pow_pos k), pk_and x k hm⟩
theorem pk_andIn (x : Int32) {m : Int32} (k : Nat) (hm : m.toBitVec.toNat = 2 ^ k - 1) (hk : k ≤ 30) : vp_in (x &&& m) (2 ^ k) := by
  obtain ⟨j, hj, e⟩ := pk_andE x k hm
  rw [e]
  exact vp_in_nI hj (Nat.lt_of_le_of_lt (Nat.pow_le_pow_right (by decide) hk) (by decide))
theorem pk_shl (a s : Int32) (k : Nat) (hs : (s.toBitVec.smod 32).toNat = k) : (a <<< s).toBitVec.toNat = a.toBitVec.toNat * 2 ^ k % 2 ^ 32 := by
  show (a.toBitVec <<< (s.toBitVec.smod 32).toNat).toNat = _
  rw [hs, BitVec.toNat_shiftLeft, Nat.shiftLeft_eq]
theorem pk_shlN {n : Nat} (s : Int32) (k : Nat) (hs : (s.toBitVec.smod 32).toNat = k) (h : n * 2 ^ k < 2 ^ 32) : nI n <<< s = nI (n * 2 ^ k) := by
  apply Int32.toBitVec_inj.mp
  apply BitVec.eq_of_toNat_eq
  have hn : n < 2 ^ 32 := Nat.lt_of_le_of_lt (Nat.le_mul_of_pos_right n (Nat.two_pow_pos k)) h
  rw [pk_shl _ _ k hs, pk_tn hn, pk_tn h, Nat.mod_eq_of_lt h]
theorem pk_shr (a s : Int32) (k : Nat) (hs : (s.toBitVec.smod 32).toNat = k) : (a >>> s).toInt = a.toInt >>> k := by
  show (a.toBitVec.sshiftRight (s.toBitVec.smod 32).toNat).toInt = _
  rw [hs, BitVec.toInt_sshiftRight]
  rfl
theorem pk_shrN {n : Nat} (h : n < 2 ^ 31) (s : Int32) (k : Nat) (hs : (s.toBitVec.smod 32).toNat = k) : nI n >>> s = nI (n / 2 ^ k) := by
  apply Int32.toInt_inj.mp
  have h2 : n / 2 ^ k ≤ n := Nat.div_le_self _ _
  rw [pk_shr _ _ k hs, nI_toInt h, nI_toInt (by omega), Int.shiftRight_eq_div_pow]
  rfl
theorem pk_ushr (x s : Int32) (k : Nat) (hs : ((s.toUInt32 &&& Int32.toUInt32 31).toBitVec % 32).toNat = k) : (x.toUInt32 >>> (s.toUInt32 &&& Int32.toUInt32 31)).toInt32.toBitVec.toNat = x.toBitVec.toNat / 2 ^ k := by
  have e : (x.toUInt32 >>> (s.toUInt32 &&& Int32.toUInt32 31)).toInt32.toBitVec = x.toBitVec >>> k := by
    rw [← hs]
    exact UInt32.toBitVec_shiftRight _ _
  rw [e, BitVec.toNat_ushiftRight, Nat.shiftRight_eq_div_pow]
theorem pk_ushrN {n : Nat} (hn : n < 2 ^ 32) (s : Int32) (k : Nat) (hs : ((s.toUInt32 &&& Int32.toUInt32 31).toBitVec % 32).toNat = k) : ((nI n).toUInt32 >>> (s.toUInt32 &&& Int32.toUInt32 31)).toInt32 = nI (n / 2 ^ k) := by
  apply Int32.toBitVec_inj.mp
  apply BitVec.eq_of_toNat_eq
  rw [pk_ushr _ s k hs, pk_tn hn, pk_tn (Nat.lt_of_le_of_lt (Nat.div_le_self _ _) hn)]
theorem pk_nb (z : Int32) : narrow .byte (.int z.toInt8.toInt32) = .int z.toInt8.toInt32 := congrArg Value.int (by simp)
theorem pk_ns (z : Int32) : narrow .short (.int z.toInt16.toInt32) = .int z.toInt16.toInt32 := congrArg Value.int (by simp)
theorem pk_fb (r : Int32) : fits .byte (.int r.toInt8.toInt32) = true := by
  have ⟨a, b⟩ := lg_i2b_range r
  have h1 : (-128 : Int32).toInt = -128 := by decide
  have h2 : (127 : Int32).toInt = 127 := by decide
  simp only [fits, Bool.and_eq_true, decide_eq_true_eq, Int32.le_iff_toInt_le, h1, h2]
  omega
theorem pk_fs (r : Int32) : fits .short (.int r.toInt16.toInt32) = true := by
  have ⟨a, b⟩ := lg_i2s_range r
  have h1 : (-32768 : Int32).toInt = -32768 := by decide
  have h2 : (32767 : Int32).toInt = 32767 := by decide
  simp only [fits, Bool.and_eq_true, decide_eq_true_eq, Int32.le_iff_toInt_le, h1, h2]
  omega
theorem pk_charN {q : Nat} (hq : q < 65536) : narrow .char (.int (nI q)) = .int (nI q) ∧ fits .char (.int (nI q)) = true := by
  constructor
  · have e : (nI q).toUInt32.toUInt16.toUInt32.toInt32 = nI q := by
      apply Int32.toBitVec_inj.mp
      apply BitVec.eq_of_toNat_eq
      show (nI q).toUInt32.toUInt16.toUInt32.toNat = q % 2 ^ 32
      rw [UInt16.toNat_toUInt32, UInt32.toNat_toUInt16, show (nI q).toUInt32.toNat = q % 2 ^ 32 from rfl]
      omega
    exact congrArg Value.int e
  · have a : (0 : Int32) ≤ nI q := nI_pos' (by omega)
    have b : nI q ≤ 65535 := nI_le (b := 65535) (by omega) (by decide)
    show (decide ((0 : Int32) ≤ nI q) && decide (nI q ≤ 65535)) = true
    rw [decide_eq_true a, decide_eq_true b]
    rfl
theorem pk_char (x : Int32) : (x.toUInt32 % 65536).toInt32 = nI (x.toBitVec.toNat % 65536) := by
  apply Int32.toBitVec_inj.mp
  apply BitVec.eq_of_toNat_eq
  rw [pk_tn (by omega)]
  show (x.toUInt32 % 65536).toNat = _
  rw [UInt32.toNat_mod]
  rfl
theorem pk_nc (x : Int32) : narrow .char (.int (x.toUInt32 % 65536).toInt32) = .int (x.toUInt32 % 65536).toInt32 := by
  rw [pk_char]
  exact (pk_charN (Nat.mod_lt _ (by decide))).1
theorem pk_fc (x : Int32) : fits .char (.int (x.toUInt32 % 65536).toInt32) = true := by
  rw [pk_char]
  exact (pk_charN (Nat.mod_lt _ (by decide))).2
theorem pk_vb (z : Int32) : vp_nar .byte z.toInt8.toInt32 = z.toInt8.toInt32 := by rw [vp_nar_byte]; simp
theorem pk_vs (z : Int32) : vp_nar .short z.toInt16.toInt32 = z.toInt16.toInt32 := by rw [vp_nar_short]; simp
theorem pk_vc (z : Int32) : vp_nar .char (z.toUInt32 % 65536).toInt32 = (z.toUInt32 % 65536).toInt32 := Value.int.inj (pk_nc z)
theorem pk_lT {n : Nat} (h : n < 2 ^ 63) : (lN n).toInt = (n : Int) := lg_ofNat_toInt h
theorem pk_lLT {a b : Nat} (ha : a < 2 ^ 63) (hb : b < 2 ^ 63) : lN a < lN b ↔ a < b := by
  rw [Int64.lt_iff_toInt_lt, pk_lT ha, pk_lT hb]; omega
theorem pk_lLE {a b : Nat} (ha : a < 2 ^ 63) (hb : b < 2 ^ 63) : lN a ≤ lN b ↔ a ≤ b := by
  rw [Int64.le_iff_toInt_le, pk_lT ha, pk_lT hb]; omega
theorem pk_lEQ {a b : Nat} (ha : a < 2 ^ 63) (hb : b < 2 ^ 63) : lN a = lN b ↔ a = b := by
  rw [← Int64.toInt_inj, pk_lT ha, pk_lT hb]; omega
theorem pk_lOf {x : Int64} (h : ¬ x < 0) : ∃ k : Nat, k < 2 ^ 63 ∧ x = lN k := by
  rw [Int64.lt_iff_toInt_lt] at h
  have h0 : (0 : Int64).toInt = 0 := by decide
  have hx := Int64.toInt_lt x
  refine ⟨x.toInt.toNat, by omega, Int64.toInt_inj.mp ?_⟩
  rw [pk_lT (by omega)]
  omega
theorem pk_lDiv {a b : Nat} (ha : a < 2 ^ 63) (h0 : 0 < b) (hb : b < 2 ^ 63) : lN a / lN b = lN (a / b) := by
  apply Int64.toInt_inj.mp
  rw [lg_ldiv_nonneg (by rw [pk_lT ha]; omega) (by rw [pk_lT hb]; omega), pk_lT ha, pk_lT hb, pk_lT (Nat.lt_of_le_of_lt (Nat.div_le_self a b) ha)]
  rfl
theorem pk_lRem {a b : Nat} (ha : a < 2 ^ 63) (h0 : 0 < b) (hb : b < 2 ^ 63) : lN a - lN a / lN b * lN b = lN (a % b) := by
  rw [pk_lDiv ha h0 hb, lN_mul, lN_sub (Nat.div_mul_le_self a b)]
  exact congrArg lN (by have := Nat.div_add_mod' a b; omega)
theorem pk_loop {σ : Type} (W : Nat → Nat → σ → Prop) (I : Nat → σ → Prop) (e i0 : Nat) (s : σ) (hi : i0 ≤ e) (h0 : I i0 s) (hx : ∀ n s, I e s → W (n + 1) e s)
    (hs : ∀ n i s, i < e → I i s → (∀ s', I (i + 1) s' → W n (i + 1) s') → W (n + 1) i s) : ∃ n, W n i0 s :=
  ⟨e + 1, loop_i W I e hx hs (e + 1) i0 s hi (by omega) h0⟩
theorem pk_loopD {σ : Type} (W : Nat → Nat → σ → Prop) (I : Nat → σ → Prop) (hx : ∀ n s, I 0 s → W (n + 1) 0 s)
    (hs : ∀ n i s, I (i + 1) s → (∀ s', I i s' → W n i s') → W (n + 1) (i + 1) s) : ∀ (e : Nat) (s : σ), I e s → W (e + 1) e s := by
  intro e
  induction e with
  | zero => exact fun s h => hx 0 s h
  | succ e ih => exact fun s h => hs (e + 1) e s h (fun s' h' => ih s' h')
theorem lp1 {A1 : Type} (W : Nat → A1 → Prop) (I : A1 → Prop) (μ : A1 → Nat) (hs : ∀ (n : Nat) (a1 : A1), I a1 → (∀ (b1 : A1), I b1 → μ b1 < μ a1 → W n b1) → W (n + 1) a1) (a1 : A1) (h : I a1) : ∃ n, W n a1 :=
  loop_m (σ := A1) (fun n s => W n s) (fun s => I s) (fun s => μ s) (fun n s hI hk => hs n s hI (fun b1 h9 hm => hk b1 h9 hm)) a1 h
theorem lp2 {A1 A2 : Type} (W : Nat → A1 → A2 → Prop) (I : A1 → A2 → Prop) (μ : A1 → A2 → Nat) (hs : ∀ (n : Nat) (a1 : A1) (a2 : A2), I a1 a2 → (∀ (b1 : A1) (b2 : A2), I b1 b2 → μ b1 b2 < μ a1 a2 → W n b1 b2) → W (n + 1) a1 a2) (a1 : A1) (a2 : A2) (h : I a1 a2) : ∃ n, W n a1 a2 :=
  loop_m (σ := A1 × A2) (fun n s => W n s.1 s.2) (fun s => I s.1 s.2) (fun s => μ s.1 s.2) (fun n s hI hk => hs n s.1 s.2 hI (fun b1 b2 h9 hm => hk (b1, b2) h9 hm)) (a1, a2) h
theorem lp3 {A1 A2 A3 : Type} (W : Nat → A1 → A2 → A3 → Prop) (I : A1 → A2 → A3 → Prop) (μ : A1 → A2 → A3 → Nat) (hs : ∀ (n : Nat) (a1 : A1) (a2 : A2) (a3 : A3), I a1 a2 a3 → (∀ (b1 : A1) (b2 : A2) (b3 : A3), I b1 b2 b3 → μ b1 b2 b3 < μ a1 a2 a3 → W n b1 b2 b3) → W (n + 1) a1 a2 a3) (a1 : A1) (a2 : A2) (a3 : A3) (h : I a1 a2 a3) : ∃ n, W n a1 a2 a3 :=
  loop_m (σ := A1 × A2 × A3) (fun n s => W n s.1 s.2.1 s.2.2) (fun s => I s.1 s.2.1 s.2.2) (fun s => μ s.1 s.2.1 s.2.2) (fun n s hI hk => hs n s.1 s.2.1 s.2.2 hI (fun b1 b2 b3 h9 hm => hk (b1, b2, b3) h9 hm)) (a1, a2, a3) h
theorem lp4 {A1 A2 A3 A4 : Type} (W : Nat → A1 → A2 → A3 → A4 → Prop) (I : A1 → A2 → A3 → A4 → Prop) (μ : A1 → A2 → A3 → A4 → Nat) (hs : ∀ (n : Nat) (a1 : A1) (a2 : A2) (a3 : A3) (a4 : A4), I a1 a2 a3 a4 → (∀ (b1 : A1) (b2 : A2) (b3 : A3) (b4 : A4), I b1 b2 b3 b4 → μ b1 b2 b3 b4 < μ a1 a2 a3 a4 → W n b1 b2 b3 b4) → W (n + 1) a1 a2 a3 a4) (a1 : A1) (a2 : A2) (a3 : A3) (a4 : A4) (h : I a1 a2 a3 a4) : ∃ n, W n a1 a2 a3 a4 :=
  loop_m (σ := A1 × A2 × A3 × A4) (fun n s => W n s.1 s.2.1 s.2.2.1 s.2.2.2) (fun s => I s.1 s.2.1 s.2.2.1 s.2.2.2) (fun s => μ s.1 s.2.1 s.2.2.1 s.2.2.2) (fun n s hI hk => hs n s.1 s.2.1 s.2.2.1 s.2.2.2 hI (fun b1 b2 b3 b4 h9 hm => hk (b1, b2, b3, b4) h9 hm)) (a1, a2, a3, a4) h
theorem lp5 {A1 A2 A3 A4 A5 : Type} (W : Nat → A1 → A2 → A3 → A4 → A5 → Prop) (I : A1 → A2 → A3 → A4 → A5 → Prop) (μ : A1 → A2 → A3 → A4 → A5 → Nat) (hs : ∀ (n : Nat) (a1 : A1) (a2 : A2) (a3 : A3) (a4 : A4) (a5 : A5), I a1 a2 a3 a4 a5 → (∀ (b1 : A1) (b2 : A2) (b3 : A3) (b4 : A4) (b5 : A5), I b1 b2 b3 b4 b5 → μ b1 b2 b3 b4 b5 < μ a1 a2 a3 a4 a5 → W n b1 b2 b3 b4 b5) → W (n + 1) a1 a2 a3 a4 a5) (a1 : A1) (a2 : A2) (a3 : A3) (a4 : A4) (a5 : A5) (h : I a1 a2 a3 a4 a5) : ∃ n, W n a1 a2 a3 a4 a5 :=
  loop_m (σ := A1 × A2 × A3 × A4 × A5) (fun n s => W n s.1 s.2.1 s.2.2.1 s.2.2.2.1 s.2.2.2.2) (fun s => I s.1 s.2.1 s.2.2.1 s.2.2.2.1 s.2.2.2.2) (fun s => μ s.1 s.2.1 s.2.2.1 s.2.2.2.1 s.2.2.2.2) (fun n s hI hk => hs n s.1 s.2.1 s.2.2.1 s.2.2.2.1 s.2.2.2.2 hI (fun b1 b2 b3 b4 b5 h9 hm => hk (b1, b2, b3, b4, b5) h9 hm)) (a1, a2, a3, a4, a5) h
theorem lp6 {A1 A2 A3 A4 A5 A6 : Type} (W : Nat → A1 → A2 → A3 → A4 → A5 → A6 → Prop) (I : A1 → A2 → A3 → A4 → A5 → A6 → Prop) (μ : A1 → A2 → A3 → A4 → A5 → A6 → Nat) (hs : ∀ (n : Nat) (a1 : A1) (a2 : A2) (a3 : A3) (a4 : A4) (a5 : A5) (a6 : A6), I a1 a2 a3 a4 a5 a6 → (∀ (b1 : A1) (b2 : A2) (b3 : A3) (b4 : A4) (b5 : A5) (b6 : A6), I b1 b2 b3 b4 b5 b6 → μ b1 b2 b3 b4 b5 b6 < μ a1 a2 a3 a4 a5 a6 → W n b1 b2 b3 b4 b5 b6) → W (n + 1) a1 a2 a3 a4 a5 a6) (a1 : A1) (a2 : A2) (a3 : A3) (a4 : A4) (a5 : A5) (a6 : A6) (h : I a1 a2 a3 a4 a5 a6) : ∃ n, W n a1 a2 a3 a4 a5 a6 :=
  loop_m (σ := A1 × A2 × A3 × A4 × A5 × A6) (fun n s => W n s.1 s.2.1 s.2.2.1 s.2.2.2.1 s.2.2.2.2.1 s.2.2.2.2.2) (fun s => I s.1 s.2.1 s.2.2.1 s.2.2.2.1 s.2.2.2.2.1 s.2.2.2.2.2) (fun s => μ s.1 s.2.1 s.2.2.1 s.2.2.2.1 s.2.2.2.2.1 s.2.2.2.2.2) (fun n s hI hk => hs n s.1 s.2.1 s.2.2.1 s.2.2.2.1 s.2.2.2.2.1 s.2.2.2.2.2 hI (fun b1 b2 b3 b4 b5 b6 h9 hm => hk (b1, b2, b3, b4, b5, b6) h9 hm)) (a1, a2, a3, a4, a5, a6) h
theorem lp7 {A1 A2 A3 A4 A5 A6 A7 : Type} (W : Nat → A1 → A2 → A3 → A4 → A5 → A6 → A7 → Prop) (I : A1 → A2 → A3 → A4 → A5 → A6 → A7 → Prop) (μ : A1 → A2 → A3 → A4 → A5 → A6 → A7 → Nat) (hs : ∀ (n : Nat) (a1 : A1) (a2 : A2) (a3 : A3) (a4 : A4) (a5 : A5) (a6 : A6) (a7 : A7), I a1 a2 a3 a4 a5 a6 a7 → (∀ (b1 : A1) (b2 : A2) (b3 : A3) (b4 : A4) (b5 : A5) (b6 : A6) (b7 : A7), I b1 b2 b3 b4 b5 b6 b7 → μ b1 b2 b3 b4 b5 b6 b7 < μ a1 a2 a3 a4 a5 a6 a7 → W n b1 b2 b3 b4 b5 b6 b7) → W (n + 1) a1 a2 a3 a4 a5 a6 a7) (a1 : A1) (a2 : A2) (a3 : A3) (a4 : A4) (a5 : A5) (a6 : A6) (a7 : A7) (h : I a1 a2 a3 a4 a5 a6 a7) : ∃ n, W n a1 a2 a3 a4 a5 a6 a7 :=
  loop_m (σ := A1 × A2 × A3 × A4 × A5 × A6 × A7) (fun n s => W n s.1 s.2.1 s.2.2.1 s.2.2.2.1 s.2.2.2.2.1 s.2.2.2.2.2.1 s.2.2.2.2.2.2) (fun s => I s.1 s.2.1 s.2.2.1 s.2.2.2.1 s.2.2.2.2.1 s.2.2.2.2.2.1 s.2.2.2.2.2.2) (fun s => μ s.1 s.2.1 s.2.2.1 s.2.2.2.1 s.2.2.2.2.1 s.2.2.2.2.2.1 s.2.2.2.2.2.2) (fun n s hI hk => hs n s.1 s.2.1 s.2.2.1 s.2.2.2.1 s.2.2.2.2.1 s.2.2.2.2.2.1 s.2.2.2.2.2.2 hI (fun b1 b2 b3 b4 b5 b6 b7 h9 hm => hk (b1, b2, b3, b4, b5, b6, b7) h9 hm)) (a1, a2, a3, a4, a5, a6, a7) h
theorem lp8 {A1 A2 A3 A4 A5 A6 A7 A8 : Type} (W : Nat → A1 → A2 → A3 → A4 → A5 → A6 → A7 → A8 → Prop) (I : A1 → A2 → A3 → A4 → A5 → A6 → A7 → A8 → Prop) (μ : A1 → A2 → A3 → A4 → A5 → A6 → A7 → A8 → Nat) (hs : ∀ (n : Nat) (a1 : A1) (a2 : A2) (a3 : A3) (a4 : A4) (a5 : A5) (a6 : A6) (a7 : A7) (a8 : A8), I a1 a2 a3 a4 a5 a6 a7 a8 → (∀ (b1 : A1) (b2 : A2) (b3 : A3) (b4 : A4) (b5 : A5) (b6 : A6) (b7 : A7) (b8 : A8), I b1 b2 b3 b4 b5 b6 b7 b8 → μ b1 b2 b3 b4 b5 b6 b7 b8 < μ a1 a2 a3 a4 a5 a6 a7 a8 → W n b1 b2 b3 b4 b5 b6 b7 b8) → W (n + 1) a1 a2 a3 a4 a5 a6 a7 a8) (a1 : A1) (a2 : A2) (a3 : A3) (a4 : A4) (a5 : A5) (a6 : A6) (a7 : A7) (a8 : A8) (h : I a1 a2 a3 a4 a5 a6 a7 a8) : ∃ n, W n a1 a2 a3 a4 a5 a6 a7 a8 :=
  loop_m (σ := A1 × A2 × A3 × A4 × A5 × A6 × A7 × A8) (fun n s => W n s.1 s.2.1 s.2.2.1 s.2.2.2.1 s.2.2.2.2.1 s.2.2.2.2.2.1 s.2.2.2.2.2.2.1 s.2.2.2.2.2.2.2) (fun s => I s.1 s.2.1 s.2.2.1 s.2.2.2.1 s.2.2.2.2.1 s.2.2.2.2.2.1 s.2.2.2.2.2.2.1 s.2.2.2.2.2.2.2) (fun s => μ s.1 s.2.1 s.2.2.1 s.2.2.2.1 s.2.2.2.2.1 s.2.2.2.2.2.1 s.2.2.2.2.2.2.1 s.2.2.2.2.2.2.2) (fun n s hI hk => hs n s.1 s.2.1 s.2.2.1 s.2.2.2.1 s.2.2.2.2.1 s.2.2.2.2.2.1 s.2.2.2.2.2.2.1 s.2.2.2.2.2.2.2 hI (fun b1 b2 b3 b4 b5 b6 b7 b8 h9 hm => hk (b1, b2, b3, b4, b5, b6, b7, b8) h9 hm)) (a1, a2, a3, a4, a5, a6, a7, a8) h
theorem lp9 {A1 A2 A3 A4 A5 A6 A7 A8 A9 : Type} (W : Nat → A1 → A2 → A3 → A4 → A5 → A6 → A7 → A8 → A9 → Prop) (I : A1 → A2 → A3 → A4 → A5 → A6 → A7 → A8 → A9 → Prop) (μ : A1 → A2 → A3 → A4 → A5 → A6 → A7 → A8 → A9 → Nat) (hs : ∀ (n : Nat) (a1 : A1) (a2 : A2) (a3 : A3) (a4 : A4) (a5 : A5) (a6 : A6) (a7 : A7) (a8 : A8) (a9 : A9), I a1 a2 a3 a4 a5 a6 a7 a8 a9 → (∀ (b1 : A1) (b2 : A2) (b3 : A3) (b4 : A4) (b5 : A5) (b6 : A6) (b7 : A7) (b8 : A8) (b9 : A9), I b1 b2 b3 b4 b5 b6 b7 b8 b9 → μ b1 b2 b3 b4 b5 b6 b7 b8 b9 < μ a1 a2 a3 a4 a5 a6 a7 a8 a9 → W n b1 b2 b3 b4 b5 b6 b7 b8 b9) → W (n + 1) a1 a2 a3 a4 a5 a6 a7 a8 a9) (a1 : A1) (a2 : A2) (a3 : A3) (a4 : A4) (a5 : A5) (a6 : A6) (a7 : A7) (a8 : A8) (a9 : A9) (h : I a1 a2 a3 a4 a5 a6 a7 a8 a9) : ∃ n, W n a1 a2 a3 a4 a5 a6 a7 a8 a9 :=
  loop_m (σ := A1 × A2 × A3 × A4 × A5 × A6 × A7 × A8 × A9) (fun n s => W n s.1 s.2.1 s.2.2.1 s.2.2.2.1 s.2.2.2.2.1 s.2.2.2.2.2.1 s.2.2.2.2.2.2.1 s.2.2.2.2.2.2.2.1 s.2.2.2.2.2.2.2.2) (fun s => I s.1 s.2.1 s.2.2.1 s.2.2.2.1 s.2.2.2.2.1 s.2.2.2.2.2.1 s.2.2.2.2.2.2.1 s.2.2.2.2.2.2.2.1 s.2.2.2.2.2.2.2.2) (fun s => μ s.1 s.2.1 s.2.2.1 s.2.2.2.1 s.2.2.2.2.1 s.2.2.2.2.2.1 s.2.2.2.2.2.2.1 s.2.2.2.2.2.2.2.1 s.2.2.2.2.2.2.2.2) (fun n s hI hk => hs n s.1 s.2.1 s.2.2.1 s.2.2.2.1 s.2.2.2.2.1 s.2.2.2.2.2.1 s.2.2.2.2.2.2.1 s.2.2.2.2.2.2.2.1 s.2.2.2.2.2.2.2.2 hI (fun b1 b2 b3 b4 b5 b6 b7 b8 b9 h9 hm => hk (b1, b2, b3, b4, b5, b6, b7, b8, b9) h9 hm)) (a1, a2, a3, a4, a5, a6, a7, a8, a9) h
theorem lp10 {A1 A2 A3 A4 A5 A6 A7 A8 A9 A10 : Type} (W : Nat → A1 → A2 → A3 → A4 → A5 → A6 → A7 → A8 → A9 → A10 → Prop) (I : A1 → A2 → A3 → A4 → A5 → A6 → A7 → A8 → A9 → A10 → Prop) (μ : A1 → A2 → A3 → A4 → A5 → A6 → A7 → A8 → A9 → A10 → Nat) (hs : ∀ (n : Nat) (a1 : A1) (a2 : A2) (a3 : A3) (a4 : A4) (a5 : A5) (a6 : A6) (a7 : A7) (a8 : A8) (a9 : A9) (a10 : A10), I a1 a2 a3 a4 a5 a6 a7 a8 a9 a10 → (∀ (b1 : A1) (b2 : A2) (b3 : A3) (b4 : A4) (b5 : A5) (b6 : A6) (b7 : A7) (b8 : A8) (b9 : A9) (b10 : A10), I b1 b2 b3 b4 b5 b6 b7 b8 b9 b10 → μ b1 b2 b3 b4 b5 b6 b7 b8 b9 b10 < μ a1 a2 a3 a4 a5 a6 a7 a8 a9 a10 → W n b1 b2 b3 b4 b5 b6 b7 b8 b9 b10) → W (n + 1) a1 a2 a3 a4 a5 a6 a7 a8 a9 a10) (a1 : A1) (a2 : A2) (a3 : A3) (a4 : A4) (a5 : A5) (a6 : A6) (a7 : A7) (a8 : A8) (a9 : A9) (a10 : A10) (h : I a1 a2 a3 a4 a5 a6 a7 a8 a9 a10) : ∃ n, W n a1 a2 a3 a4 a5 a6 a7 a8 a9 a10 :=
  loop_m (σ := A1 × A2 × A3 × A4 × A5 × A6 × A7 × A8 × A9 × A10) (fun n s => W n s.1 s.2.1 s.2.2.1 s.2.2.2.1 s.2.2.2.2.1 s.2.2.2.2.2.1 s.2.2.2.2.2.2.1 s.2.2.2.2.2.2.2.1 s.2.2.2.2.2.2.2.2.1 s.2.2.2.2.2.2.2.2.2) (fun s => I s.1 s.2.1 s.2.2.1 s.2.2.2.1 s.2.2.2.2.1 s.2.2.2.2.2.1 s.2.2.2.2.2.2.1 s.2.2.2.2.2.2.2.1 s.2.2.2.2.2.2.2.2.1 s.2.2.2.2.2.2.2.2.2) (fun s => μ s.1 s.2.1 s.2.2.1 s.2.2.2.1 s.2.2.2.2.1 s.2.2.2.2.2.1 s.2.2.2.2.2.2.1 s.2.2.2.2.2.2.2.1 s.2.2.2.2.2.2.2.2.1 s.2.2.2.2.2.2.2.2.2) (fun n s hI hk => hs n s.1 s.2.1 s.2.2.1 s.2.2.2.1 s.2.2.2.2.1 s.2.2.2.2.2.1 s.2.2.2.2.2.2.1 s.2.2.2.2.2.2.2.1 s.2.2.2.2.2.2.2.2.1 s.2.2.2.2.2.2.2.2.2 hI (fun b1 b2 b3 b4 b5 b6 b7 b8 b9 b10 h9 hm => hk (b1, b2, b3, b4, b5, b6, b7, b8, b9, b10) h9 hm)) (a1, a2, a3, a4, a5, a6, a7, a8, a9, a10) h
theorem lp11 {A1 A2 A3 A4 A5 A6 A7 A8 A9 A10 A11 : Type} (W : Nat → A1 → A2 → A3 → A4 → A5 → A6 → A7 → A8 → A9 → A10 → A11 → Prop) (I : A1 → A2 → A3 → A4 → A5 → A6 → A7 → A8 → A9 → A10 → A11 → Prop) (μ : A1 → A2 → A3 → A4 → A5 → A6 → A7 → A8 → A9 → A10 → A11 → Nat) (hs : ∀ (n : Nat) (a1 : A1) (a2 : A2) (a3 : A3) (a4 : A4) (a5 : A5) (a6 : A6) (a7 : A7) (a8 : A8) (a9 : A9) (a10 : A10) (a11 : A11), I a1 a2 a3 a4 a5 a6 a7 a8 a9 a10 a11 → (∀ (b1 : A1) (b2 : A2) (b3 : A3) (b4 : A4) (b5 : A5) (b6 : A6) (b7 : A7) (b8 : A8) (b9 : A9) (b10 : A10) (b11 : A11), I b1 b2 b3 b4 b5 b6 b7 b8 b9 b10 b11 → μ b1 b2 b3 b4 b5 b6 b7 b8 b9 b10 b11 < μ a1 a2 a3 a4 a5 a6 a7 a8 a9 a10 a11 → W n b1 b2 b3 b4 b5 b6 b7 b8 b9 b10 b11) → W (n + 1) a1 a2 a3 a4 a5 a6 a7 a8 a9 a10 a11) (a1 : A1) (a2 : A2) (a3 : A3) (a4 : A4) (a5 : A5) (a6 : A6) (a7 : A7) (a8 : A8) (a9 : A9) (a10 : A10) (a11 : A11) (h : I a1 a2 a3 a4 a5 a6 a7 a8 a9 a10 a11) : ∃ n, W n a1 a2 a3 a4 a5 a6 a7 a8 a9 a10 a11 :=
  loop_m (σ := A1 × A2 × A3 × A4 × A5 × A6 × A7 × A8 × A9 × A10 × A11) (fun n s => W n s.1 s.2.1 s.2.2.1 s.2.2.2.1 s.2.2.2.2.1 s.2.2.2.2.2.1 s.2.2.2.2.2.2.1 s.2.2.2.2.2.2.2.1 s.2.2.2.2.2.2.2.2.1 s.2.2.2.2.2.2.2.2.2.1 s.2.2.2.2.2.2.2.2.2.2) (fun s => I s.1 s.2.1 s.2.2.1 s.2.2.2.1 s.2.2.2.2.1 s.2.2.2.2.2.1 s.2.2.2.2.2.2.1 s.2.2.2.2.2.2.2.1 s.2.2.2.2.2.2.2.2.1 s.2.2.2.2.2.2.2.2.2.1 s.2.2.2.2.2.2.2.2.2.2) (fun s => μ s.1 s.2.1 s.2.2.1 s.2.2.2.1 s.2.2.2.2.1 s.2.2.2.2.2.1 s.2.2.2.2.2.2.1 s.2.2.2.2.2.2.2.1 s.2.2.2.2.2.2.2.2.1 s.2.2.2.2.2.2.2.2.2.1 s.2.2.2.2.2.2.2.2.2.2) (fun n s hI hk => hs n s.1 s.2.1 s.2.2.1 s.2.2.2.1 s.2.2.2.2.1 s.2.2.2.2.2.1 s.2.2.2.2.2.2.1 s.2.2.2.2.2.2.2.1 s.2.2.2.2.2.2.2.2.1 s.2.2.2.2.2.2.2.2.2.1 s.2.2.2.2.2.2.2.2.2.2 hI (fun b1 b2 b3 b4 b5 b6 b7 b8 b9 b10 b11 h9 hm => hk (b1, b2, b3, b4, b5, b6, b7, b8, b9, b10, b11) h9 hm)) (a1, a2, a3, a4, a5, a6, a7, a8, a9, a10, a11) h
theorem lp12 {A1 A2 A3 A4 A5 A6 A7 A8 A9 A10 A11 A12 : Type} (W : Nat → A1 → A2 → A3 → A4 → A5 → A6 → A7 → A8 → A9 → A10 → A11 → A12 → Prop) (I : A1 → A2 → A3 → A4 → A5 → A6 → A7 → A8 → A9 → A10 → A11 → A12 → Prop) (μ : A1 → A2 → A3 → A4 → A5 → A6 → A7 → A8 → A9 → A10 → A11 → A12 → Nat) (hs : ∀ (n : Nat) (a1 : A1) (a2 : A2) (a3 : A3) (a4 : A4) (a5 : A5) (a6 : A6) (a7 : A7) (a8 : A8) (a9 : A9) (a10 : A10) (a11 : A11) (a12 : A12), I a1 a2 a3 a4 a5 a6 a7 a8 a9 a10 a11 a12 → (∀ (b1 : A1) (b2 : A2) (b3 : A3) (b4 : A4) (b5 : A5) (b6 : A6) (b7 : A7) (b8 : A8) (b9 : A9) (b10 : A10) (b11 : A11) (b12 : A12), I b1 b2 b3 b4 b5 b6 b7 b8 b9 b10 b11 b12 → μ b1 b2 b3 b4 b5 b6 b7 b8 b9 b10 b11 b12 < μ a1 a2 a3 a4 a5 a6 a7 a8 a9 a10 a11 a12 → W n b1 b2 b3 b4 b5 b6 b7 b8 b9 b10 b11 b12) → W (n + 1) a1 a2 a3 a4 a5 a6 a7 a8 a9 a10 a11 a12) (a1 : A1) (a2 : A2) (a3 : A3) (a4 : A4) (a5 : A5) (a6 : A6) (a7 : A7) (a8 : A8) (a9 : A9) (a10 : A10) (a11 : A11) (a12 : A12) (h : I a1 a2 a3 a4 a5 a6 a7 a8 a9 a10 a11 a12) : ∃ n, W n a1 a2 a3 a4 a5 a6 a7 a8 a9 a10 a11 a12 :=
  loop_m (σ := A1 × A2 × A3 × A4 × A5 × A6 × A7 × A8 × A9 × A10 × A11 × A12) (fun n s => W n s.1 s.2.1 s.2.2.1 s.2.2.2.1 s.2.2.2.2.1 s.2.2.2.2.2.1 s.2.2.2.2.2.2.1 s.2.2.2.2.2.2.2.1 s.2.2.2.2.2.2.2.2.1 s.2.2.2.2.2.2.2.2.2.1 s.2.2.2.2.2.2.2.2.2.2.1 s.2.2.2.2.2.2.2.2.2.2.2) (fun s => I s.1 s.2.1 s.2.2.1 s.2.2.2.1 s.2.2.2.2.1 s.2.2.2.2.2.1 s.2.2.2.2.2.2.1 s.2.2.2.2.2.2.2.1 s.2.2.2.2.2.2.2.2.1 s.2.2.2.2.2.2.2.2.2.1 s.2.2.2.2.2.2.2.2.2.2.1 s.2.2.2.2.2.2.2.2.2.2.2) (fun s => μ s.1 s.2.1 s.2.2.1 s.2.2.2.1 s.2.2.2.2.1 s.2.2.2.2.2.1 s.2.2.2.2.2.2.1 s.2.2.2.2.2.2.2.1 s.2.2.2.2.2.2.2.2.1 s.2.2.2.2.2.2.2.2.2.1 s.2.2.2.2.2.2.2.2.2.2.1 s.2.2.2.2.2.2.2.2.2.2.2) (fun n s hI hk => hs n s.1 s.2.1 s.2.2.1 s.2.2.2.1 s.2.2.2.2.1 s.2.2.2.2.2.1 s.2.2.2.2.2.2.1 s.2.2.2.2.2.2.2.1 s.2.2.2.2.2.2.2.2.1 s.2.2.2.2.2.2.2.2.2.1 s.2.2.2.2.2.2.2.2.2.2.1 s.2.2.2.2.2.2.2.2.2.2.2 hI (fun b1 b2 b3 b4 b5 b6 b7 b8 b9 b10 b11 b12 h9 hm => hk (b1, b2, b3, b4, b5, b6, b7, b8, b9, b10, b11, b12) h9 hm)) (a1, a2, a3, a4, a5, a6, a7, a8, a9, a10, a11, a12) h
theorem lp13 {A1 A2 A3 A4 A5 A6 A7 A8 A9 A10 A11 A12 A13 : Type} (W : Nat → A1 → A2 → A3 → A4 → A5 → A6 → A7 → A8 → A9 → A10 → A11 → A12 → A13 → Prop) (I : A1 → A2 → A3 → A4 → A5 → A6 → A7 → A8 → A9 → A10 → A11 → A12 → A13 → Prop) (μ : A1 → A2 → A3 → A4 → A5 → A6 → A7 → A8 → A9 → A10 → A11 → A12 → A13 → Nat) (hs : ∀ (n : Nat) (a1 : A1) (a2 : A2) (a3 : A3) (a4 : A4) (a5 : A5) (a6 : A6) (a7 : A7) (a8 : A8) (a9 : A9) (a10 : A10) (a11 : A11) (a12 : A12) (a13 : A13), I a1 a2 a3 a4 a5 a6 a7 a8 a9 a10 a11 a12 a13 → (∀ (b1 : A1) (b2 : A2) (b3 : A3) (b4 : A4) (b5 : A5) (b6 : A6) (b7 : A7) (b8 : A8) (b9 : A9) (b10 : A10) (b11 : A11) (b12 : A12) (b13 : A13), I b1 b2 b3 b4 b5 b6 b7 b8 b9 b10 b11 b12 b13 → μ b1 b2 b3 b4 b5 b6 b7 b8 b9 b10 b11 b12 b13 < μ a1 a2 a3 a4 a5 a6 a7 a8 a9 a10 a11 a12 a13 → W n b1 b2 b3 b4 b5 b6 b7 b8 b9 b10 b11 b12 b13) → W (n + 1) a1 a2 a3 a4 a5 a6 a7 a8 a9 a10 a11 a12 a13) (a1 : A1) (a2 : A2) (a3 : A3) (a4 : A4) (a5 : A5) (a6 : A6) (a7 : A7) (a8 : A8) (a9 : A9) (a10 : A10) (a11 : A11) (a12 : A12) (a13 : A13) (h : I a1 a2 a3 a4 a5 a6 a7 a8 a9 a10 a11 a12 a13) : ∃ n, W n a1 a2 a3 a4 a5 a6 a7 a8 a9 a10 a11 a12 a13 :=
  loop_m (σ := A1 × A2 × A3 × A4 × A5 × A6 × A7 × A8 × A9 × A10 × A11 × A12 × A13) (fun n s => W n s.1 s.2.1 s.2.2.1 s.2.2.2.1 s.2.2.2.2.1 s.2.2.2.2.2.1 s.2.2.2.2.2.2.1 s.2.2.2.2.2.2.2.1 s.2.2.2.2.2.2.2.2.1 s.2.2.2.2.2.2.2.2.2.1 s.2.2.2.2.2.2.2.2.2.2.1 s.2.2.2.2.2.2.2.2.2.2.2.1 s.2.2.2.2.2.2.2.2.2.2.2.2) (fun s => I s.1 s.2.1 s.2.2.1 s.2.2.2.1 s.2.2.2.2.1 s.2.2.2.2.2.1 s.2.2.2.2.2.2.1 s.2.2.2.2.2.2.2.1 s.2.2.2.2.2.2.2.2.1 s.2.2.2.2.2.2.2.2.2.1 s.2.2.2.2.2.2.2.2.2.2.1 s.2.2.2.2.2.2.2.2.2.2.2.1 s.2.2.2.2.2.2.2.2.2.2.2.2) (fun s => μ s.1 s.2.1 s.2.2.1 s.2.2.2.1 s.2.2.2.2.1 s.2.2.2.2.2.1 s.2.2.2.2.2.2.1 s.2.2.2.2.2.2.2.1 s.2.2.2.2.2.2.2.2.1 s.2.2.2.2.2.2.2.2.2.1 s.2.2.2.2.2.2.2.2.2.2.1 s.2.2.2.2.2.2.2.2.2.2.2.1 s.2.2.2.2.2.2.2.2.2.2.2.2) (fun n s hI hk => hs n s.1 s.2.1 s.2.2.1 s.2.2.2.1 s.2.2.2.2.1 s.2.2.2.2.2.1 s.2.2.2.2.2.2.1 s.2.2.2.2.2.2.2.1 s.2.2.2.2.2.2.2.2.1 s.2.2.2.2.2.2.2.2.2.1 s.2.2.2.2.2.2.2.2.2.2.1 s.2.2.2.2.2.2.2.2.2.2.2.1 s.2.2.2.2.2.2.2.2.2.2.2.2 hI (fun b1 b2 b3 b4 b5 b6 b7 b8 b9 b10 b11 b12 b13 h9 hm => hk (b1, b2, b3, b4, b5, b6, b7, b8, b9, b10, b11, b12, b13) h9 hm)) (a1, a2, a3, a4, a5, a6, a7, a8, a9, a10, a11, a12, a13) h
theorem lp14 {A1 A2 A3 A4 A5 A6 A7 A8 A9 A10 A11 A12 A13 A14 : Type} (W : Nat → A1 → A2 → A3 → A4 → A5 → A6 → A7 → A8 → A9 → A10 → A11 → A12 → A13 → A14 → Prop) (I : A1 → A2 → A3 → A4 → A5 → A6 → A7 → A8 → A9 → A10 → A11 → A12 → A13 → A14 → Prop) (μ : A1 → A2 → A3 → A4 → A5 → A6 → A7 → A8 → A9 → A10 → A11 → A12 → A13 → A14 → Nat) (hs : ∀ (n : Nat) (a1 : A1) (a2 : A2) (a3 : A3) (a4 : A4) (a5 : A5) (a6 : A6) (a7 : A7) (a8 : A8) (a9 : A9) (a10 : A10) (a11 : A11) (a12 : A12) (a13 : A13) (a14 : A14), I a1 a2 a3 a4 a5 a6 a7 a8 a9 a10 a11 a12 a13 a14 → (∀ (b1 : A1) (b2 : A2) (b3 : A3) (b4 : A4) (b5 : A5) (b6 : A6) (b7 : A7) (b8 : A8) (b9 : A9) (b10 : A10) (b11 : A11) (b12 : A12) (b13 : A13) (b14 : A14), I b1 b2 b3 b4 b5 b6 b7 b8 b9 b10 b11 b12 b13 b14 → μ b1 b2 b3 b4 b5 b6 b7 b8 b9 b10 b11 b12 b13 b14 < μ a1 a2 a3 a4 a5 a6 a7 a8 a9 a10 a11 a12 a13 a14 → W n b1 b2 b3 b4 b5 b6 b7 b8 b9 b10 b11 b12 b13 b14) → W (n + 1) a1 a2 a3 a4 a5 a6 a7 a8 a9 a10 a11 a12 a13 a14) (a1 : A1) (a2 : A2) (a3 : A3) (a4 : A4) (a5 : A5) (a6 : A6) (a7 : A7) (a8 : A8) (a9 : A9) (a10 : A10) (a11 : A11) (a12 : A12) (a13 : A13) (a14 : A14) (h : I a1 a2 a3 a4 a5 a6 a7 a8 a9 a10 a11 a12 a13 a14) : ∃ n, W n a1 a2 a3 a4 a5 a6 a7 a8 a9 a10 a11 a12 a13 a14 :=
  loop_m (σ := A1 × A2 × A3 × A4 × A5 × A6 × A7 × A8 × A9 × A10 × A11 × A12 × A13 × A14) (fun n s => W n s.1 s.2.1 s.2.2.1 s.2.2.2.1 s.2.2.2.2.1 s.2.2.2.2.2.1 s.2.2.2.2.2.2.1 s.2.2.2.2.2.2.2.1 s.2.2.2.2.2.2.2.2.1 s.2.2.2.2.2.2.2.2.2.1 s.2.2.2.2.2.2.2.2.2.2.1 s.2.2.2.2.2.2.2.2.2.2.2.1 s.2.2.2.2.2.2.2.2.2.2.2.2.1 s.2.2.2.2.2.2.2.2.2.2.2.2.2) (fun s => I s.1 s.2.1 s.2.2.1 s.2.2.2.1 s.2.2.2.2.1 s.2.2.2.2.2.1 s.2.2.2.2.2.2.1 s.2.2.2.2.2.2.2.1 s.2.2.2.2.2.2.2.2.1 s.2.2.2.2.2.2.2.2.2.1 s.2.2.2.2.2.2.2.2.2.2.1 s.2.2.2.2.2.2.2.2.2.2.2.1 s.2.2.2.2.2.2.2.2.2.2.2.2.1 s.2.2.2.2.2.2.2.2.2.2.2.2.2) (fun s => μ s.1 s.2.1 s.2.2.1 s.2.2.2.1 s.2.2.2.2.1 s.2.2.2.2.2.1 s.2.2.2.2.2.2.1 s.2.2.2.2.2.2.2.1 s.2.2.2.2.2.2.2.2.1 s.2.2.2.2.2.2.2.2.2.1 s.2.2.2.2.2.2.2.2.2.2.1 s.2.2.2.2.2.2.2.2.2.2.2.1 s.2.2.2.2.2.2.2.2.2.2.2.2.1 s.2.2.2.2.2.2.2.2.2.2.2.2.2) (fun n s hI hk => hs n s.1 s.2.1 s.2.2.1 s.2.2.2.1 s.2.2.2.2.1 s.2.2.2.2.2.1 s.2.2.2.2.2.2.1 s.2.2.2.2.2.2.2.1 s.2.2.2.2.2.2.2.2.1 s.2.2.2.2.2.2.2.2.2.1 s.2.2.2.2.2.2.2.2.2.2.1 s.2.2.2.2.2.2.2.2.2.2.2.1 s.2.2.2.2.2.2.2.2.2.2.2.2.1 s.2.2.2.2.2.2.2.2.2.2.2.2.2 hI (fun b1 b2 b3 b4 b5 b6 b7 b8 b9 b10 b11 b12 b13 b14 h9 hm => hk (b1, b2, b3, b4, b5, b6, b7, b8, b9, b10, b11, b12, b13, b14) h9 hm)) (a1, a2, a3, a4, a5, a6, a7, a8, a9, a10, a11, a12, a13, a14) h
theorem lp15 {A1 A2 A3 A4 A5 A6 A7 A8 A9 A10 A11 A12 A13 A14 A15 : Type} (W : Nat → A1 → A2 → A3 → A4 → A5 → A6 → A7 → A8 → A9 → A10 → A11 → A12 → A13 → A14 → A15 → Prop) (I : A1 → A2 → A3 → A4 → A5 → A6 → A7 → A8 → A9 → A10 → A11 → A12 → A13 → A14 → A15 → Prop) (μ : A1 → A2 → A3 → A4 → A5 → A6 → A7 → A8 → A9 → A10 → A11 → A12 → A13 → A14 → A15 → Nat) (hs : ∀ (n : Nat) (a1 : A1) (a2 : A2) (a3 : A3) (a4 : A4) (a5 : A5) (a6 : A6) (a7 : A7) (a8 : A8) (a9 : A9) (a10 : A10) (a11 : A11) (a12 : A12) (a13 : A13) (a14 : A14) (a15 : A15), I a1 a2 a3 a4 a5 a6 a7 a8 a9 a10 a11 a12 a13 a14 a15 → (∀ (b1 : A1) (b2 : A2) (b3 : A3) (b4 : A4) (b5 : A5) (b6 : A6) (b7 : A7) (b8 : A8) (b9 : A9) (b10 : A10) (b11 : A11) (b12 : A12) (b13 : A13) (b14 : A14) (b15 : A15), I b1 b2 b3 b4 b5 b6 b7 b8 b9 b10 b11 b12 b13 b14 b15 → μ b1 b2 b3 b4 b5 b6 b7 b8 b9 b10 b11 b12 b13 b14 b15 < μ a1 a2 a3 a4 a5 a6 a7 a8 a9 a10 a11 a12 a13 a14 a15 → W n b1 b2 b3 b4 b5 b6 b7 b8 b9 b10 b11 b12 b13 b14 b15) → W (n + 1) a1 a2 a3 a4 a5 a6 a7 a8 a9 a10 a11 a12 a13 a14 a15) (a1 : A1) (a2 : A2) (a3 : A3) (a4 : A4) (a5 : A5) (a6 : A6) (a7 : A7) (a8 : A8) (a9 : A9) (a10 : A10) (a11 : A11) (a12 : A12) (a13 : A13) (a14 : A14) (a15 : A15) (h : I a1 a2 a3 a4 a5 a6 a7 a8 a9 a10 a11 a12 a13 a14 a15) : ∃ n, W n a1 a2 a3 a4 a5 a6 a7 a8 a9 a10 a11 a12 a13 a14 a15 :=
  loop_m (σ := A1 × A2 × A3 × A4 × A5 × A6 × A7 × A8 × A9 × A10 × A11 × A12 × A13 × A14 × A15) (fun n s => W n s.1 s.2.1 s.2.2.1 s.2.2.2.1 s.2.2.2.2.1 s.2.2.2.2.2.1 s.2.2.2.2.2.2.1 s.2.2.2.2.2.2.2.1 s.2.2.2.2.2.2.2.2.1 s.2.2.2.2.2.2.2.2.2.1 s.2.2.2.2.2.2.2.2.2.2.1 s.2.2.2.2.2.2.2.2.2.2.2.1 s.2.2.2.2.2.2.2.2.2.2.2.2.1 s.2.2.2.2.2.2.2.2.2.2.2.2.2.1 s.2.2.2.2.2.2.2.2.2.2.2.2.2.2) (fun s => I s.1 s.2.1 s.2.2.1 s.2.2.2.1 s.2.2.2.2.1 s.2.2.2.2.2.1 s.2.2.2.2.2.2.1 s.2.2.2.2.2.2.2.1 s.2.2.2.2.2.2.2.2.1 s.2.2.2.2.2.2.2.2.2.1 s.2.2.2.2.2.2.2.2.2.2.1 s.2.2.2.2.2.2.2.2.2.2.2.1 s.2.2.2.2.2.2.2.2.2.2.2.2.1 s.2.2.2.2.2.2.2.2.2.2.2.2.2.1 s.2.2.2.2.2.2.2.2.2.2.2.2.2.2) (fun s => μ s.1 s.2.1 s.2.2.1 s.2.2.2.1 s.2.2.2.2.1 s.2.2.2.2.2.1 s.2.2.2.2.2.2.1 s.2.2.2.2.2.2.2.1 s.2.2.2.2.2.2.2.2.1 s.2.2.2.2.2.2.2.2.2.1 s.2.2.2.2.2.2.2.2.2.2.1 s.2.2.2.2.2.2.2.2.2.2.2.1 s.2.2.2.2.2.2.2.2.2.2.2.2.1 s.2.2.2.2.2.2.2.2.2.2.2.2.2.1 s.2.2.2.2.2.2.2.2.2.2.2.2.2.2) (fun n s hI hk => hs n s.1 s.2.1 s.2.2.1 s.2.2.2.1 s.2.2.2.2.1 s.2.2.2.2.2.1 s.2.2.2.2.2.2.1 s.2.2.2.2.2.2.2.1 s.2.2.2.2.2.2.2.2.1 s.2.2.2.2.2.2.2.2.2.1 s.2.2.2.2.2.2.2.2.2.2.1 s.2.2.2.2.2.2.2.2.2.2.2.1 s.2.2.2.2.2.2.2.2.2.2.2.2.1 s.2.2.2.2.2.2.2.2.2.2.2.2.2.1 s.2.2.2.2.2.2.2.2.2.2.2.2.2.2 hI (fun b1 b2 b3 b4 b5 b6 b7 b8 b9 b10 b11 b12 b13 b14 b15 h9 hm => hk (b1, b2, b3, b4, b5, b6, b7, b8, b9, b10, b11, b12, b13, b14, b15) h9 hm)) (a1, a2, a3, a4, a5, a6, a7, a8, a9, a10, a11, a12, a13, a14, a15) h
theorem lp16 {A1 A2 A3 A4 A5 A6 A7 A8 A9 A10 A11 A12 A13 A14 A15 A16 : Type} (W : Nat → A1 → A2 → A3 → A4 → A5 → A6 → A7 → A8 → A9 → A10 → A11 → A12 → A13 → A14 → A15 → A16 → Prop) (I : A1 → A2 → A3 → A4 → A5 → A6 → A7 → A8 → A9 → A10 → A11 → A12 → A13 → A14 → A15 → A16 → Prop) (μ : A1 → A2 → A3 → A4 → A5 → A6 → A7 → A8 → A9 → A10 → A11 → A12 → A13 → A14 → A15 → A16 → Nat) (hs : ∀ (n : Nat) (a1 : A1) (a2 : A2) (a3 : A3) (a4 : A4) (a5 : A5) (a6 : A6) (a7 : A7) (a8 : A8) (a9 : A9) (a10 : A10) (a11 : A11) (a12 : A12) (a13 : A13) (a14 : A14) (a15 : A15) (a16 : A16), I a1 a2 a3 a4 a5 a6 a7 a8 a9 a10 a11 a12 a13 a14 a15 a16 → (∀ (b1 : A1) (b2 : A2) (b3 : A3) (b4 : A4) (b5 : A5) (b6 : A6) (b7 : A7) (b8 : A8) (b9 : A9) (b10 : A10) (b11 : A11) (b12 : A12) (b13 : A13) (b14 : A14) (b15 : A15) (b16 : A16), I b1 b2 b3 b4 b5 b6 b7 b8 b9 b10 b11 b12 b13 b14 b15 b16 → μ b1 b2 b3 b4 b5 b6 b7 b8 b9 b10 b11 b12 b13 b14 b15 b16 < μ a1 a2 a3 a4 a5 a6 a7 a8 a9 a10 a11 a12 a13 a14 a15 a16 → W n b1 b2 b3 b4 b5 b6 b7 b8 b9 b10 b11 b12 b13 b14 b15 b16) → W (n + 1) a1 a2 a3 a4 a5 a6 a7 a8 a9 a10 a11 a12 a13 a14 a15 a16) (a1 : A1) (a2 : A2) (a3 : A3) (a4 : A4) (a5 : A5) (a6 : A6) (a7 : A7) (a8 : A8) (a9 : A9) (a10 : A10) (a11 : A11) (a12 : A12) (a13 : A13) (a14 : A14) (a15 : A15) (a16 : A16) (h : I a1 a2 a3 a4 a5 a6 a7 a8 a9 a10 a11 a12 a13 a14 a15 a16) : ∃ n, W n a1 a2 a3 a4 a5 a6 a7 a8 a9 a10 a11 a12 a13 a14 a15 a16 :=
  loop_m (σ := A1 × A2 × A3 × A4 × A5 × A6 × A7 × A8 × A9 × A10 × A11 × A12 × A13 × A14 × A15 × A16) (fun n s => W n s.1 s.2.1 s.2.2.1 s.2.2.2.1 s.2.2.2.2.1 s.2.2.2.2.2.1 s.2.2.2.2.2.2.1 s.2.2.2.2.2.2.2.1 s.2.2.2.2.2.2.2.2.1 s.2.2.2.2.2.2.2.2.2.1 s.2.2.2.2.2.2.2.2.2.2.1 s.2.2.2.2.2.2.2.2.2.2.2.1 s.2.2.2.2.2.2.2.2.2.2.2.2.1 s.2.2.2.2.2.2.2.2.2.2.2.2.2.1 s.2.2.2.2.2.2.2.2.2.2.2.2.2.2.1 s.2.2.2.2.2.2.2.2.2.2.2.2.2.2.2) (fun s => I s.1 s.2.1 s.2.2.1 s.2.2.2.1 s.2.2.2.2.1 s.2.2.2.2.2.1 s.2.2.2.2.2.2.1 s.2.2.2.2.2.2.2.1 s.2.2.2.2.2.2.2.2.1 s.2.2.2.2.2.2.2.2.2.1 s.2.2.2.2.2.2.2.2.2.2.1 s.2.2.2.2.2.2.2.2.2.2.2.1 s.2.2.2.2.2.2.2.2.2.2.2.2.1 s.2.2.2.2.2.2.2.2.2.2.2.2.2.1 s.2.2.2.2.2.2.2.2.2.2.2.2.2.2.1 s.2.2.2.2.2.2.2.2.2.2.2.2.2.2.2) (fun s => μ s.1 s.2.1 s.2.2.1 s.2.2.2.1 s.2.2.2.2.1 s.2.2.2.2.2.1 s.2.2.2.2.2.2.1 s.2.2.2.2.2.2.2.1 s.2.2.2.2.2.2.2.2.1 s.2.2.2.2.2.2.2.2.2.1 s.2.2.2.2.2.2.2.2.2.2.1 s.2.2.2.2.2.2.2.2.2.2.2.1 s.2.2.2.2.2.2.2.2.2.2.2.2.1 s.2.2.2.2.2.2.2.2.2.2.2.2.2.1 s.2.2.2.2.2.2.2.2.2.2.2.2.2.2.1 s.2.2.2.2.2.2.2.2.2.2.2.2.2.2.2) (fun n s hI hk => hs n s.1 s.2.1 s.2.2.1 s.2.2.2.1 s.2.2.2.2.1 s.2.2.2.2.2.1 s.2.2.2.2.2.2.1 s.2.2.2.2.2.2.2.1 s.2.2.2.2.2.2.2.2.1 s.2.2.2.2.2.2.2.2.2.1 s.2.2.2.2.2.2.2.2.2.2.1 s.2.2.2.2.2.2.2.2.2.2.2.1 s.2.2.2.2.2.2.2.2.2.2.2.2.1 s.2.2.2.2.2.2.2.2.2.2.2.2.2.1 s.2.2.2.2.2.2.2.2.2.2.2.2.2.2.1 s.2.2.2.2.2.2.2.2.2.2.2.2.2.2.2 hI (fun b1 b2 b3 b4 b5 b6 b7 b8 b9 b10 b11 b12 b13 b14 b15 b16 h9 hm => hk (b1, b2, b3, b4, b5, b6, b7, b8, b9, b10, b11, b12, b13, b14, b15, b16) h9 hm)) (a1, a2, a3, a4, a5, a6, a7, a8, a9, a10, a11, a12, a13, a14, a15, a16) h
theorem pk_least (P : Nat → Prop) (h : ∃ k, P k) : ∃ k, P k ∧ ∀ j, j < k → ¬ P j := by
  obtain ⟨k, hk⟩ := h
  induction k using Nat.strongRecOn with
  | ind k ih =>
    by_cases e : ∃ j, j < k ∧ P j
    · obtain ⟨j, hj, pj⟩ := e
      exact ih j hj pj
    · exact ⟨k, hk, fun j hj pj => e ⟨j, hj, pj⟩⟩
theorem rp1 {ρ A1 : Type} (W : Nat → (ρ → Prop) → A1 → Prop) (ok : A1 → Prop) (μ : A1 → Nat) (val : A1 → ρ)
    (hs : ∀ (d : Nat) (post : ρ → Prop) (a1 : A1), ok a1 → post (val a1) → (∀ (post' : ρ → Prop) (b1 : A1), ok b1 → μ b1 < μ a1 → post' (val b1) → W d post' b1) → W (d + 1) post a1) :
    ∀ (d : Nat) (post : ρ → Prop) (a1 : A1), ok a1 → μ a1 < d → post (val a1) → W d post a1 := by
  intro d
  induction d with
  | zero => intro post a1 _ h; omega
  | succ d ih =>
    intro post a1 ho hm hp
    exact hs d post a1 ho hp (fun post' b1 ho' hm' hp' => ih post' b1 ho' (by omega) hp')
theorem rp2 {ρ A1 A2 : Type} (W : Nat → (ρ → Prop) → A1 → A2 → Prop) (ok : A1 → A2 → Prop) (μ : A1 → A2 → Nat) (val : A1 → A2 → ρ)
    (hs : ∀ (d : Nat) (post : ρ → Prop) (a1 : A1) (a2 : A2), ok a1 a2 → post (val a1 a2) → (∀ (post' : ρ → Prop) (b1 : A1) (b2 : A2), ok b1 b2 → μ b1 b2 < μ a1 a2 → post' (val b1 b2) → W d post' b1 b2) → W (d + 1) post a1 a2) :
    ∀ (d : Nat) (post : ρ → Prop) (a1 : A1) (a2 : A2), ok a1 a2 → μ a1 a2 < d → post (val a1 a2) → W d post a1 a2 := by
  intro d
  induction d with
  | zero => intro post a1 a2 _ h; omega
  | succ d ih =>
    intro post a1 a2 ho hm hp
    exact hs d post a1 a2 ho hp (fun post' b1 b2 ho' hm' hp' => ih post' b1 b2 ho' (by omega) hp')
theorem rp3 {ρ A1 A2 A3 : Type} (W : Nat → (ρ → Prop) → A1 → A2 → A3 → Prop) (ok : A1 → A2 → A3 → Prop) (μ : A1 → A2 → A3 → Nat) (val : A1 → A2 → A3 → ρ)
    (hs : ∀ (d : Nat) (post : ρ → Prop) (a1 : A1) (a2 : A2) (a3 : A3), ok a1 a2 a3 → post (val a1 a2 a3) → (∀ (post' : ρ → Prop) (b1 : A1) (b2 : A2) (b3 : A3), ok b1 b2 b3 → μ b1 b2 b3 < μ a1 a2 a3 → post' (val b1 b2 b3) → W d post' b1 b2 b3) → W (d + 1) post a1 a2 a3) :
    ∀ (d : Nat) (post : ρ → Prop) (a1 : A1) (a2 : A2) (a3 : A3), ok a1 a2 a3 → μ a1 a2 a3 < d → post (val a1 a2 a3) → W d post a1 a2 a3 := by
  intro d
  induction d with
  | zero => intro post a1 a2 a3 _ h; omega
  | succ d ih =>
    intro post a1 a2 a3 ho hm hp
    exact hs d post a1 a2 a3 ho hp (fun post' b1 b2 b3 ho' hm' hp' => ih post' b1 b2 b3 ho' (by omega) hp')
theorem rp4 {ρ A1 A2 A3 A4 : Type} (W : Nat → (ρ → Prop) → A1 → A2 → A3 → A4 → Prop) (ok : A1 → A2 → A3 → A4 → Prop) (μ : A1 → A2 → A3 → A4 → Nat) (val : A1 → A2 → A3 → A4 → ρ)
    (hs : ∀ (d : Nat) (post : ρ → Prop) (a1 : A1) (a2 : A2) (a3 : A3) (a4 : A4), ok a1 a2 a3 a4 → post (val a1 a2 a3 a4) → (∀ (post' : ρ → Prop) (b1 : A1) (b2 : A2) (b3 : A3) (b4 : A4), ok b1 b2 b3 b4 → μ b1 b2 b3 b4 < μ a1 a2 a3 a4 → post' (val b1 b2 b3 b4) → W d post' b1 b2 b3 b4) → W (d + 1) post a1 a2 a3 a4) :
    ∀ (d : Nat) (post : ρ → Prop) (a1 : A1) (a2 : A2) (a3 : A3) (a4 : A4), ok a1 a2 a3 a4 → μ a1 a2 a3 a4 < d → post (val a1 a2 a3 a4) → W d post a1 a2 a3 a4 := by
  intro d
  induction d with
  | zero => intro post a1 a2 a3 a4 _ h; omega
  | succ d ih =>
    intro post a1 a2 a3 a4 ho hm hp
    exact hs d post a1 a2 a3 a4 ho hp (fun post' b1 b2 b3 b4 ho' hm' hp' => ih post' b1 b2 b3 b4 ho' (by omega) hp')
theorem rp5 {ρ A1 A2 A3 A4 A5 : Type} (W : Nat → (ρ → Prop) → A1 → A2 → A3 → A4 → A5 → Prop) (ok : A1 → A2 → A3 → A4 → A5 → Prop) (μ : A1 → A2 → A3 → A4 → A5 → Nat) (val : A1 → A2 → A3 → A4 → A5 → ρ)
    (hs : ∀ (d : Nat) (post : ρ → Prop) (a1 : A1) (a2 : A2) (a3 : A3) (a4 : A4) (a5 : A5), ok a1 a2 a3 a4 a5 → post (val a1 a2 a3 a4 a5) → (∀ (post' : ρ → Prop) (b1 : A1) (b2 : A2) (b3 : A3) (b4 : A4) (b5 : A5), ok b1 b2 b3 b4 b5 → μ b1 b2 b3 b4 b5 < μ a1 a2 a3 a4 a5 → post' (val b1 b2 b3 b4 b5) → W d post' b1 b2 b3 b4 b5) → W (d + 1) post a1 a2 a3 a4 a5) :
    ∀ (d : Nat) (post : ρ → Prop) (a1 : A1) (a2 : A2) (a3 : A3) (a4 : A4) (a5 : A5), ok a1 a2 a3 a4 a5 → μ a1 a2 a3 a4 a5 < d → post (val a1 a2 a3 a4 a5) → W d post a1 a2 a3 a4 a5 := by
  intro d
  induction d with
  | zero => intro post a1 a2 a3 a4 a5 _ h; omega
  | succ d ih =>
    intro post a1 a2 a3 a4 a5 ho hm hp
    exact hs d post a1 a2 a3 a4 a5 ho hp (fun post' b1 b2 b3 b4 b5 ho' hm' hp' => ih post' b1 b2 b3 b4 b5 ho' (by omega) hp')
theorem rp6 {ρ A1 A2 A3 A4 A5 A6 : Type} (W : Nat → (ρ → Prop) → A1 → A2 → A3 → A4 → A5 → A6 → Prop) (ok : A1 → A2 → A3 → A4 → A5 → A6 → Prop) (μ : A1 → A2 → A3 → A4 → A5 → A6 → Nat) (val : A1 → A2 → A3 → A4 → A5 → A6 → ρ)
    (hs : ∀ (d : Nat) (post : ρ → Prop) (a1 : A1) (a2 : A2) (a3 : A3) (a4 : A4) (a5 : A5) (a6 : A6), ok a1 a2 a3 a4 a5 a6 → post (val a1 a2 a3 a4 a5 a6) → (∀ (post' : ρ → Prop) (b1 : A1) (b2 : A2) (b3 : A3) (b4 : A4) (b5 : A5) (b6 : A6), ok b1 b2 b3 b4 b5 b6 → μ b1 b2 b3 b4 b5 b6 < μ a1 a2 a3 a4 a5 a6 → post' (val b1 b2 b3 b4 b5 b6) → W d post' b1 b2 b3 b4 b5 b6) → W (d + 1) post a1 a2 a3 a4 a5 a6) :
    ∀ (d : Nat) (post : ρ → Prop) (a1 : A1) (a2 : A2) (a3 : A3) (a4 : A4) (a5 : A5) (a6 : A6), ok a1 a2 a3 a4 a5 a6 → μ a1 a2 a3 a4 a5 a6 < d → post (val a1 a2 a3 a4 a5 a6) → W d post a1 a2 a3 a4 a5 a6 := by
  intro d
  induction d with
  | zero => intro post a1 a2 a3 a4 a5 a6 _ h; omega
  | succ d ih =>
    intro post a1 a2 a3 a4 a5 a6 ho hm hp
    exact hs d post a1 a2 a3 a4 a5 a6 ho hp (fun post' b1 b2 b3 b4 b5 b6 ho' hm' hp' => ih post' b1 b2 b3 b4 b5 b6 ho' (by omega) hp')
theorem rec_p {σ ρ : Type} (W : Nat → (ρ → Prop) → σ → Prop) (ok : σ → Prop) (μ : σ → Nat) (val : σ → ρ)
    (hs : ∀ d s post, ok s → post (val s) → (∀ s' post', ok s' → μ s' < μ s → post' (val s') → W d post' s') → W (d + 1) post s) :
    ∀ d s post, ok s → μ s < d → post (val s) → W d post s := by
  intro d
  induction d with
  | zero => intro s post _ h; omega
  | succ d ih =>
    intro s post ho hm hp
    exact hs d s post ho hp (fun s' post' ho' hm' hp' => ih s' post' ho' (by omega) hp')
theorem rec_q {σ ρ : Type} (W : Nat → (ρ → Prop) → σ → Prop) (ok : σ → Prop) (μ : σ → Nat) (Q : σ → ρ → Prop)
    (hs : ∀ d s post, ok s → (∀ r, Q s r → post r) → (∀ s' post', ok s' → μ s' < μ s → (∀ r, Q s' r → post' r) → W d post' s') → W (d + 1) post s) :
    ∀ d s post, ok s → μ s < d → (∀ r, Q s r → post r) → W d post s := by
  intro d
  induction d with
  | zero => intro s post _ h; omega
  | succ d ih =>
    intro s post ho hm hp
    exact hs d s post ho hp (fun s' post' ho' hm' hp' => ih s' post' ho' (by omega) hp')
def bx_sum (f : Nat → Int32) : Nat → Int32
  | 0 => 0
  | n + 1 => bx_sum f n + f n
theorem ek_u {A : Prop} {B : Nat → Prop} {k N : Nat} (hk : k < N) (h : B k) : (some k = none → A) ∧ (∀ y : Nat, some k = some y → (y < N ∧ B y)) :=
  ⟨fun z => absurd z (Option.some_ne_none k), fun _ e => (by cases e; exact ⟨hk, h⟩)⟩
theorem ek_nu {A : Prop} {B : Nat → Prop} (h : A) : ((none : Option Nat) = none → A) ∧ (∀ y : Nat, (none : Option Nat) = some y → B y) :=
  ⟨fun _ => h, fun _ e => (by cases e)⟩
theorem ek_if {c d A B : Prop} (e : c ↔ d) (f : d → A) (g : ¬ d → B) : (c → A) ∧ (¬ c → B) :=
  ⟨fun z => f (e.mp z), fun z => g (fun y => z (e.mpr y))⟩
theorem ek_v {α : Sort _} {P : α → Prop} {a b : α} (e : a = b) (h : P b) : P a := e ▸ h
theorem co_some {x : Option Nat} {A : Prop} {B : Nat → Prop} (i : Nat) (h : B i) (hx : x = some i := by rfl) : (x = none → A) ∧ (∀ y : Nat, x = some y → B y) := by
  subst hx
  exact ⟨fun e => (nomatch e), fun y e => Option.some.inj e ▸ h⟩
theorem co_none {x : Option Nat} {A : Prop} {B : Nat → Prop} (h : A) (hx : x = none := by rfl) : (x = none → A) ∧ (∀ y : Nat, x = some y → B y) := by
  subst hx
  exact ⟨fun _ => h, fun y e => (nomatch e)⟩
theorem co_any {x : Option Nat} {A : Prop} {B : Nat → Prop} (hn : x = none → A) (hs : ∀ i : Nat, x = some i → B i) : (x = none → A) ∧ (∀ y : Nat, x = some y → B y) := ⟨hn, hs⟩
theorem co_2 {P : Nat → Prop} (h0 : P 0) (h1 : P 1) {i : Nat} (hi : i < 2) : P i :=
  match i, hi with
  | 0, _ => h0
  | 1, _ => h1
theorem co_3 {P : Nat → Prop} (h0 : P 0) (h1 : P 1) (h2 : P 2) {i : Nat} (hi : i < 3) : P i :=
  match i, hi with
  | 0, _ => h0
  | 1, _ => h1
  | 2, _ => h2
theorem co_4 {P : Nat → Prop} (h0 : P 0) (h1 : P 1) (h2 : P 2) (h3 : P 3) {i : Nat} (hi : i < 4) : P i :=
  match i, hi with
  | 0, _ => h0
  | 1, _ => h1
  | 2, _ => h2
  | 3, _ => h3
theorem co_dec {N : Nat} {P : Nat → Prop} [DecidablePred P] (h : (List.range N).all (fun i => decide (P i)) = true) {i : Nat} (hi : i < N) : P i := by
  have := List.all_eq_true.mp h i (List.mem_range.mpr hi)
  exact of_decide_eq_true this
theorem co_tab {α : Type} {l : List α} {d : α} {P : α → Prop} (h : ∀ a, a ∈ l → P a) {i : Nat} (hi : i < l.length) : P (l.getD i d) := by
  rw [List.getD_eq_getElem?_getD, List.getElem?_eq_getElem hi]
  exact h _ (List.getElem_mem hi)
theorem pk_mu {x : Int32} {L : Nat} (h0 : ¬ x < 0) (h : ¬ nI L ≤ x) (hL : L < 2 ^ 31) : ∃ j : Nat, j < L ∧ x = nI j ∧ x + 1 = nI (j + 1) ∧ x.toNatClampNeg = j ∧ L - (x + 1).toNatClampNeg < L - x.toNatClampNeg := by
  obtain ⟨j, hj, rfl⟩ := nI_of h0
  have hl : j < L := Nat.not_le.mp fun q => h (nI_le q hj)
  refine ⟨j, hl, rfl, nI_1 j, nI_clamp hj, ?_⟩
  rw [nI_1, nI_clamp (by omega), nI_clamp hj]
  omega
theorem op_s {α : Type} {r : Option α} {A : Prop} {B : α → Prop} {y : α} (h : r = some y) (b : B y) : (r = none → A) ∧ ∀ z, r = some z → B z :=
  ⟨fun e => (by rw [h] at e; cases e), fun z e => (by rw [h] at e; cases e; exact b)⟩
def l_holds {α : Type} (a : Nat → Option Nat) (LP : List Nat) (p : Nat → α) (c : Nat) (b : Nat → α) : Prop :=
  ∀ j, j < c → ∃ y, a j = some y ∧ y ∈ LP ∧ p y = b j
theorem l_holds_0 {α : Type} {a : Nat → Option Nat} {LP : List Nat} {p b : Nat → α} : l_holds a LP p 0 b := fun j h => absurd h (Nat.not_lt_zero j)
theorem l_in_new (LP : List Nat) (q : Nat) : q ∈ LP ++ [q] := List.mem_append.mpr (Or.inr (List.mem_singleton.mpr rfl))
def l_sum (b : Nat → Int32) : Nat → Int32
  | 0 => 0
  | k + 1 => l_sum b k + b k
theorem sb_shr0 (x : Int32) : x >>> ((0 : Int32) &&& 31) = x := by
  rw [show ((0 : Int32) &&& 31) = 0 by decide]
  simp
theorem sb_shl0 (x : Int32) : x <<< ((0 : Int32) &&& 31) = x := by
  rw [show ((0 : Int32) &&& 31) = 0 by decide]
  simp
theorem sb_cl0 : (0 : Int32).toNatClampNeg = 0 := by decide
theorem sb_m1 {p : Nat} (h : 0 < p) : nI p + (-1) = nI (p - 1) := by
  obtain ⟨q, rfl⟩ : ∃ q, p = q + 1 := ⟨p - 1, by omega⟩
  exact pk_m1 q
def sb_b (c : Nat) : Int32 := (nI c).toInt8.toInt32
theorem sb_byte : ∀ c, c < 256 → sb_b c &&& 255 = nI c ∧ ((nI c).toUInt32 % 65536).toInt32 = nI c ∧ nI c ≤ 255 := by decide +kernel
def sb_Fit (a : Nat → Int32) : Prop := ∀ j, fits .byte (.int (a j)) = true
def sb_Lat (t : Nat → Nat) (n : Nat) (a : Nat → Int32) : Prop := ∀ j, j < n → t j < 256 ∧ a j = sb_b (t j)
theorem sb_fitB (c : Nat) : fits .byte (.int (sb_b c)) = true := pk_fb _
theorem sb_fit0 : sb_Fit (fun _ => 0) := fun _ => by
  show fits .byte (.int 0) = true
  decide
theorem sb_fitU {a : Nat → Int32} {k : Nat} {x : Int32} (h : sb_Fit a) (hx : fits .byte (.int x) = true) : sb_Fit (upd a k x) := by
  intro j
  by_cases e : j = k
  · subst e
    rw [pk_us]
    exact hx
  · rw [pk_un e]
    exact h j
def sb_cat (t : Nat → Nat) (n : Nat) (s : Nat → Nat) : Nat → Nat := fun j => if j < n then t j else s (j - n)
theorem sb_cat_lo {t s : Nat → Nat} {n j : Nat} (h : j < n) : sb_cat t n s j = t j := if_pos h
theorem sb_cat_hi {t s : Nat → Nat} {n j : Nat} : sb_cat t n s (n + j) = s j := by
  show (if n + j < n then t (n + j) else s (n + j - n)) = s j
  rw [if_neg (by omega), Nat.add_sub_cancel_left]
theorem sb_latPut {t s : Nat → Nat} {n w : Nat} {a a' : Nat → Int32} (h : sb_Lat t n a) (hk : ∀ j, j < n → a' j = a j) (hs : ∀ i, i < w → s i < 256 ∧ a' (n + i) = sb_b (s i)) : sb_Lat (sb_cat t n s) (n + w) a' := by
  intro j hj
  by_cases e : j < n
  · rw [sb_cat_lo e, hk j e]
    exact h j e
  · obtain ⟨i, rfl⟩ : ∃ i, j = n + i := ⟨j - n, by omega⟩
    rw [sb_cat_hi]
    exact hs i (by omega)
theorem sb_latKeep {t : Nat → Nat} {n : Nat} {a a' : Nat → Int32} (h : sb_Lat t n a) (hk : ∀ j, j < n → a' j = a j) : sb_Lat t n a' := fun j hj => by
  rw [hk j hj]
  exact h j hj
def sb_cap (q m : Nat) : Nat := if q ≤ m then m else if 2 * m + 2 < q then q else 2 * m + 2
def sb_Room (q m mc ms : Nat) : Prop := q ≤ m ∨ (1 ≤ mc ∧ sb_cap q m ≤ ms ∧ sb_cap q m ≤ 65536)
theorem sb_cap_ge (q m : Nat) : q ≤ sb_cap q m := by
  unfold sb_cap
  split
  · omega
  · split <;> omega
theorem sb_cap_gem (q m : Nat) : m ≤ sb_cap q m := by
  unfold sb_cap
  split
  · omega
  · split <;> omega
theorem sb_cap_le {q m mc ms : Nat} (hm : m ≤ 65536) (hr : sb_Room q m mc ms) : sb_cap q m ≤ 65536 := by
  rcases hr with h | h
  · rw [sb_cap, if_pos h]
    exact hm
  · exact h.2.2
theorem sb_at {P : Int32 → Prop} {x y : Int32} (e : x = y) (h : P y) : P x := e ▸ h
def sb_dg (w : Nat) : Nat := if w < 10 then 1 else if w < 100 then 2 else if w < 1000 then 3 else if w < 10000 then 4 else if w < 100000 then 5 else if w < 1000000 then 6 else if w < 10000000 then 7 else if w < 100000000 then 8 else if w < 1000000000 then 9 else 10
def sb_dec (v : Nat) : Nat → Nat := fun i => 48 + v / 10 ^ (sb_dg v - 1 - i) % 10
theorem sb_dg_in (w : Nat) : 1 ≤ sb_dg w ∧ sb_dg w ≤ 10 := by
  unfold sb_dg
  constructor <;> (repeat' split) <;> omega
theorem sb_dg100 {w : Nat} (h : 100 ≤ w) (hw : w < 2 ^ 31) : sb_dg w = sb_dg (w / 100) + 2 := by
  rw [sb_dg, sb_dg, if_neg (show ¬ w < 10 by omega), if_neg (show ¬ w < 100 by omega)]
  by_cases h3 : w < 1000
  · rw [if_pos h3, if_pos (show w / 100 < 10 by omega)]
  rw [if_neg h3, if_neg (show ¬ w / 100 < 10 by omega)]
  by_cases h4 : w < 10000
  · rw [if_pos h4, if_pos (show w / 100 < 100 by omega)]
  rw [if_neg h4, if_neg (show ¬ w / 100 < 100 by omega)]
  by_cases h5 : w < 100000
  · rw [if_pos h5, if_pos (show w / 100 < 1000 by omega)]
  rw [if_neg h5, if_neg (show ¬ w / 100 < 1000 by omega)]
  by_cases h6 : w < 1000000
  · rw [if_pos h6, if_pos (show w / 100 < 10000 by omega)]
  rw [if_neg h6, if_neg (show ¬ w / 100 < 10000 by omega)]
  by_cases h7 : w < 10000000
  · rw [if_pos h7, if_pos (show w / 100 < 100000 by omega)]
  rw [if_neg h7, if_neg (show ¬ w / 100 < 100000 by omega)]
  by_cases h8 : w < 100000000
  · rw [if_pos h8, if_pos (show w / 100 < 1000000 by omega)]
  rw [if_neg h8, if_neg (show ¬ w / 100 < 1000000 by omega)]
  by_cases h9 : w < 1000000000
  · rw [if_pos h9, if_pos (show w / 100 < 10000000 by omega)]
  rw [if_neg h9, if_neg (show ¬ w / 100 < 10000000 by omega)]
  rw [if_pos (show w / 100 < 100000000 by omega)]
theorem sb_negT {w : Nat} (h : w < 2 ^ 31) : (-nI w).toInt = -(w : Int) := by
  rw [Int32.toInt_neg, nI_toInt h]
  exact Int.bmod_eq_of_le (by omega) (by omega)
theorem sb_nle {a b : Nat} (ha : a < 2 ^ 31) (hb : b < 2 ^ 31) : -nI a ≤ -nI b ↔ b ≤ a := by
  rw [Int32.le_iff_toInt_le, sb_negT ha, sb_negT hb]
  omega
theorem sb_nlt {a b : Nat} (ha : a < 2 ^ 31) (hb : b < 2 ^ 31) : -nI a < -nI b ↔ b < a := by
  rw [Int32.lt_iff_toInt_lt, sb_negT ha, sb_negT hb]
  omega
theorem sb_cmp {A B : Prop} {x : Int32} (v c : Nat) (f : c ≤ v → A) (g : v < c → B) (hv : v < 2 ^ 31) (hx : x = -nI c := by rfl) (hc : c < 2 ^ 31 := by omega) : (-nI v ≤ x → A) ∧ (¬ -nI v ≤ x → B) := by
  subst hx
  rw [sb_nle hv hc]
  exact ⟨f, fun z => g (by omega)⟩
theorem sb_ndiv {w : Nat} (hw : w < 2 ^ 31) : (-nI w) / 100 = -nI (w / 100) := by
  apply Int32.toInt_inj.mp
  have h100 : (100 : Int32).toInt = 100 := by decide
  rw [Int32.toInt_div, sb_negT hw, h100, sb_negT (by omega), Int.neg_tdiv, Int.tdiv_eq_ediv_of_nonneg (by omega), Int.bmod_eq_of_le (by omega) (by omega)]
  omega
theorem sb_nrem {w : Nat} (hw : w < 2 ^ 31) : (-nI (w / 100)) * 100 - (-nI w) = nI (w % 100) := by
  have h := pk_rem (a := w) (d := 100) hw (by decide) (by decide)
  rw [pk_div hw (by decide) (by decide)] at h
  rw [← h]
  show (-nI (w / 100)) * nI 100 - (-nI w) = nI w - nI (w / 100) * nI 100
  rw [Int32.neg_mul, Int32.sub_neg, Int32.add_comm, ← Int32.sub_eq_add_neg]
end
section
/-! rows on bits, shifts and unsigned numbers, to paste: each family out of a closed proof of our own, whole with what it rests on; each by itself clean at Lean in its own claim (generation 39, form 5). Take a family whole -/
/-! ===== Int32 by its bits: bt x i ===== -/
def bt (x : Int32) (i : Nat) : Bool := x.toBitVec.getLsbD i
theorem b_ext {x y : Int32} (h : ∀ i, i < 32 → bt x i = bt y i) : x = y := Int32.toBitVec_inj.mp (BitVec.eq_of_getLsbD_eq (fun i hi => h i hi))
theorem b_or (x y : Int32) (i : Nat) : bt (x ||| y) i = (bt x i || bt y i) := by unfold bt; rw [Int32.toBitVec_or, BitVec.getLsbD_or]
theorem b_and (x y : Int32) (i : Nat) : bt (x &&& y) i = (bt x i && bt y i) := by unfold bt; rw [Int32.toBitVec_and, BitVec.getLsbD_and]
theorem b_xor (x y : Int32) (i : Nat) : bt (x ^^^ y) i = (bt x i ^^ bt y i) := by unfold bt; rw [Int32.toBitVec_xor, BitVec.getLsbD_xor]
theorem b_big {x : Int32} {i : Nat} (h : 32 ≤ i) : bt x i = false := BitVec.getLsbD_of_ge _ _ h
theorem b_255 (i : Nat) : bt 255 i = decide (i < 8) := by
  rcases Nat.lt_or_ge i 32 with h | h
  · exact (by decide +kernel : ∀ i, i < 32 → bt 255 i = decide (i < 8)) i h
  · rw [b_big h, decide_eq_false (by omega)]
theorem b_65535 (i : Nat) : bt 65535 i = decide (i < 16) := by
  rcases Nat.lt_or_ge i 32 with h | h
  · exact (by decide +kernel : ∀ i, i < 32 → bt 65535 i = decide (i < 16)) i h
  · rw [b_big h, decide_eq_false (by omega)]
theorem b_m1 : ∀ i, i < 32 → bt (-1) i = true := by decide +kernel
theorem b_0 (i : Nat) : bt 0 i = false := BitVec.getLsbD_zero
theorem s_l : ∀ n, n < 32 → ((nI n &&& 31).toBitVec.smod 32).toNat = n := by decide +kernel
theorem s_u : ∀ n, n < 32 → (((nI n).toUInt32 &&& Int32.toUInt32 31).toBitVec % 32).toNat = n := by decide +kernel
theorem b_shl (n : Nat) (hn : n < 32) (x : Int32) {i : Nat} (hi : i < 32) : bt (x <<< (nI n &&& 31)) i = (decide (n ≤ i) && bt x (i - n)) := by
  unfold bt
  rw [Int32.toBitVec_shiftLeft]
  show (x.toBitVec <<< ((nI n &&& 31).toBitVec.smod 32).toNat).getLsbD i = _
  rw [s_l n hn, BitVec.getLsbD_shiftLeft]
  rcases Nat.lt_or_ge i n with h | h
  · simp [h, Nat.not_le.mpr h]
  · simp [hi, h, Nat.not_lt.mpr h]
theorem b_ushr (n : Nat) (hn : n < 32) (x : Int32) (i : Nat) : bt ((x.toUInt32 >>> ((nI n).toUInt32 &&& Int32.toUInt32 31)).toInt32) i = bt x (n + i) := by
  show (x.toUInt32 >>> ((nI n).toUInt32 &&& Int32.toUInt32 31)).toBitVec.getLsbD i = x.toUInt32.toBitVec.getLsbD (n + i)
  rw [UInt32.toBitVec_shiftRight]
  show (x.toUInt32.toBitVec >>> (((nI n).toUInt32 &&& Int32.toUInt32 31).toBitVec % 32).toNat).getLsbD i = _
  rw [s_u n hn, BitVec.getLsbD_ushiftRight]
theorem b_sshr (n : Nat) (hn : n < 32) (x : Int32) {i : Nat} (hi : i < 32) : bt (x >>> (nI n &&& 31)) i = if n + i < 32 then bt x (n + i) else bt x 31 := by
  unfold bt
  rw [Int32.toBitVec_shiftRight]
  show (x.toBitVec.sshiftRight ((nI n &&& 31).toBitVec.smod 32).toNat).getLsbD i = _
  rw [s_l n hn, BitVec.getLsbD_sshiftRight, BitVec.msb_eq_getLsbD_last]
  simp [hi]
theorem b_shl8 (x : Int32) {i : Nat} (hi : i < 32) : bt (x <<< ((8 : Int32) &&& 31)) i = (decide (8 ≤ i) && bt x (i - 8)) := b_shl 8 (by omega) x hi
theorem b_shl16 (x : Int32) {i : Nat} (hi : i < 32) : bt (x <<< ((16 : Int32) &&& 31)) i = (decide (16 ≤ i) && bt x (i - 16)) := b_shl 16 (by omega) x hi
theorem b_shl24 (x : Int32) {i : Nat} (hi : i < 32) : bt (x <<< ((24 : Int32) &&& 31)) i = (decide (24 ≤ i) && bt x (i - 24)) := b_shl 24 (by omega) x hi
theorem b_sshr8 (x : Int32) {i : Nat} (hi : i < 32) : bt (x >>> ((8 : Int32) &&& 31)) i = if 8 + i < 32 then bt x (8 + i) else bt x 31 := b_sshr 8 (by omega) x hi
/-! ===== nI under and, xor, >>>, one bit, 65535 ===== -/
theorem nx_and (a b : Nat) : nI a &&& nI b = nI (a &&& b) := by
  apply Int32.toBitVec_inj.1
  show BitVec.ofNat 32 a &&& BitVec.ofNat 32 b = BitVec.ofNat 32 (a &&& b)
  apply BitVec.eq_of_getLsbD_eq
  intro i hi
  simp [hi]
theorem nx_xor (a b : Nat) : nI a ^^^ nI b = nI (a ^^^ b) := by
  apply Int32.toBitVec_inj.1
  show BitVec.ofNat 32 a ^^^ BitVec.ofNat 32 b = BitVec.ofNat 32 (a ^^^ b)
  apply BitVec.eq_of_getLsbD_eq
  intro i hi
  simp [hi]
theorem nx_cnt : ∀ j : Fin 32, (UInt32.ofNat j.val &&& Int32.toUInt32 31).toNat % 32 = j.val := by decide +kernel
theorem nx_ush {k j : Nat} (hk : k < 65536) (hj : j < 32) : ((nI k).toUInt32 >>> ((nI j).toUInt32 &&& Int32.toUInt32 31)).toInt32 = nI (k >>> j) := by
  have hs : k >>> j ≤ k := by
    rw [Nat.shiftRight_eq_div_pow]
    exact Nat.div_le_self _ _
  have e2 : UInt32.ofNat k >>> (UInt32.ofNat j &&& Int32.toUInt32 31) = UInt32.ofNat (k >>> j) := by
    apply UInt32.toNat_inj.1
    have h1 : (UInt32.ofNat k).toNat = k := Nat.mod_eq_of_lt (by omega)
    have h2 : (UInt32.ofNat (k >>> j)).toNat = k >>> j := Nat.mod_eq_of_lt (by omega)
    rw [UInt32.toNat_shiftRight, nx_cnt ⟨j, hj⟩, h1, h2]
  show (UInt32.ofNat k >>> (UInt32.ofNat j &&& Int32.toUInt32 31)).toInt32 = _
  rw [e2]
  rfl
theorem nx_bit {k j : Nat} (hk : k < 65536) (hj : j < 16) : (((nI k).toUInt32 >>> ((nI j).toUInt32 &&& Int32.toUInt32 31)).toInt32 &&& 1) = 0 ↔ k.testBit j = false := by
  rw [nx_ush hk (by omega)]
  show nI (k >>> j) &&& nI 1 = 0 ↔ _
  rw [nx_and, Nat.and_one_is_mod, ← nI_0, nI_eq (by omega) (by omega), Nat.testBit_eq_decide_div_mod_eq, Nat.shiftRight_eq_div_pow, decide_eq_false_iff_not]
  generalize k / 2 ^ j = z
  omega
theorem nx_mod (k : Nat) : nI k &&& 65535 = nI (k % 65536) := by
  show nI k &&& nI 65535 = _
  rw [nx_and, show (65535 : Nat) = 2 ^ 16 - 1 from rfl, Nat.and_two_pow_sub_one_eq_mod]
theorem nx_m16 {k : Nat} (h : k < 65536) : nI k &&& 65535 = nI k := by rw [nx_mod, Nat.mod_eq_of_lt h]
theorem nx_mask (x : Int32) : ∃ k, k < 65536 ∧ x &&& 65535 = nI k := by
  have e : x = nI x.toBitVec.toNat := by
    apply Int32.toBitVec_inj.1
    show x.toBitVec = BitVec.ofNat 32 x.toBitVec.toNat
    simp
  refine ⟨x.toBitVec.toNat % 65536, Nat.mod_lt _ (by omega), ?_⟩
  rw [← nx_mod, ← e]
/-! ===== Int32 as a set of bits: test, set ===== -/
def nf_M (m : Int32) : Nat := 4294967296 - m.toBitVec.toNat
theorem nf_sh : ∀ l, l < 32 → ((1 : Int32) <<< (nI l &&& 31)).toBitVec = BitVec.twoPow 32 l := by decide +kernel
theorem nf_sl : ∀ l, l < 32 → (((nI l).toUInt32 &&& Int32.toUInt32 31).toBitVec % 32).toNat = l := by decide +kernel
theorem nf_tp : ∀ l, l < 32 → BitVec.twoPow 32 l ≠ 0#32 := by decide +kernel
theorem nf_bit (m : Int32) (l : Nat) (hl : l < 32) : ((m.toUInt32 >>> ((nI l).toUInt32 &&& Int32.toUInt32 31)).toInt32 &&& 1) = 0 ↔ (m &&& ((1 : Int32) <<< (nI l &&& 31))) = 0 := by
  have e : ((m.toUInt32 >>> ((nI l).toUInt32 &&& Int32.toUInt32 31)).toInt32).toBitVec = m.toBitVec >>> l := by
    show m.toBitVec >>> (((nI l).toUInt32 &&& Int32.toUInt32 31).toBitVec % 32) = m.toBitVec >>> l
    rw [BitVec.ushiftRight_eq', nf_sl l hl]
  rw [← Int32.toBitVec_inj, ← Int32.toBitVec_inj, Int32.toBitVec_and, Int32.toBitVec_and, nf_sh l hl, e, BitVec.and_twoPow]
  show (m.toBitVec >>> l &&& 1#32) = 0#32 ↔ _ = 0#32
  rw [BitVec.and_one_eq_setWidth_ofBool_getLsbD, BitVec.getLsbD_ushiftRight, Nat.add_zero]
  cases hb : m.toBitVec.getLsbD l
  · exact ⟨fun _ => by simp, fun _ => by decide⟩
  · exact ⟨fun z => absurd z (by decide), fun z => absurd ((if_pos rfl).symm.trans z) (nf_tp l hl)⟩
theorem nf_gr (m k : Int32) (h : m &&& k = 0) (hk : k ≠ 0) : nf_M (m ||| k) < nf_M m := by
  have hm := m.toBitVec.isLt
  have hm' := (m ||| k).toBitVec.isLt
  have h1 : m.toBitVec.toNat ≤ (m ||| k).toBitVec.toNat := by
    rw [Int32.toBitVec_or, BitVec.toNat_or]
    exact Nat.left_le_or
  have h2 : m.toBitVec.toNat ≠ (m ||| k).toBitVec.toNat := by
    intro e
    have e2 : m = m ||| k := Int32.toBitVec_inj.mp (BitVec.eq_of_toNat_eq e)
    apply hk
    apply Int32.toBitVec_inj.mp
    show k.toBitVec = 0#32
    apply BitVec.eq_of_getLsbD_eq
    intro i hi
    have a : m.toBitVec.getLsbD i = (m.toBitVec.getLsbD i || k.toBitVec.getLsbD i) := by rw [← BitVec.getLsbD_or, ← Int32.toBitVec_or, ← e2]
    have b : (m.toBitVec.getLsbD i && k.toBitVec.getLsbD i) = false := by
      rw [← BitVec.getLsbD_and, ← Int32.toBitVec_and, h]
      exact BitVec.getLsbD_zero
    rw [BitVec.getLsbD_zero]
    revert a b
    cases m.toBitVec.getLsbD i <;> cases k.toBitVec.getLsbD i <;> simp
  unfold nf_M
  omega
/-! ===== a byte read unsigned ===== -/
theorem bp_b (x : Int32) : x.toInt8.toInt32 &&& 255 = x &&& 255 := by
  apply Int32.toBitVec_inj.mp
  rw [Int32.toBitVec_and, Int32.toBitVec_and, Int8.toBitVec_toInt32, Int32.toBitVec_toInt8]
  apply BitVec.eq_of_getLsbD_eq
  intro i hi
  rw [BitVec.getLsbD_and, BitVec.getLsbD_and]
  have hm : ∀ i < 32, 8 ≤ i → (255 : Int32).toBitVec.getLsbD i = false := by decide
  rcases Nat.lt_or_ge i 8 with z | z
  · rw [BitVec.getLsbD_signExtend, BitVec.getLsbD_signExtend, if_pos z, if_pos hi]
    simp only [z, hi, decide_true, Bool.true_and]
  · rw [hm i hi z]; simp
/-! ===== the char cast and 65535 ===== -/
theorem em_w (v : Int32) : ∃ w : Nat, w < 65536 ∧ (v.toUInt32 % 65536).toInt32 = nI w ∧ v &&& 65535 = nI w := by
  have hr := lw_u16_r v
  have h0 : (0 : Int32).toInt = 0 := by decide
  obtain ⟨w, h1, h2⟩ := nI_of (x := lw_u16 v) (by rw [Int32.lt_iff_toInt_lt]; omega)
  have h3 : (v.toUInt32 % 65536).toInt32 = nI w := h2
  rw [h2, nI_toInt h1] at hr
  exact ⟨w, by omega, h3, by rw [← lg_i2c_mask, ← lg_i2c_nf, h3]⟩
/-! ===== Int64 as a set of bits: test, set, clear ===== -/
theorem ts_nf {x : Bool} (h : ¬ x = false) : x = true := by cases x <;> first | rfl | exact absurd rfl h
theorem ts_nt {x : Bool} (h : ¬ x = true) : x = false := by cases x <;> first | rfl | exact absurd rfl h
theorem ts_bit {w : Int64} {s : UInt64} {j : Nat} (hj : j < 64) (hs : s.toNat = j) : ((w.toUInt64 >>> s).toInt64 &&& 1) = 0 ↔ w.toBitVec.getLsbD j = false := by
  have e : (w.toUInt64 >>> s).toInt64.toBitVec = w.toBitVec >>> j := by
    apply BitVec.eq_of_toNat_eq
    show (w.toUInt64 >>> s).toNat = _
    rw [UInt64.toNat_shiftRight, hs, Nat.mod_eq_of_lt hj, BitVec.toNat_ushiftRight]
    rfl
  rw [← Int64.toBitVec_inj, Int64.toBitVec_and, e]
  show w.toBitVec >>> j &&& 1#64 = 0#64 ↔ _
  constructor
  · intro h
    have t := congrArg (fun x => x.getLsbD 0) h
    simpa using t
  · intro h
    apply BitVec.eq_of_getLsbD_eq
    intro i hi
    cases i with
    | zero => simp [h]
    | succ i => simp
theorem ts_or {w m : Int64} {j : Nat} (hj : j < 64) (hm : m.toBitVec = BitVec.twoPow 64 j) : (w ||| m) = w ↔ w.toBitVec.getLsbD j = true := by
  rw [← Int64.toBitVec_inj, Int64.toBitVec_or, hm]
  constructor
  · intro h
    have t := congrArg (fun x => x.getLsbD j) h
    simp only [BitVec.getLsbD_or, BitVec.getLsbD_twoPow] at t
    simpa [hj] using t.symm
  · intro h
    apply BitVec.eq_of_getLsbD_eq
    intro i hi
    rw [BitVec.getLsbD_or, BitVec.getLsbD_twoPow]
    by_cases e : j = i
    · subst e; rw [h, Bool.true_or]
    · simp [e]
theorem ts_and {w m : Int64} {j : Nat} (hj : j < 64) (hm : m.toBitVec = BitVec.twoPow 64 j) : (w &&& (m ^^^ (-1))) = w ↔ w.toBitVec.getLsbD j = false := by
  have ha : (-1 : Int64).toBitVec = BitVec.allOnes 64 := by decide
  rw [← Int64.toBitVec_inj, Int64.toBitVec_and, Int64.toBitVec_xor, hm, ha]
  constructor
  · intro h
    have t := congrArg (fun x => x.getLsbD j) h
    simp only [BitVec.getLsbD_and, BitVec.getLsbD_xor, BitVec.getLsbD_twoPow, BitVec.getLsbD_allOnes] at t
    simpa [hj] using t.symm
  · intro h
    apply BitVec.eq_of_getLsbD_eq
    intro i hi
    rw [BitVec.getLsbD_and, BitVec.getLsbD_xor, BitVec.getLsbD_twoPow, BitVec.getLsbD_allOnes]
    by_cases e : j = i
    · subst e; rw [h, Bool.false_and]
    · simp [e, hi]
/-! ===== lN n to 2^64: shifts, and, or, masks, one bit ===== -/
theorem wb_tb (n : Nat) : (lN n).toBitVec = BitVec.ofNat 64 n := rfl
theorem wb_inj {a b : Int64} (h : a.toBitVec = b.toBitVec) : a = b := Int64.toBitVec_inj.mp h
theorem wb_tn {n : Nat} (h : n < 2 ^ 64) : (lN n).toBitVec.toNat = n := by rw [wb_tb, BitVec.toNat_ofNat, Nat.mod_eq_of_lt h]
theorem wb_of (x : Int64) : ∃ n, n < 2 ^ 64 ∧ x = lN n := ⟨x.toBitVec.toNat, x.toBitVec.isLt, wb_inj (by rw [wb_tb]; simp)⟩
theorem wb_of32 (x : Int32) : ∃ n, n < 2 ^ 32 ∧ x = nI n := ⟨x.toBitVec.toNat, x.toBitVec.isLt, Int32.toBitVec_inj.mp (by show _ = BitVec.ofNat 32 _; simp)⟩
theorem wb_c : ∀ k, k < 64 → ((nI k).toInt64 &&& 63) = lN k := by decide +kernel
theorem wb_cu : ∀ k, k < 64 → ((nI k).toInt64.toUInt64 &&& Int64.toUInt64 63) = UInt64.ofNat k := by decide +kernel
theorem wb_sm : ∀ k, k < 64 → (BitVec.ofNat 64 k).smod 64 = BitVec.ofNat 64 k := by decide +kernel
theorem wb_pw {a b : Nat} (h : a ≤ b) : 2 ^ b = 2 ^ a * 2 ^ (b - a) := by rw [← Nat.pow_add]; congr 1; omega
theorem wb_lt2 {a b : Nat} (h : a < b) : 2 ^ a < 2 ^ b := Nat.pow_lt_pow_right (by decide) h
theorem wb_mod (n : Nat) : lN n = lN (n % 2 ^ 64) := wb_inj (by rw [wb_tb, wb_tb]; apply BitVec.eq_of_toNat_eq; rw [BitVec.toNat_ofNat, BitVec.toNat_ofNat, Nat.mod_mod])
theorem wb_shr {n k : Nat} (hn : n < 2 ^ 64) (hk : k < 64) : ((lN n).toUInt64 >>> ((nI k).toInt64.toUInt64 &&& Int64.toUInt64 63)).toInt64 = lN (n / 2 ^ k) := by
  rw [wb_cu k hk]
  apply wb_inj
  apply BitVec.eq_of_toNat_eq
  show ((lN n).toUInt64 >>> UInt64.ofNat k).toNat = (BitVec.ofNat 64 _).toNat
  have h1 : (UInt64.ofNat k).toNat = k := by
    show (BitVec.ofNat 64 k).toNat = k
    rw [BitVec.toNat_ofNat, Nat.mod_eq_of_lt (by omega)]
  have h2 : (lN n).toUInt64.toNat = n := wb_tn hn
  rw [UInt64.toNat_shiftRight, h1, h2, Nat.mod_eq_of_lt hk, Nat.shiftRight_eq_div_pow, BitVec.toNat_ofNat, Nat.mod_eq_of_lt (Nat.lt_of_le_of_lt (Nat.div_le_self _ _) hn)]
theorem wb_shl (n : Nat) {k : Nat} (hk : k < 64) : lN n <<< ((nI k).toInt64 &&& 63) = lN (n * 2 ^ k) := by
  rw [wb_c k hk]
  apply wb_inj
  rw [Int64.toBitVec_shiftLeft, wb_tb, wb_tb, wb_tb, wb_sm k hk]
  apply BitVec.eq_of_toNat_eq
  rw [BitVec.shiftLeft_eq', BitVec.toNat_shiftLeft, BitVec.toNat_ofNat, BitVec.toNat_ofNat, BitVec.toNat_ofNat, Nat.mod_eq_of_lt (show k < 2 ^ 64 by omega), Nat.shiftLeft_eq, Nat.mul_mod, Nat.mod_mod, ← Nat.mul_mod]
theorem wb_and {a b : Nat} (ha : a < 2 ^ 64) (hb : b < 2 ^ 64) : lN a &&& lN b = lN (a &&& b) := by
  apply wb_inj
  rw [Int64.toBitVec_and, wb_tb, wb_tb, wb_tb]
  apply BitVec.eq_of_toNat_eq
  rw [BitVec.toNat_and, BitVec.toNat_ofNat, BitVec.toNat_ofNat, BitVec.toNat_ofNat, Nat.mod_eq_of_lt ha, Nat.mod_eq_of_lt hb, Nat.mod_eq_of_lt (Nat.and_lt_two_pow _ hb)]
theorem wb_or {a b : Nat} (ha : a < 2 ^ 64) (hb : b < 2 ^ 64) : lN a ||| lN b = lN (a ||| b) := by
  apply wb_inj
  rw [Int64.toBitVec_or, wb_tb, wb_tb, wb_tb]
  apply BitVec.eq_of_toNat_eq
  rw [BitVec.toNat_or, BitVec.toNat_ofNat, BitVec.toNat_ofNat, BitVec.toNat_ofNat, Nat.mod_eq_of_lt ha, Nat.mod_eq_of_lt hb, Nat.mod_eq_of_lt (Nat.or_lt_two_pow ha hb)]
theorem wb_mask {n k : Nat} (hn : n < 2 ^ 64) (hk : k < 64) : lN n &&& lN (2 ^ k - 1) = lN (n % 2 ^ k) := by
  rw [wb_and hn (by have := wb_lt2 hk; omega), Nat.and_two_pow_sub_one_eq_mod]
theorem wb_a1 {n : Nat} (hn : n < 2 ^ 64) : lN n &&& 1 = lN (n % 2) := wb_mask (k := 1) hn (by decide)
theorem wb_bit {n k : Nat} (hn : n < 2 ^ 64) (hk : k < 64) : ((lN n).toUInt64 >>> ((nI k).toInt64.toUInt64 &&& Int64.toUInt64 63)).toInt64 &&& 1 = lN (n / 2 ^ k % 2) := by
  rw [wb_shr hn hk, wb_a1 (Nat.lt_of_le_of_lt (Nat.div_le_self _ _) hn)]
theorem wb_xor {q k : Nat} (hk : k < 63) (h : 2 ^ k ≤ q) (h2 : q < 2 ^ (k + 1)) : lN q ^^^ lN (2 ^ k) = lN (q - 2 ^ k) := by
  obtain ⟨r, rfl⟩ : ∃ r, q = 2 ^ k + r := ⟨q - 2 ^ k, by omega⟩
  have hr : r < 2 ^ k := by rw [Nat.pow_succ] at h2; omega
  have hx : (2 ^ k + r) ^^^ 2 ^ k = r := by
    apply Nat.eq_of_testBit_eq
    intro i
    rw [Nat.testBit_xor, Nat.testBit_two_pow]
    rcases Nat.lt_trichotomy i k with h | h | h
    · rw [Nat.testBit_two_pow_add_gt h]
      simp [show ¬ k = i by omega]
    · subst h
      rw [Nat.testBit_two_pow_add_eq]
      simp
    · have a1 : 2 ^ (k + 1) ≤ 2 ^ i := Nat.pow_le_pow_right (by decide) h
      rw [Nat.testBit_lt_two_pow (show 2 ^ k + r < 2 ^ i by omega), Nat.testBit_lt_two_pow (show r < 2 ^ i by omega)]
      simp [show ¬ k = i by omega]
  have b1 := wb_lt2 (show k + 1 < 64 by omega)
  have b2 := wb_lt2 (show k < 64 by omega)
  apply wb_inj
  rw [Int64.toBitVec_xor, wb_tb, wb_tb, wb_tb]
  apply BitVec.eq_of_toNat_eq
  rw [BitVec.toNat_xor, BitVec.toNat_ofNat, BitVec.toNat_ofNat, BitVec.toNat_ofNat, Nat.mod_eq_of_lt (by omega : 2 ^ k + r < 2 ^ 64), Nat.mod_eq_of_lt b2, hx, Nat.add_sub_cancel_left, Nat.mod_eq_of_lt (by omega)]
/-! ===== lN: masks, 'or' of parts that don't overlap is a sum ===== -/
theorem u_tn {n : Nat} (h : n < 2 ^ 64) : (UInt64.ofNat n).toNat = n := Nat.mod_eq_of_lt h
theorem g_and {a b c : Nat} (ha : a < 2 ^ 64) (hb : b < 2 ^ 64) (hc : a &&& b = c) : lN a &&& lN b = lN c := by
  subst hc
  have h : UInt64.ofNat a &&& UInt64.ofNat b = UInt64.ofNat (a &&& b) := UInt64.toNat_inj.mp (by rw [UInt64.toNat_and, u_tn ha, u_tn hb, u_tn (Nat.and_lt_two_pow a hb)])
  have h2 := congrArg UInt64.toInt64 h
  exact h2
theorem g_and1 {a : Nat} (ha : a < 2 ^ 64) : lN a &&& 1 = lN (a % 2) := g_and (b := 1) ha (by decide) (Nat.and_two_pow_sub_one_eq_mod a 1)
theorem g_mask {a s p : Nat} (hp : 2 ^ s = p) (hs : s < 64) (ha : a < 2 ^ 64) : lN a &&& lN (p - 1) = lN (a % p) := by
  subst hp
  have := Nat.pow_lt_pow_right (show 1 < 2 by decide) hs
  exact g_and ha (by omega) (Nat.and_two_pow_sub_one_eq_mod a s)
theorem g_or {k p a b : Nat} (hp : 2 ^ k = p) (ha : a < p) (h : b * p + a < 2 ^ 64) : lN (b * p) ||| lN a = lN (b * p + a) := by
  subst hp
  have h1 : b * 2 ^ k ||| a = b * 2 ^ k + a := by rw [← Nat.shiftLeft_eq, Nat.shiftLeft_add_eq_or_of_lt ha]
  have h3 : UInt64.ofNat (b * 2 ^ k) ||| UInt64.ofNat a = UInt64.ofNat (b * 2 ^ k + a) := UInt64.toNat_inj.mp (by rw [UInt64.toNat_or, u_tn (by omega), u_tn (by omega), u_tn h, h1])
  have h2 := congrArg UInt64.toInt64 h3
  exact h2
theorem g_or' {k p a b : Nat} (hp : 2 ^ k = p) (ha : a < p) (h : a + b * p < 2 ^ 64) : lN a ||| lN (b * p) = lN (a + b * p) := by
  rw [Int64.or_comm, g_or hp ha (by omega), Nat.add_comm]
theorem g_ushr {a k p : Nat} {y : UInt64} (hy : y = UInt64.ofNat k) (hk : k < 64) (hp : 2 ^ k = p) (ha : a < 2 ^ 64) : ((lN a).toUInt64 >>> y).toInt64 = lN (a / p) := by
  subst hy hp
  have h : UInt64.ofNat a >>> UInt64.ofNat k = UInt64.ofNat (a / 2 ^ k) := UInt64.toNat_inj.mp (by rw [UInt64.toNat_shiftRight, u_tn ha, u_tn (by omega), u_tn (Nat.lt_of_le_of_lt (Nat.div_le_self _ _) ha), Nat.mod_eq_of_lt hk, Nat.shiftRight_eq_div_pow])
  have h2 := congrArg UInt64.toInt64 h
  exact h2
theorem g_shl {a k p : Nat} {y : Int64} (hy : y.toBitVec.smod 64 = BitVec.ofNat 64 k) (hk : k < 64) (hp : 2 ^ k = p) (ha : a < 2 ^ 64) : lN a <<< y = lN (a * p) := by
  subst hp
  apply Int64.toBitVec_inj.mp
  rw [Int64.toBitVec_shiftLeft, hy]
  apply BitVec.eq_of_toNat_eq
  have hb : (lN a).toBitVec.toNat = a := Nat.mod_eq_of_lt ha
  have hk' : (BitVec.ofNat 64 k).toNat = k := Nat.mod_eq_of_lt (by omega)
  have h : ((lN a).toBitVec <<< BitVec.ofNat 64 k).toNat = (a * 2 ^ k) % 2 ^ 64 := by simp only [BitVec.shiftLeft_eq', BitVec.toNat_shiftLeft, hb, hk', Nat.shiftLeft_eq]
  exact h
/-! ===== lN to 2^62 under >> and >>> ===== -/
theorem pf_lI {a : Nat} (h : a < 2 ^ 63) : (lN a).toInt = (a : Int) := lg_ofNat_toInt h
theorem pf_shr {a d : Nat} {D : Int64} (hD : (D.toBitVec.smod 64).toNat = d) (h : a < 2 ^ 62) : lN a >>> D = lN (a / 2 ^ d) := by
  have hd : a / 2 ^ d ≤ a := Nat.div_le_self _ _
  apply Int64.toInt_inj.mp
  have e : (lN a >>> D).toInt = (lN a).toInt >>> d := by
    rw [← hD]
    exact BitVec.toInt_sshiftRight ..
  rw [e, Int.shiftRight_eq_div_pow, pf_lI (by omega), pf_lI (by omega)]
  rfl
theorem pf_ushr {a d : Nat} {D : UInt64} (hD : D.toNat % 64 = d) (h : a < 2 ^ 62) : ((lN a).toUInt64 >>> D).toInt64 = lN (a / 2 ^ d) := by
  have hd : a / 2 ^ d ≤ a := Nat.div_le_self _ _
  have e : (lN a).toUInt64 >>> D = UInt64.ofNat (a / 2 ^ d) := UInt64.toNat_inj.mp (by
    rw [UInt64.toNat_shiftRight, hD, Nat.shiftRight_eq_div_pow, UInt64.toNat_ofNat']
    show (UInt64.ofNat a).toNat / 2 ^ d = _
    rw [UInt64.toNat_ofNat', Nat.mod_eq_of_lt (by omega), Nat.mod_eq_of_lt (by omega)])
  rw [e]
  rfl
theorem pf_andw (x : Int64) : ∃ m, m < 2 ^ 32 ∧ x &&& 4294967295 = lN m := ⟨x.toBitVec.toNat % 2 ^ 32, Nat.mod_lt _ (by decide), Int64.toBitVec_inj.mp (BitVec.eq_of_toNat_eq (by
  show (x.toBitVec &&& 4294967295#64).toNat = (BitVec.ofNat 64 (x.toBitVec.toNat % 2 ^ 32)).toNat
  rw [BitVec.toNat_and, show (4294967295#64).toNat = 2 ^ 32 - 1 from by decide, Nat.and_two_pow_sub_one_eq_mod, BitVec.toNat_ofNat]
  omega))⟩
/-! ===== Int64 as an unsigned number: uN x ===== -/
def uN (x : Int64) : Nat := x.toUInt64.toNat
theorem uN_lt (x : Int64) : uN x < 18446744073709551616 := x.toUInt64.toNat_lt
theorem uN_inj {x y : Int64} (h : uN x = uN y) : x = y := congrArg UInt64.toInt64 (UInt64.toNat_inj.mp h)
theorem uN_add (x y : Int64) : uN (x + y) = (uN x + uN y) % 18446744073709551616 := by
  show (x.toUInt64 + y.toUInt64).toNat = _
  exact UInt64.toNat_add _ _
theorem uN_mul (x y : Int64) : uN (x * y) = (uN x * uN y) % 18446744073709551616 := by
  show (x.toUInt64 * y.toUInt64).toNat = _
  exact UInt64.toNat_mul _ _
theorem uN_shl (x : Int64) : uN (x <<< ((1 : Int32).toInt64 &&& 63)) = (2 * uN x) % 18446744073709551616 := by
  have h : (((1 : Int32).toInt64 &&& 63).toBitVec.smod 64).toNat = 1 := by decide
  show (x.toBitVec <<< (((1 : Int32).toInt64 &&& 63).toBitVec.smod 64).toNat).toNat = _
  rw [h, BitVec.toNat_shiftLeft, Nat.shiftLeft_eq, Nat.mul_comm]
  rfl
theorem uN_shr (x : Int64) (s : UInt64) : uN (x.toUInt64 >>> s).toInt64 = uN x / 2 ^ (s.toNat % 64) := by
  show (x.toUInt64 >>> s).toNat = _
  rw [UInt64.toNat_shiftRight, Nat.shiftRight_eq_div_pow]
  rfl
theorem uN_s32 (x : Int64) : uN (x.toUInt64 >>> ((32 : Int32).toInt64.toUInt64 &&& Int64.toUInt64 63)).toInt64 = uN x / 4294967296 := by
  have h : ((32 : Int32).toInt64.toUInt64 &&& Int64.toUInt64 63).toNat % 64 = 32 := by decide
  rw [uN_shr, h]
theorem uN_s63 (x : Int64) : uN (x.toUInt64 >>> ((63 : Int32).toInt64.toUInt64 &&& Int64.toUInt64 63)).toInt64 = uN x / 9223372036854775808 := by
  have h : ((63 : Int32).toInt64.toUInt64 &&& Int64.toUInt64 63).toNat % 64 = 63 := by decide
  rw [uN_shr, h]
theorem uN_lo (x : Int64) : uN (x &&& 4294967295) = uN x % 4294967296 := by
  show (x.toUInt64 &&& Int64.toUInt64 4294967295).toNat = _
  rw [UInt64.toNat_and]
  exact Nat.and_two_pow_sub_one_eq_mod _ 32
theorem uN_bit (x : Int64) : (x &&& 1) = 0 ↔ uN x % 2 = 0 := by
  have h : uN (x &&& 1) = uN x % 2 := by
    show (x.toUInt64 &&& Int64.toUInt64 1).toNat = _
    rw [UInt64.toNat_and]
    exact Nat.and_two_pow_sub_one_eq_mod _ 1
  rw [← h]
  exact ⟨fun z => by rw [z]; rfl, fun z => uN_inj (z.trans rfl)⟩
theorem uN_or {x y : Int64} (hy : uN y < 2) : uN ((x <<< ((1 : Int32).toInt64 &&& 63)) ||| y) = (2 * uN x) % 18446744073709551616 + uN y := by
  have h1 : uN ((x <<< ((1 : Int32).toInt64 &&& 63)) ||| y) = uN (x <<< ((1 : Int32).toInt64 &&& 63)) ||| uN y := UInt64.toNat_or _ _
  have h2 : (2 * uN x) % 18446744073709551616 = 2 ^ 1 * (uN x % 9223372036854775808) := by omega
  rw [h1, uN_shl, h2]
  exact (Nat.two_pow_add_eq_or_of_lt (i := 1) hy _).symm
theorem nat_xor {a : Nat} (h : a < 18446744073709551616) : a ^^^ 2 ^ 63 = (a + 9223372036854775808) % 18446744073709551616 := by
  have h1 : (a ^^^ 2 ^ 63) % 2 ^ 63 = a % 2 ^ 63 := by rw [Nat.xor_mod_two_pow, Nat.mod_self, Nat.xor_zero]
  have h2 : (a ^^^ 2 ^ 63) / 2 ^ 63 = (a / 2 ^ 63) ^^^ 1 := by rw [Nat.xor_div_two_pow, Nat.div_self (Nat.two_pow_pos 63)]
  have h3 : a / 2 ^ 63 = 0 ∨ a / 2 ^ 63 = 1 := by omega
  generalize a ^^^ 2 ^ 63 = t at h1 h2
  rcases h3 with h3 | h3
  · rw [h3] at h2
    have h2 : t / 2 ^ 63 = 1 := h2
    omega
  · rw [h3] at h2
    have h2 : t / 2 ^ 63 = 0 := h2
    omega
theorem uN_xor (x : Int64) : uN (x ^^^ (-9223372036854775808)) = (uN x + 9223372036854775808) % 18446744073709551616 := by
  rw [← nat_xor (uN_lt x)]
  exact UInt64.toNat_xor _ _
theorem uN_int (x : Int64) : x.toInt = if 2 * uN x < 18446744073709551616 then (uN x : Int) else (uN x : Int) - 18446744073709551616 := BitVec.toInt_eq_toNat_cond _
theorem uN_le (x y : Int64) : (x ^^^ (-9223372036854775808)) ≤ (y ^^^ (-9223372036854775808)) ↔ uN x ≤ uN y := by
  have hx := uN_lt x
  have hy := uN_lt y
  rw [Int64.le_iff_toInt_le, uN_int, uN_int, uN_xor, uN_xor]
  omega
theorem uN_sk (x : Int64) {k : Nat} (hk : k < 64) : uN (x.toUInt64 >>> ((nI k).toInt64.toUInt64 &&& Int64.toUInt64 63)).toInt64 = uN x / 2 ^ k := by
  have h : ((nI k).toInt64.toUInt64 &&& Int64.toUInt64 63).toNat % 64 = k := by
    rw [nI_l (by omega), UInt64.toNat_and]
    have e : (lN k).toUInt64.toNat = k % 2 ^ 64 := rfl
    have e2 : (Int64.toUInt64 63).toNat = 2 ^ 6 - 1 := by decide
    rw [e, e2, Nat.and_two_pow_sub_one_eq_mod]
    omega
  rw [uN_shr, h]
/-! ===== unsigned comparison by xor with the least ===== -/
theorem lN_bv (n : Nat) : (lN n).toBitVec = BitVec.ofNat 64 n := rfl
theorem lN_nat {n : Nat} (h : n < 2 ^ 64) : (lN n).toBitVec.toNat = n := by rw [lN_bv, BitVec.toNat_ofNat]; exact Nat.mod_eq_of_lt h
theorem lN_xor (a b : Nat) : lN a ^^^ lN b = lN (a ^^^ b) := by
  apply Int64.toBitVec_inj.mp; rw [Int64.toBitVec_xor, lN_bv, lN_bv, lN_bv]; apply BitVec.eq_of_getLsbD_eq; intro i hi; simp [BitVec.getLsbD_ofNat, Nat.testBit_xor, hi]
theorem lN_ti {m : Nat} (h : m < 2 ^ 64) : (lN m).toInt = if m < 2 ^ 63 then (m : Int) else (m : Int) - 2 ^ 64 := by
  have c := BitVec.toInt_eq_toNat_cond (lN m).toBitVec
  rw [lN_nat h] at c
  show (lN m).toBitVec.toInt = _
  rw [c]
  split <;> split <;> omega
theorem xor63 {x : Nat} (h : x < 2 ^ 63) : x ^^^ 2 ^ 63 = 2 ^ 63 + x := by
  apply Nat.eq_of_testBit_eq
  intro i
  rw [Nat.testBit_xor, Nat.testBit_two_pow]
  rcases Nat.lt_trichotomy i 63 with z | z | z
  · rw [Nat.testBit_two_pow_add_gt z, decide_eq_false (by omega)]; simp
  · subst z; rw [Nat.testBit_two_pow_add_eq]; simp
  · have hp : 2 ^ 64 ≤ 2 ^ i := Nat.pow_le_pow_right (by decide) z
    rw [Nat.testBit_lt_two_pow (show x < 2 ^ i by omega), Nat.testBit_lt_two_pow (show 2 ^ 63 + x < 2 ^ i by omega), decide_eq_false (by omega)]; rfl
theorem xorS {a : Nat} (h : a < 2 ^ 64) : (lN a ^^^ (-9223372036854775808)).toInt = (a : Int) - 2 ^ 63 := by
  rw [show (-9223372036854775808 : Int64) = lN (2 ^ 63) from by decide +kernel, lN_xor]
  rcases Nat.lt_or_ge a (2 ^ 63) with z | z
  · rw [xor63 z, lN_ti (by omega), if_neg (by omega)]; omega
  · obtain ⟨x, rfl⟩ : ∃ x, a = 2 ^ 63 + x := ⟨a - 2 ^ 63, by omega⟩
    rw [← xor63 (by omega), Nat.xor_assoc, Nat.xor_self, Nat.xor_zero, lN_ti (by omega), if_pos (by omega), xor63 (by omega)]; omega
theorem ultL {a b : Nat} (ha : a < 2 ^ 64) (hb : b < 2 ^ 64) : ((lN b ^^^ (-9223372036854775808)) ≤ (lN a ^^^ (-9223372036854775808))) ↔ b ≤ a := by
  rw [Int64.le_iff_toInt_le, xorS ha, xorS hb]; omega
/-! ===== Int64 masks of n low bits ===== -/
theorem cr_bits (W U M : BitVec 64) : ((W &&& U) &&& (U &&& (M ^^^ BitVec.allOnes 64))) = 0#64 ↔ (W &&& U) &&& M = W &&& U := by
  constructor
  · intro h
    apply BitVec.eq_of_getLsbD_eq
    intro i hi
    have e := congrArg (fun x => BitVec.getLsbD x i) h
    simp only [BitVec.getLsbD_and, BitVec.getLsbD_xor, BitVec.getLsbD_allOnes, BitVec.getLsbD_zero, hi, decide_true] at e ⊢
    revert e
    cases W.getLsbD i <;> cases U.getLsbD i <;> cases M.getLsbD i <;> decide
  · intro h
    apply BitVec.eq_of_getLsbD_eq
    intro i hi
    have e := congrArg (fun x => BitVec.getLsbD x i) h
    simp only [BitVec.getLsbD_and, BitVec.getLsbD_xor, BitVec.getLsbD_allOnes, BitVec.getLsbD_zero, hi, decide_true] at e ⊢
    revert e
    cases W.getLsbD i <;> cases U.getLsbD i <;> cases M.getLsbD i <;> decide
theorem cr_mask (w U m : Int64) (n : Nat) (hm : m.toBitVec.toNat = 2 ^ n - 1) : ((w &&& U) &&& (U &&& (m ^^^ (-1)))) = 0 ↔ (w &&& U).toBitVec.toNat < 2 ^ n := by
  have e0 : (-1 : Int64).toBitVec = BitVec.allOnes 64 := by decide
  have z0 : (0 : Int64).toBitVec = 0#64 := by decide
  rw [← Int64.toBitVec_inj, z0, Int64.toBitVec_and, Int64.toBitVec_and, Int64.toBitVec_and, Int64.toBitVec_xor, e0, cr_bits]
  generalize w.toBitVec &&& U.toBitVec = T
  rw [← BitVec.toNat_inj, BitVec.toNat_and, hm, Nat.and_two_pow_sub_one_eq_mod]
  constructor
  · intro h
    have t := Nat.mod_lt T.toNat (Nat.two_pow_pos n)
    rw [h] at t
    exact t
  · exact Nat.mod_eq_of_lt
theorem cr_shr (t : Int64) (x : UInt64) (n : Nat) (hx : x.toNat % 64 = n) : (t.toUInt64 >>> x).toInt64 = 0 ↔ t.toBitVec.toNat < 2 ^ n := by
  rw [← Int64.toBitVec_inj, ← BitVec.toNat_inj]
  show (t.toUInt64 >>> x).toNat = 0 ↔ t.toUInt64.toNat < 2 ^ n
  rw [UInt64.toNat_shiftRight, hx, Nat.shiftRight_eq_div_pow]
  constructor
  · intro h
    have d : t.toUInt64.toNat / 2 ^ n < 1 := by
      rw [h]
      decide
    have e := (Nat.div_lt_iff_lt_mul (Nat.two_pow_pos n)).mp d
    rw [Nat.one_mul] at e
    exact e
  · exact Nat.div_eq_of_lt
theorem cr_amt (s : Int64) : ∃ n, n < 64 ∧ s &&& 63 = lN n ∧ (s.toUInt64 &&& Int64.toUInt64 63).toNat % 64 = n := by
  have e : (s.toUInt64 &&& Int64.toUInt64 63).toNat = s.toUInt64.toNat % 2 ^ 6 := by
    rw [UInt64.toNat_and, show (Int64.toUInt64 63).toNat = 2 ^ 6 - 1 from by decide, Nat.and_two_pow_sub_one_eq_mod]
  refine ⟨s.toUInt64.toNat % 2 ^ 6, by omega, ?_, by omega⟩
  rw [← Int64.toBitVec_inj, ← BitVec.toNat_inj]
  show (s.toUInt64 &&& Int64.toUInt64 63).toNat = (BitVec.ofNat 64 (s.toUInt64.toNat % 2 ^ 6)).toNat
  rw [e, BitVec.toNat_ofNat]
  omega
end
section
/-! the abstract state of the checker and its rules, for both sides -/
abbrev zc_C : Type := Nat × (Nat → Int32) × Nat × (Nat → Int32) × (Nat → Int32) × (Nat → Nat) × (Nat → Int32) × (Nat → Nat)
/-- size -/
def zc_S (c : zc_C) : Nat := c.1
/-- types -/
def zc_T (c : zc_C) : Nat → Int32 := c.2.1
/-- depth -/
def zc_D (c : zc_C) : Nat := c.2.2.1
/-- kinds -/
def zc_K (c : zc_C) : Nat → Int32 := c.2.2.2.1
/-- block types -/
def zc_B (c : zc_C) : Nat → Int32 := c.2.2.2.2.1
/-- heights -/
def zc_H (c : zc_C) : Nat → Nat := c.2.2.2.2.2.1
/-- dead -/
def zc_U (c : zc_C) : Nat → Int32 := c.2.2.2.2.2.2.1
/-- starts -/
def zc_A (c : zc_C) : Nat → Nat := c.2.2.2.2.2.2.2
def zc_z (g : Nat → Nat) : Nat → Int32 := fun d => nI (g d)
def zc_u (g : Nat → Nat) (k x : Nat) : Nat → Nat := fun j => if j = k then x else g j
theorem zc_us {g : Nat → Nat} {k x : Nat} : zc_u g k x k = x := if_pos rfl
theorem zc_un {g : Nat → Nat} {k x j : Nat} (h : j ≠ k) : zc_u g k x j = g j := if_neg h
theorem zc_zu (g : Nat → Nat) (k x : Nat) : upd (zc_z g) k (nI x) = zc_z (zc_u g k x) := by
  funext j
  unfold upd zc_z zc_u
  by_cases h : j = k <;> simp [h]
def zc_r (b : Int32) : Int32 := b - b / 3 * 3
def zc_lt (c : zc_C) (l : Nat) : Int32 := if zc_K c (zc_D c - 1 - l) = 2 then zc_B c (zc_D c - 1 - l) / 3 else zc_r (zc_B c (zc_D c - 1 - l))
def zc_ly (tb : Nat → Int32) (f : Nat) (i : Int32) : Int32 := if ((tb f >>> (i &&& 31)) &&& 1) = 1 then 2 else 1
def zc_h (c : zc_C) : Nat := zc_H c (zc_D c - 1)
/-- one pop: (type, err, size) -/
def zc_p (c : zc_C) (t : Int32) (s : Int32 × Nat) : Int32 × Int32 × Nat :=
  if t = 0 ∨ s.1 ≠ 0 then (3, s.1, s.2)
  else if s.2 = zc_h c then (3, if zc_U c (zc_D c - 1) = 0 then -7 else 0, s.2)
  else if t = 4 ∨ zc_T c (s.2 - 1) = t ∨ zc_T c (s.2 - 1) = 3 then (zc_T c (s.2 - 1), 0, s.2 - 1)
  else (zc_T c (s.2 - 1), -8, s.2)
def zc_pl (c : zc_C) : List Int32 → Int32 × Nat → Int32 × Nat
  | [], s => s
  | t :: L, s => zc_pl c L (zc_p c t s).2
def zc_cl (tb : Nat → Int32) (g : Nat) : Nat → List Int32
  | 0 => []
  | n + 1 => zc_ly tb g (nI n) :: zc_cl tb g n
def zc_f1 (k : Nat) : Int32 := if (28 ≤ k ∧ k ≤ 36) ∨ k = 41 then 2 else 1
def zc_f2 (k : Nat) : Int32 := if (21 ≤ k ∧ k ≤ 27) ∨ k = 39 ∨ k = 41 then 1 else if 29 ≤ k ∧ k ≤ 35 then 2 else 0
def zc_f3 (k : Nat) : Int32 := if k = 39 ∨ k = 41 then 0 else if (31 ≤ k ∧ k ≤ 35) ∨ k = 37 ∨ k = 40 then 2 else 1
def zc_n (im : Int64) : Nat := im.toBitVec.toNat / 2 ^ 32
def zc_lb (im : Int64) (k : Nat) : Nat := im.toBitVec.toNat / 16 ^ k % 16
/-- one label of a table looked at -/
def zc_t1 (c : zc_C) (im : Int64) (k : Nat) (s : Int32 × Nat) : Int32 × Nat :=
  ((zc_p c (zc_lt c (zc_lb im k)) (if s.1 = 0 ∧ ¬ (zc_lt c (zc_lb im k) = 0 ↔ zc_lt c (zc_lb im (zc_n im)) = 0) then -8 else s.1, s.2)).2.1, s.2)
def zc_ts (c : zc_C) (im : Int64) : Nat → Int32 × Nat → Int32 × Nat
  | 0, s => s
  | k + 1, s => zc_t1 c im k (zc_ts c im k s)
def zc_mk (s : Int32 × Nat) (o m : Int32) : Int32 × Nat × Int32 × Int32 := (s.1, s.2, o, m)
def zc_lv (c : zc_C) (s : Int32 × Nat) : Int32 × Nat := (if s.1 = 0 ∧ s.2 ≠ zc_h c then -9 else s.1, s.2)
def zc_sl (x y : Int32 × Int32 × Nat) : Int32 × Nat × Int32 × Int32 :=
  (if x.1 ≠ y.1 ∧ x.1 ≠ 3 ∧ y.1 ≠ 3 then -8 else y.2.1, y.2.2, if x.1 = 3 then y.1 else x.1, 0)
/-- a rule as planned: (err, size after the pops, type pushed, marks) -/
def zc_plan (pa tb re : Nat → Int32) (f : Nat) (c : zc_C) (im : Int64) : Nat → Int32 × Nat × Int32 × Int32
  | 0 => zc_mk (0, zc_S c) 0 1
  | 1 => zc_mk (zc_pl c [im.toInt32 / 3] (0, zc_S c)) (im.toInt32 / 3) 0
  | 2 => zc_mk (zc_pl c [im.toInt32 / 3] (0, zc_S c)) (im.toInt32 / 3) 0
  | 3 => zc_mk (zc_pl c [1, im.toInt32 / 3] (0, zc_S c)) (im.toInt32 / 3) 0
  | 4 => zc_mk (zc_lv c (zc_pl c [zc_r (zc_B c (zc_D c - 1))] (0, zc_S c))) (zc_B c (zc_D c - 1) / 3) 0
  | 5 => zc_mk (zc_lv c (zc_pl c [zc_r (zc_B c (zc_D c - 1))] (0, zc_S c))) (if zc_D c = 1 then 0 else zc_r (zc_B c (zc_D c - 1))) 0
  | 6 => zc_mk (zc_pl c [zc_lt c im.toInt32.toNatClampNeg] (0, zc_S c)) 0 1
  | 7 => zc_mk (zc_pl c [1, zc_lt c im.toInt32.toNatClampNeg] (0, zc_S c)) (zc_lt c im.toInt32.toNatClampNeg) 0
  | 8 => zc_mk (zc_ts c im (zc_n im + 1) (zc_pl c [1] (0, zc_S c))) 0 1
  | 9 => zc_mk (zc_pl c [re f] (0, zc_S c)) 0 1
  | 10 => zc_mk (zc_pl c (zc_cl tb im.toInt32.toNatClampNeg (pa im.toInt32.toNatClampNeg).toNatClampNeg) (0, zc_S c)) (re im.toInt32.toNatClampNeg) 0
  | 11 => zc_mk (zc_pl c [4] (0, zc_S c)) 0 0
  | 12 => zc_sl (zc_p c 4 (zc_pl c [1] (0, zc_S c))) (zc_p c 4 (zc_pl c [1, 4] (0, zc_S c)))
  | 13 => zc_mk (0, zc_S c) (zc_ly tb f im.toInt32) 0
  | 14 => zc_mk (zc_pl c [zc_ly tb f im.toInt32] (0, zc_S c)) 0 0
  | 15 => zc_mk (zc_pl c [zc_ly tb f im.toInt32] (0, zc_S c)) (zc_ly tb f im.toInt32) 0
  | 16 => zc_mk (0, zc_S c) (im.toInt32 + 1) 0
  | 17 => zc_mk (zc_pl c [im.toInt32 + 1] (0, zc_S c)) 0 0
  | 18 => zc_mk (0, zc_S c) 1 0
  | 19 => zc_mk (0, zc_S c) 2 0
  | m + 20 => zc_mk (zc_pl c [zc_f1 (m + 20), zc_f2 (m + 20)] (0, zc_S c)) (zc_f3 (m + 20)) 0
def zc_o (o : Int32) : Nat := if o = 0 then 0 else 1
/-- the answer -/
def zc_rc (p : Int32 × Nat × Int32 × Int32) (c : zc_C) (k : Nat) : Int32 :=
  if (1 ≤ k ∧ k ≤ 3) ∧ 8 ≤ zc_D c then -5
  else if k = 4 ∧ zc_K c (zc_D c - 1) ≠ 3 then -6
  else if k = 5 ∧ zc_K c (zc_D c - 1) = 3 ∧ zc_B c (zc_D c - 1) / 3 ≠ zc_r (zc_B c (zc_D c - 1)) then -6
  else if p.1 ≠ 0 then p.1
  else if p.2.2.2 = 0 ∧ 12 < p.2.1 + zc_o p.2.2.1 then -10 else 0
def zc_w (g : Nat → Int32) (s : Nat) (o : Int32) : Nat → Int32 := if o = 0 then g else upd g s o
theorem zc_w0 {g : Nat → Int32} {s : Nat} {o : Int32} (h : o = 0) : zc_w g s o = g := if_pos h
theorem zc_w1 {g : Nat → Int32} {s : Nat} {o : Int32} (h : o ≠ 0) : zc_w g s o = upd g s o := if_neg h
theorem zc_o0 {o : Int32} (h : o = 0) : zc_o o = 0 := if_pos h
theorem zc_o1 {o : Int32} (h : o ≠ 0) : zc_o o = 1 := if_neg h
theorem zc_wl {g : Nat → Int32} {s x : Nat} {o : Int32} (h : x < s) : zc_w g s o x = g x := by
  unfold zc_w; split
  · rfl
  · exact pk_un (by omega)
/-- the operand list as a rule leaves it -/
def zc_set (c : zc_C) (cur : Nat) (o m : Int32) : zc_C :=
  if m = 0 then (cur + zc_o o, zc_w (zc_T c) cur o, zc_D c, zc_K c, zc_B c, zc_H c, zc_U c, zc_A c)
  else (zc_h c, zc_T c, zc_D c, zc_K c, zc_B c, zc_H c, upd (zc_U c) (zc_D c - 1) 1, zc_A c)
/-- the frames as a rule leaves them -/
def zc_ctl (k cur a : Nat) (i : Int32) (c : zc_C) : zc_C :=
  if 1 ≤ k ∧ k ≤ 3 then (zc_S c, zc_T c, zc_D c + 1, upd (zc_K c) (zc_D c) (nI k), upd (zc_B c) (zc_D c) i, zc_u (zc_H c) (zc_D c) cur, upd (zc_U c) (zc_D c) 0, zc_u (zc_A c) (zc_D c) a)
  else if k = 4 then (zc_S c, zc_T c, zc_D c, upd (zc_K c) (zc_D c - 1) 4, zc_B c, zc_H c, upd (zc_U c) (zc_D c - 1) 0, zc_A c)
  else if k = 5 then (zc_S c, zc_T c, zc_D c - 1, zc_K c, zc_B c, zc_H c, zc_U c, zc_A c)
  else c
def zc_nxt (p : Int32 × Nat × Int32 × Int32) (c : zc_C) (k a : Nat) (im : Int64) : zc_C :=
  zc_ctl k p.2.1 a im.toInt32 (zc_set c p.2.1 p.2.2.1 p.2.2.2)
/-- immediates as recorded code has them -/
def zc_im (cnt : Nat) (c : zc_C) (k : Nat) (im : Int64) : Prop :=
  ((1 ≤ k ∧ k ≤ 3) → ∃ b, b ≤ 8 ∧ im = lN b) ∧
  ((k = 6 ∨ k = 7) → ∃ l, l < zc_D c ∧ im = lN l) ∧
  (k = 10 → ∃ g, g < cnt ∧ im = lN g) ∧
  ((k = 13 ∨ k = 14 ∨ k = 15) → ∃ j, j < 8 ∧ im = lN j) ∧
  ((k = 16 ∨ k = 17) → ∃ j, j < 2 ∧ im = lN j) ∧
  (k = 18 → im = im.toInt32.toInt64) ∧
  (k = 8 → zc_n im ≤ 7 ∧ ∀ j, j ≤ zc_n im → zc_lb im j < zc_D c) ∧
  (38 ≤ k → ∃ j, j ≤ 63 ∧ im = lN j)
/-- signatures -/
def zc_sg (pa lo re : Nat → Int32) (cnt : Nat) : Prop :=
  cnt ≤ 4 ∧ ∀ g, g < cnt → (∃ p, p ≤ 4 ∧ pa g = nI p) ∧ (∃ p, p ≤ 4 ∧ lo g = nI p) ∧ (re g = 0 ∨ re g = 1 ∨ re g = 2)
/-- what holds of every state of an open body -/
def zc_ok (c : zc_C) : Prop :=
  1 ≤ zc_D c ∧ zc_D c ≤ 8 ∧ zc_S c ≤ 12 ∧ zc_H c 0 = 0 ∧ (∀ d, d + 1 < zc_D c → zc_H c d ≤ zc_H c (d + 1)) ∧ zc_h c ≤ zc_S c ∧
  (∀ i, i < zc_S c → zc_T c i = 1 ∨ zc_T c i = 2 ∨ zc_T c i = 3) ∧
  (∀ d, d < zc_D c → ∃ b, b ≤ 8 ∧ zc_B c d = nI b) ∧
  zc_K c 0 = 0 ∧ (∀ d, 1 ≤ d → d < zc_D c → zc_K c d = 1 ∨ zc_K c d = 2 ∨ zc_K c d = 3 ∨ zc_K c d = 4) ∧
  (∀ d, d < zc_D c → zc_U c d = 0 ∨ zc_U c d = 1) ∧
  (∀ i, i < zc_S c → zc_T c i = 3 → ∃ d, d < zc_D c ∧ zc_U c d ≠ 0 ∧ zc_H c d ≤ i)
/-- the state at the start of a body -/
def zt_0 (r : Int32) (c : zc_C) : Prop := zc_S c = 0 ∧ zc_D c = 1 ∧ zc_K c 0 = 0 ∧ zc_B c 0 = r ∧ zc_H c 0 = 0 ∧ zc_U c 0 = 0
/-- one recorded instruction -/
def zt_1 (pa tb re : Nat → Int32) (cnt f : Nat) (o : Int32) (im : Int64) (c c' : zc_C) (i k : Nat) : Prop :=
  k < 42 ∧ o = nI k ∧ zc_ok c ∧ zc_im cnt c k im ∧ zc_rc (zc_plan pa tb re f c im k) c k = 0 ∧ c' = zc_nxt (zc_plan pa tb re f c im k) c k i im
/-- the trace of the checker's states over a body's code -/
def zt_F (pa tb re : Nat → Int32) (cnt f : Nat) (op : Nat → Int32) (im : Nat → Int64) (T : Nat → zc_C) (n : Nat) : Prop :=
  zt_0 (re f) (T 0) ∧ ∀ i, i < n → ∃ k, zt_1 pa tb re cnt f (op i) (im i) (T i) (T (i + 1)) i k
end
section
/-! what the rules keep -/
section
variable {s : Nat} {t : Nat → Int32} {d : Nat} {k b : Nat → Int32} {h : Nat → Nat} {u : Nat → Int32} {a : Nat → Nat}
theorem zm_S : zc_S (s, t, d, k, b, h, u, a) = s := rfl
theorem zm_T : zc_T (s, t, d, k, b, h, u, a) = t := rfl
theorem zm_D : zc_D (s, t, d, k, b, h, u, a) = d := rfl
theorem zm_K : zc_K (s, t, d, k, b, h, u, a) = k := rfl
theorem zm_B : zc_B (s, t, d, k, b, h, u, a) = b := rfl
theorem zm_H : zc_H (s, t, d, k, b, h, u, a) = h := rfl
theorem zm_U : zc_U (s, t, d, k, b, h, u, a) = u := rfl
theorem zm_A : zc_A (s, t, d, k, b, h, u, a) = a := rfl
theorem zm_h : zc_h (s, t, d, k, b, h, u, a) = h (d - 1) := rfl
end
section
variable {c : zc_C} {cur : Nat} {o m : Int32}
theorem zs_D : zc_D (zc_set c cur o m) = zc_D c := by unfold zc_set; split <;> rfl
theorem zs_K : zc_K (zc_set c cur o m) = zc_K c := by unfold zc_set; split <;> rfl
theorem zs_B : zc_B (zc_set c cur o m) = zc_B c := by unfold zc_set; split <;> rfl
theorem zs_H : zc_H (zc_set c cur o m) = zc_H c := by unfold zc_set; split <;> rfl
theorem zs_A : zc_A (zc_set c cur o m) = zc_A c := by unfold zc_set; split <;> rfl
theorem zs_U (hm : m = 0) : zc_U (zc_set c cur o m) = zc_U c := by unfold zc_set; rw [if_pos hm]; rfl
theorem zs_U1 (hm : m ≠ 0) : zc_U (zc_set c cur o m) = upd (zc_U c) (zc_D c - 1) 1 := by unfold zc_set; rw [if_neg hm]; rfl
theorem zs_S (hm : m = 0) : zc_S (zc_set c cur o m) = cur + zc_o o := by
  unfold zc_set; rw [if_pos hm]; rfl
theorem zs_S1 (hm : m ≠ 0) : zc_S (zc_set c cur o m) = zc_h c := by unfold zc_set; rw [if_neg hm]; rfl
theorem zs_T (x : Nat) (hx : x < cur) : zc_T (zc_set c cur o m) x = zc_T c x := by
  unfold zc_set
  split
  · exact zc_wl hx
  · rfl
theorem zs_Tc (hm : m = 0) (ho : o ≠ 0) : zc_T (zc_set c cur o m) cur = o := by
  unfold zc_set; rw [if_pos hm]
  show zc_w (zc_T c) cur o cur = o
  rw [zc_w1 ho]; exact pk_us
end
theorem zp_le (c : zc_C) (t : Int32) (s : Int32 × Nat) : (zc_p c t s).2.2 ≤ s.2 := by
  unfold zc_p
  by_cases h0 : t = 0 ∨ s.1 ≠ 0
  · rw [if_pos h0]; exact Nat.le_refl _
  · rw [if_neg h0]
    by_cases h1 : s.2 = zc_h c
    · rw [if_pos h1]; exact Nat.le_refl _
    · rw [if_neg h1]
      by_cases h2 : t = 4 ∨ zc_T c (s.2 - 1) = t ∨ zc_T c (s.2 - 1) = 3
      · rw [if_pos h2]; exact Nat.sub_le _ _
      · rw [if_neg h2]; exact Nat.le_refl _
theorem zp_ge (c : zc_C) (t : Int32) (s : Int32 × Nat) (h : zc_h c ≤ s.2) : zc_h c ≤ (zc_p c t s).2.2 := by
  unfold zc_p
  by_cases h0 : t = 0 ∨ s.1 ≠ 0
  · rw [if_pos h0]; exact h
  · rw [if_neg h0]
    by_cases h1 : s.2 = zc_h c
    · rw [if_pos h1]; exact h
    · rw [if_neg h1]
      by_cases h2 : t = 4 ∨ zc_T c (s.2 - 1) = t ∨ zc_T c (s.2 - 1) = 3
      · rw [if_pos h2]; show zc_h c ≤ s.2 - 1; omega
      · rw [if_neg h2]; exact h
theorem zp_lle (c : zc_C) : ∀ (L : List Int32) (s : Int32 × Nat), (zc_pl c L s).2 ≤ s.2
  | [], _ => Nat.le_refl _
  | t :: L, s => Nat.le_trans (zp_lle c L _) (zp_le c t s)
theorem zp_lge (c : zc_C) : ∀ (L : List Int32) (s : Int32 × Nat), zc_h c ≤ s.2 → zc_h c ≤ (zc_pl c L s).2
  | [], _, h => h
  | t :: L, s, h => zp_lge c L _ (zp_ge c t s h)
theorem zp_ts (c : zc_C) (im : Int64) : ∀ (k : Nat) (s : Int32 × Nat), (zc_ts c im k s).2 = s.2
  | 0, _ => rfl
  | k + 1, s => zp_ts c im k s
/-- an error stays -/
theorem zp_err (c : zc_C) (t : Int32) (s : Int32 × Nat) (h : s.1 ≠ 0) : zc_p c t s = (3, s) := by
  unfold zc_p; rw [if_pos (Or.inr h)]
theorem zp_lerr (c : zc_C) : ∀ (L : List Int32) (s : Int32 × Nat), s.1 ≠ 0 → zc_pl c L s = s
  | [], _, _ => rfl
  | t :: L, s, h => by
    show zc_pl c L (zc_p c t s).2 = s
    rw [zp_err c t s h]; exact zp_lerr c L s h
theorem zp_0 (c : zc_C) (s : Int32 × Nat) : zc_p c 0 s = (3, s) := by
  unfold zc_p; rw [if_pos (Or.inl rfl)]
theorem zp_cur {pa tb re : Nat → Int32} {f : Nat} {c : zc_C} {im : Int64} (hs : zc_h c ≤ zc_S c) (k : Nat) : zc_h c ≤ (zc_plan pa tb re f c im k).2.1 ∧ (zc_plan pa tb re f c im k).2.1 ≤ zc_S c := by
  match k with
  | 0 => exact ⟨hs, Nat.le_refl _⟩
  | 1 => exact ⟨zp_lge c _ _ hs, zp_lle c _ _⟩
  | 2 => exact ⟨zp_lge c _ _ hs, zp_lle c _ _⟩
  | 3 => exact ⟨zp_lge c _ _ hs, zp_lle c _ _⟩
  | 4 => exact ⟨zp_lge c _ _ hs, zp_lle c _ _⟩
  | 5 => exact ⟨zp_lge c _ _ hs, zp_lle c _ _⟩
  | 6 => exact ⟨zp_lge c _ _ hs, zp_lle c _ _⟩
  | 7 => exact ⟨zp_lge c _ _ hs, zp_lle c _ _⟩
  | 8 =>
    simp only [zc_plan, zc_mk, zp_ts]
    exact ⟨zp_lge c _ _ hs, zp_lle c _ _⟩
  | 9 => exact ⟨zp_lge c _ _ hs, zp_lle c _ _⟩
  | 10 => exact ⟨zp_lge c _ _ hs, zp_lle c _ _⟩
  | 11 => exact ⟨zp_lge c _ _ hs, zp_lle c _ _⟩
  | 12 =>
    simp only [zc_plan, zc_sl]
    exact ⟨zp_ge c _ _ (zp_lge c _ _ hs), Nat.le_trans (zp_le c _ _) (zp_lle c _ _)⟩
  | 13 => exact ⟨hs, Nat.le_refl _⟩
  | 14 => exact ⟨zp_lge c _ _ hs, zp_lle c _ _⟩
  | 15 => exact ⟨zp_lge c _ _ hs, zp_lle c _ _⟩
  | 16 => exact ⟨hs, Nat.le_refl _⟩
  | 17 => exact ⟨zp_lge c _ _ hs, zp_lle c _ _⟩
  | 18 => exact ⟨hs, Nat.le_refl _⟩
  | 19 => exact ⟨hs, Nat.le_refl _⟩
  | m + 20 => exact ⟨zp_lge c _ _ hs, zp_lle c _ _⟩
theorem zc_d3 : ∀ b, b < 9 → (nI b / 3 = 0 ∨ nI b / 3 = 1 ∨ nI b / 3 = 2) := by decide
theorem zc_r3 : ∀ b, b < 9 → (zc_r (nI b) = 0 ∨ zc_r (nI b) = 1 ∨ zc_r (nI b) = 2) := by decide
def zc_o3 (o : Int32) : Prop := o = 0 ∨ o = 1 ∨ o = 2
theorem zp_B3 {c : zc_C} (hok : zc_ok c) {d : Nat} (hd : d < zc_D c) : zc_o3 (zc_B c d / 3) ∧ zc_o3 (zc_r (zc_B c d)) := by
  obtain ⟨b, hb, e⟩ := hok.2.2.2.2.2.2.2.1 d hd
  rw [e]; exact ⟨zc_d3 b (by omega), zc_r3 b (by omega)⟩
theorem zp_lt3 {c : zc_C} (hok : zc_ok c) {l : Nat} (hl : l < zc_D c) : zc_o3 (zc_lt c l) := by
  have h := zp_B3 hok (d := zc_D c - 1 - l) (by omega)
  unfold zc_lt; split
  · exact h.1
  · exact h.2
theorem zp_ly3 (tb : Nat → Int32) (f : Nat) (i : Int32) : zc_ly tb f i = 1 ∨ zc_ly tb f i = 2 := by
  unfold zc_ly; split
  · exact Or.inr rfl
  · exact Or.inl rfl
theorem zp_f3 (k : Nat) : zc_o3 (zc_f3 k) := by
  unfold zc_f3 zc_o3; split
  · exact Or.inl rfl
  · split
    · exact Or.inr (Or.inr rfl)
    · exact Or.inr (Or.inl rfl)
theorem zp_1 {c : zc_C} (hok : zc_ok c) (t : Int32) {s : Int32 × Nat} (hs : s.2 ≤ zc_S c) (hh : zc_h c ≤ s.2) : (zc_p c t s).1 = 1 ∨ (zc_p c t s).1 = 2 ∨ (zc_p c t s).1 = 3 := by
  unfold zc_p
  by_cases h0 : t = 0 ∨ s.1 ≠ 0
  · rw [if_pos h0]; exact Or.inr (Or.inr rfl)
  · rw [if_neg h0]
    by_cases h1 : s.2 = zc_h c
    · rw [if_pos h1]; exact Or.inr (Or.inr rfl)
    · rw [if_neg h1]
      have := hok.2.2.2.2.2.2.1 (s.2 - 1) (by omega)
      by_cases h2 : t = 4 ∨ zc_T c (s.2 - 1) = t ∨ zc_T c (s.2 - 1) = 3
      · rw [if_pos h2]; exact this
      · rw [if_neg h2]; exact this
/-- an unknown type that is popped without error comes of a dead frame -/
theorem zp_3 {c : zc_C} (hok : zc_ok c) {t : Int32} (ht : t ≠ 0) {s : Int32 × Nat} (hs : s.2 ≤ zc_S c) (hh : zc_h c ≤ s.2) (e0 : (zc_p c t s).2.1 = 0) (e3 : (zc_p c t s).1 = 3) : ∃ d, d < zc_D c ∧ zc_U c d ≠ 0 ∧ zc_H c d ≤ (zc_p c t s).2.2 := by
  have hD := hok.1
  by_cases h0 : t = 0 ∨ s.1 ≠ 0
  · rcases h0 with h0 | h0
    · exact absurd h0 ht
    · rw [zp_err c t s h0] at e0; exact absurd e0 h0
  · by_cases h1 : s.2 = zc_h c
    · have e : zc_p c t s = (3, if zc_U c (zc_D c - 1) = 0 then -7 else 0, s.2) := by
        unfold zc_p; rw [if_neg h0, if_pos h1]
      rw [e] at e0 ⊢
      refine ⟨zc_D c - 1, by omega, ?_, ?_⟩
      · intro z
        rw [if_pos z] at e0; exact absurd (show (-7 : Int32) = 0 from e0) (by decide)
      · show zc_H c (zc_D c - 1) ≤ s.2
        exact hh
    · by_cases h2 : t = 4 ∨ zc_T c (s.2 - 1) = t ∨ zc_T c (s.2 - 1) = 3
      · have e : zc_p c t s = (zc_T c (s.2 - 1), 0, s.2 - 1) := by
          unfold zc_p; rw [if_neg h0, if_neg h1, if_pos h2]
        rw [e] at e3 ⊢
        exact hok.2.2.2.2.2.2.2.2.2.2.2 (s.2 - 1) (by omega) e3
      · have e : zc_p c t s = (zc_T c (s.2 - 1), -8, s.2) := by
          unfold zc_p; rw [if_neg h0, if_neg h1, if_neg h2]
        rw [e] at e0; exact absurd (show (-8 : Int32) = 0 from e0) (by decide)
theorem zp_out {pa lo tb re : Nat → Int32} {cnt f : Nat} {c : zc_C} {im : Int64} (hok : zc_ok c) (hsg : zc_sg pa lo re cnt) (k : Nat) (him : zc_im cnt c k im) (h0 : (zc_plan pa tb re f c im k).1 = 0) :
    zc_o3 (zc_plan pa tb re f c im k).2.2.1 ∨ ((zc_plan pa tb re f c im k).2.2.1 = 3 ∧ k = 12 ∧ ∃ d, d < zc_D c ∧ zc_U c d ≠ 0 ∧ zc_H c d ≤ (zc_plan pa tb re f c im k).2.1) := by
  have hD := hok.1
  have i3 : (1 ≤ k ∧ k ≤ 3) → zc_o3 (im.toInt32 / 3) := fun z => by
    obtain ⟨b, hb, e⟩ := him.1 z
    rw [e, lN_i]; exact zc_d3 b (by omega)
  have ly := fun i => (zp_ly3 tb f i).elim (fun z => (Or.inr (Or.inl z) : zc_o3 (zc_ly tb f i))) (fun z => Or.inr (Or.inr z))
  match k with
  | 0 => exact Or.inl (Or.inl rfl)
  | 1 => exact Or.inl (i3 (by omega))
  | 2 => exact Or.inl (i3 (by omega))
  | 3 => exact Or.inl (i3 (by omega))
  | 4 => exact Or.inl (zp_B3 hok (by omega)).1
  | 5 =>
    refine Or.inl ?_
    simp only [zc_plan, zc_mk]
    split
    · exact Or.inl rfl
    · exact (zp_B3 hok (by omega)).2
  | 6 => exact Or.inl (Or.inl rfl)
  | 7 =>
    obtain ⟨l, hl, e⟩ := him.2.1 (Or.inr rfl)
    refine Or.inl ?_
    simp only [zc_plan, zc_mk]
    rw [e, lN_i, nI_clamp (by have := hok.2.1; omega)]
    exact zp_lt3 hok hl
  | 8 => exact Or.inl (Or.inl rfl)
  | 9 => exact Or.inl (Or.inl rfl)
  | 10 =>
    obtain ⟨g, hg, e⟩ := him.2.2.1 rfl
    refine Or.inl ?_
    simp only [zc_plan, zc_mk]
    rw [e, lN_i, nI_clamp (by have := hsg.1; omega)]
    exact (hsg.2 g hg).2.2
  | 11 => exact Or.inl (Or.inl rfl)
  | 12 =>
    have hs := hok.2.2.2.2.2.1
    have hx := zp_1 hok 4 (s := zc_pl c [1] (0, zc_S c)) (zp_lle c _ _) (zp_lge c _ _ hs)
    have hy := zp_1 hok 4 (s := zc_pl c [1, 4] (0, zc_S c)) (zp_lle c _ _) (zp_lge c _ _ hs)
    have h3 := zp_3 hok (t := 4) (by decide) (s := zc_pl c [1, 4] (0, zc_S c)) (zp_lle c _ _) (zp_lge c _ _ hs)
    simp only [zc_plan, zc_sl] at h0 ⊢
    by_cases x3 : (zc_p c 4 (zc_pl c [1] (0, zc_S c))).1 = 3
    · rw [if_pos x3]
      by_cases y3 : (zc_p c 4 (zc_pl c [1, 4] (0, zc_S c))).1 = 3
      · rw [if_neg (fun z => z.2.2 y3)] at h0
        exact Or.inr ⟨y3, by trivial, h3 h0 y3⟩
      · rcases hy with z | z | z
        · exact Or.inl (Or.inr (Or.inl z))
        · exact Or.inl (Or.inr (Or.inr z))
        · exact absurd z y3
    · rw [if_neg x3]
      rcases hx with z | z | z
      · exact Or.inl (Or.inr (Or.inl z))
      · exact Or.inl (Or.inr (Or.inr z))
      · exact absurd z x3
  | 13 => exact Or.inl (ly _)
  | 14 => exact Or.inl (Or.inl rfl)
  | 15 => exact Or.inl (ly _)
  | 16 =>
    obtain ⟨j, hj, e⟩ := him.2.2.2.2.1 (Or.inl rfl)
    refine Or.inl ?_
    simp only [zc_plan, zc_mk]
    rw [e, lN_i, nI_1]
    have : j = 0 ∨ j = 1 := by omega
    rcases this with rfl | rfl
    · exact Or.inr (Or.inl rfl)
    · exact Or.inr (Or.inr rfl)
  | 17 => exact Or.inl (Or.inl rfl)
  | 18 => exact Or.inl (Or.inr (Or.inl rfl))
  | 19 => exact Or.inl (Or.inr (Or.inr rfl))
  | m + 20 => exact Or.inl (zp_f3 _)
end
section
theorem zq_rc0 {p : Int32 × Nat × Int32 × Int32} {c : zc_C} {k : Nat} (h : zc_rc p c k = 0) :
    ((1 ≤ k ∧ k ≤ 3) → zc_D c < 8) ∧ (k = 4 → zc_K c (zc_D c - 1) = 3) ∧
    (k = 5 → zc_K c (zc_D c - 1) = 3 → zc_B c (zc_D c - 1) / 3 = zc_r (zc_B c (zc_D c - 1))) ∧
    p.1 = 0 ∧ (p.2.2.2 = 0 → p.2.1 + zc_o p.2.2.1 ≤ 12) := by
  unfold zc_rc at h
  by_cases h1 : (1 ≤ k ∧ k ≤ 3) ∧ 8 ≤ zc_D c
  · rw [if_pos h1] at h; exact absurd h (by decide)
  rw [if_neg h1] at h
  by_cases h2 : k = 4 ∧ zc_K c (zc_D c - 1) ≠ 3
  · rw [if_pos h2] at h; exact absurd h (by decide)
  rw [if_neg h2] at h
  by_cases h3 : k = 5 ∧ zc_K c (zc_D c - 1) = 3 ∧ zc_B c (zc_D c - 1) / 3 ≠ zc_r (zc_B c (zc_D c - 1))
  · rw [if_pos h3] at h; exact absurd h (by decide)
  rw [if_neg h3] at h
  by_cases h4 : p.1 ≠ 0
  · rw [if_pos h4] at h; exact absurd h h4
  rw [if_neg h4] at h
  by_cases h5 : p.2.2.2 = 0 ∧ 12 < p.2.1 + zc_o p.2.2.1
  · rw [if_pos h5] at h; exact absurd h (by decide)
  refine ⟨fun z => ?_, fun z => ?_, fun z y => ?_, Classical.not_not.mp h4, fun z => ?_⟩
  · rcases Nat.lt_or_ge (zc_D c) 8 with w | w
    · exact w
    · exact absurd ⟨z, w⟩ h1
  · exact Classical.byContradiction fun w => h2 ⟨z, w⟩
  · exact Classical.byContradiction fun w => h3 ⟨z, y, w⟩
  · rcases Nat.lt_or_ge 12 (p.2.1 + zc_o p.2.2.1) with w | w
    · exact absurd ⟨z, w⟩ h5
    · exact w
/-- marks are 0 or 1; the rules of frames don't mark -/
theorem zq_mk {pa tb re : Nat → Int32} {f : Nat} {c : zc_C} {im : Int64} (k : Nat) :
    ((zc_plan pa tb re f c im k).2.2.2 = 0 ∨ (zc_plan pa tb re f c im k).2.2.2 = 1) ∧ ((1 ≤ k ∧ k ≤ 5) → (zc_plan pa tb re f c im k).2.2.2 = 0) := by
  match k with
  | 0 => exact ⟨Or.inr rfl, fun z => absurd z (by omega)⟩
  | 1 => exact ⟨Or.inl rfl, fun _ => rfl⟩
  | 2 => exact ⟨Or.inl rfl, fun _ => rfl⟩
  | 3 => exact ⟨Or.inl rfl, fun _ => rfl⟩
  | 4 => exact ⟨Or.inl rfl, fun _ => rfl⟩
  | 5 => exact ⟨Or.inl rfl, fun _ => rfl⟩
  | 6 => exact ⟨Or.inr rfl, fun z => absurd z (by omega)⟩
  | 7 => exact ⟨Or.inl rfl, fun z => absurd z (by omega)⟩
  | 8 => exact ⟨Or.inr rfl, fun z => absurd z (by omega)⟩
  | 9 => exact ⟨Or.inr rfl, fun z => absurd z (by omega)⟩
  | 10 => exact ⟨Or.inl rfl, fun z => absurd z (by omega)⟩
  | 11 => exact ⟨Or.inl rfl, fun z => absurd z (by omega)⟩
  | 12 => exact ⟨Or.inl rfl, fun z => absurd z (by omega)⟩
  | 13 => exact ⟨Or.inl rfl, fun z => absurd z (by omega)⟩
  | 14 => exact ⟨Or.inl rfl, fun z => absurd z (by omega)⟩
  | 15 => exact ⟨Or.inl rfl, fun z => absurd z (by omega)⟩
  | 16 => exact ⟨Or.inl rfl, fun z => absurd z (by omega)⟩
  | 17 => exact ⟨Or.inl rfl, fun z => absurd z (by omega)⟩
  | 18 => exact ⟨Or.inl rfl, fun z => absurd z (by omega)⟩
  | 19 => exact ⟨Or.inl rfl, fun z => absurd z (by omega)⟩
  | m + 20 => exact ⟨Or.inl rfl, fun z => absurd z (by omega)⟩
/-- ELSE and END leave nothing above the frame's height -/
theorem zq_lv {pa tb re : Nat → Int32} {f : Nat} {c : zc_C} {im : Int64} {k : Nat} (hk : k = 4 ∨ k = 5) (h0 : (zc_plan pa tb re f c im k).1 = 0) : (zc_plan pa tb re f c im k).2.1 = zc_h c := by
  rcases hk with rfl | rfl
  · simp only [zc_plan, zc_mk, zc_lv] at h0 ⊢
    refine Classical.byContradiction fun w => ?_
    by_cases e : (zc_pl c [zc_r (zc_B c (zc_D c - 1))] (0, zc_S c)).1 = 0
    · rw [if_pos ⟨e, w⟩] at h0; exact absurd h0 (by decide)
    · rw [if_neg (fun z => e z.1)] at h0; exact e h0
  · simp only [zc_plan, zc_mk, zc_lv] at h0 ⊢
    refine Classical.byContradiction fun w => ?_
    by_cases e : (zc_pl c [zc_r (zc_B c (zc_D c - 1))] (0, zc_S c)).1 = 0
    · rw [if_pos ⟨e, w⟩] at h0; exact absurd h0 (by decide)
    · rw [if_neg (fun z => e z.1)] at h0; exact e h0
theorem zq_oo (o : Int32) : zc_o o ≤ 1 := by unfold zc_o; split <;> omega
/-- the operand list alone -/
theorem zq_set {c : zc_C} (hok : zc_ok c) {cur : Nat} {o m : Int32} (h1 : zc_h c ≤ cur) (h2 : cur ≤ zc_S c) (hm : m = 0 ∨ m = 1)
    (ho : zc_o3 o ∨ (o = 3 ∧ ∃ d, d < zc_D c ∧ zc_U c d ≠ 0 ∧ zc_H c d ≤ cur)) (h12 : m = 0 → cur + zc_o o ≤ 12) : zc_ok (zc_set c cur o m) := by
  obtain ⟨a1, a2, a3, a4, a5, a6, a7, a8, a9, a10, a11, a12⟩ := hok
  have hh : zc_h (zc_set c cur o m) = zc_h c := by unfold zc_h; rw [zs_H, zs_D]
  unfold zc_ok
  rw [hh, zs_D, zs_H, zs_B, zs_K]
  rcases hm with hm | hm
  · have hS := zs_S (c := c) (cur := cur) (o := o) hm
    rw [zs_U hm, hS]
    have hT : ∀ i, i < cur + zc_o o → (i < cur ∧ zc_T (zc_set c cur o m) i = zc_T c i) ∨ (i = cur ∧ o ≠ 0 ∧ zc_T (zc_set c cur o m) i = o) := by
      intro i hi
      rcases Nat.lt_or_ge i cur with w | w
      · exact Or.inl ⟨w, zs_T i w⟩
      · have : o ≠ 0 := fun z => by rw [z] at hi; simp [zc_o] at hi; omega
        have e : i = cur := by have := zq_oo o; omega
        exact Or.inr ⟨e, this, by rw [e]; exact zs_Tc hm this⟩
    refine ⟨a1, a2, h12 hm, a4, a5, by omega, fun i hi => ?_, a8, a9, a10, a11, fun i hi e3 => ?_⟩
    · rcases hT i hi with ⟨w, e⟩ | ⟨w, n, e⟩
      · rw [e]; exact a7 i (by omega)
      · rw [e]
        rcases ho with (z | z | z) | z
        · exact absurd z n
        · exact Or.inl z
        · exact Or.inr (Or.inl z)
        · exact Or.inr (Or.inr z.1)
    · rcases hT i hi with ⟨w, e⟩ | ⟨w, n, e⟩
      · rw [e] at e3; exact a12 i (by omega) e3
      · rw [e] at e3
        rcases ho with (z | z | z) | z
        · exact absurd z n
        · rw [z] at e3; exact absurd e3 (by decide)
        · rw [z] at e3; exact absurd e3 (by decide)
        · rw [w]; exact z.2
  · have hm' : m ≠ 0 := by rw [hm]; decide
    have hT : zc_T (zc_set c cur o m) = zc_T c := by unfold zc_set; rw [if_neg hm']; rfl
    rw [zs_U1 hm', zs_S1 hm', hT]
    refine ⟨a1, a2, by omega, a4, a5, Nat.le_refl _, fun i hi => a7 i (by omega), a8, a9, a10, fun d hd => ?_, fun i hi e3 => ?_⟩
    · by_cases e : d = zc_D c - 1
      · rw [e, pk_us]; exact Or.inr rfl
      · rw [pk_un e]; exact a11 d hd
    · obtain ⟨d, hd, hu, hH⟩ := a12 i (by omega) e3
      refine ⟨d, hd, ?_, hH⟩
      by_cases e : d = zc_D c - 1
      · rw [e, pk_us]; decide
      · rw [pk_un e]; exact hu
theorem zq_ctl {c : zc_C} (hok : zc_ok c) {k cur a : Nat} {i : Int32} (h13 : (1 ≤ k ∧ k ≤ 3) → zc_D c < 8 ∧ zc_h c ≤ cur ∧ cur ≤ zc_S c ∧ ∃ b, b ≤ 8 ∧ i = nI b)
    (h4 : k = 4 → 2 ≤ zc_D c) (h5 : k = 5 → 2 ≤ zc_D c) (h3 : (k = 4 ∨ k = 5) → ∀ x, zc_h c ≤ x → x < zc_S c → zc_T c x ≠ 3) : zc_ok (zc_ctl k cur a i c) := by
  obtain ⟨a1, a2, a3, a4, a5, a6, a7, a8, a9, a10, a11, a12⟩ := hok
  unfold zc_ctl
  by_cases k1 : 1 ≤ k ∧ k ≤ 3
  · rw [if_pos k1]
    obtain ⟨b1, b2, b3, b, hb, rfl⟩ := h13 k1
    unfold zc_ok
    simp only [zm_S, zm_T, zm_D, zm_K, zm_B, zm_H, zm_U, zm_h]
    refine ⟨by omega, by omega, a3, ?_, fun d hd => ?_, ?_, a7, fun d hd => ?_, ?_, fun d hd1 hd => ?_, fun d hd => ?_, fun x hx e3 => ?_⟩
    · rw [zc_un (by omega)]; exact a4
    · by_cases e : d + 1 = zc_D c
      · rw [e, zc_us, zc_un (by omega)]
        have : d = zc_D c - 1 := by omega
        rw [this]; exact b2
      · rw [zc_un e, zc_un (by omega)]; exact a5 d (by omega)
    · rw [Nat.add_sub_cancel, zc_us]; exact b3
    · by_cases e : d = zc_D c
      · rw [e, pk_us]; exact ⟨b, hb, rfl⟩
      · rw [pk_un e]; exact a8 d (by omega)
    · rw [pk_un (by omega)]; exact a9
    · by_cases e : d = zc_D c
      · rw [e, pk_us]
        have : k = 1 ∨ k = 2 ∨ k = 3 := by omega
        rcases this with rfl | rfl | rfl
        · exact Or.inl rfl
        · exact Or.inr (Or.inl rfl)
        · exact Or.inr (Or.inr (Or.inl rfl))
      · rw [pk_un e]; exact a10 d hd1 (by omega)
    · by_cases e : d = zc_D c
      · rw [e, pk_us]; exact Or.inl rfl
      · rw [pk_un e]; exact a11 d (by omega)
    · obtain ⟨d, hd, hu, hH⟩ := a12 x hx e3
      exact ⟨d, by omega, by rw [pk_un (by omega)]; exact hu, by rw [zc_un (by omega)]; exact hH⟩
  rw [if_neg k1]
  by_cases k4 : k = 4
  · rw [if_pos k4]
    have := h4 k4
    unfold zc_ok
    simp only [zm_S, zm_T, zm_D, zm_K, zm_B, zm_H, zm_U, zm_h]
    refine ⟨a1, a2, a3, a4, a5, a6, a7, a8, ?_, fun d hd1 hd => ?_, fun d hd => ?_, fun x hx e3 => ?_⟩
    · rw [pk_un (by omega)]; exact a9
    · by_cases e : d = zc_D c - 1
      · rw [e, pk_us]; exact Or.inr (Or.inr (Or.inr rfl))
      · rw [pk_un e]; exact a10 d hd1 hd
    · by_cases e : d = zc_D c - 1
      · rw [e, pk_us]; exact Or.inl rfl
      · rw [pk_un e]; exact a11 d hd
    · obtain ⟨d, hd, hu, hH⟩ := a12 x hx e3
      by_cases e : d = zc_D c - 1
      · rw [e] at hH; exact absurd e3 (h3 (Or.inl k4) x hH hx)
      · exact ⟨d, hd, by rw [pk_un e]; exact hu, hH⟩
  rw [if_neg k4]
  by_cases k5 : k = 5
  · rw [if_pos k5]
    have := h5 k5
    unfold zc_ok
    simp only [zm_S, zm_T, zm_D, zm_K, zm_B, zm_H, zm_U, zm_h]
    refine ⟨by omega, by omega, a3, a4, fun d hd => a5 d (by omega), ?_, a7, fun d hd => a8 d (by omega), a9, fun d hd1 hd => a10 d hd1 (by omega), fun d hd => a11 d (by omega), fun x hx e3 => ?_⟩
    · have z := a5 (zc_D c - 1 - 1) (by omega)
      have e : zc_D c - 1 - 1 + 1 = zc_D c - 1 := by omega
      rw [e] at z
      exact Nat.le_trans z a6
    · obtain ⟨d, hd, hu, hH⟩ := a12 x hx e3
      by_cases e : d = zc_D c - 1
      · rw [e] at hH; exact absurd e3 (h3 (Or.inr k5) x hH hx)
      · exact ⟨d, by omega, hu, hH⟩
  rw [if_neg k5]
  exact ⟨a1, a2, a3, a4, a5, a6, a7, a8, a9, a10, a11, a12⟩
/-- a rule that holds leaves a good state, but for the last END -/
theorem zq_nxt {pa lo tb re : Nat → Int32} {cnt f : Nat} {c : zc_C} {im : Int64} {k a : Nat} (hok : zc_ok c) (hsg : zc_sg pa lo re cnt) (him : zc_im cnt c k im)
    (hr : zc_rc (zc_plan pa tb re f c im k) c k = 0) (hD : k = 5 → 2 ≤ zc_D c) : zc_ok (zc_nxt (zc_plan pa tb re f c im k) c k a im) := by
  obtain ⟨r1, r2, r3, r4, r5⟩ := zq_rc0 hr
  obtain ⟨q1, q2⟩ := zp_cur (pa := pa) (tb := tb) (re := re) (f := f) (im := im) hok.2.2.2.2.2.1 k
  obtain ⟨m1, m2⟩ := zq_mk (pa := pa) (tb := tb) (re := re) (f := f) (c := c) (im := im) k
  have ho := zp_out (tb := tb) (f := f) hok hsg k him r4
  have hs : zc_ok (zc_set c (zc_plan pa tb re f c im k).2.1 (zc_plan pa tb re f c im k).2.2.1 (zc_plan pa tb re f c im k).2.2.2) :=
    zq_set hok q1 q2 m1 (ho.imp id (fun z => ⟨z.1, z.2.2⟩)) r5
  unfold zc_nxt
  have hh : zc_h (zc_set c (zc_plan pa tb re f c im k).2.1 (zc_plan pa tb re f c im k).2.2.1 (zc_plan pa tb re f c im k).2.2.2) = zc_h c := by unfold zc_h; rw [zs_H, zs_D]
  refine zq_ctl hs (fun z => ?_) (fun z => ?_) (fun z => ?_) (fun z x hx hx2 => ?_)
  · rw [zs_D, hh, zs_S (m2 (by omega))]
    refine ⟨r1 z, q1, by omega, ?_⟩
    obtain ⟨b, hb, e⟩ := him.1 z
    exact ⟨b, hb, by rw [e, lN_i]⟩
  · rw [zs_D]
    have w := r2 z
    rcases Nat.lt_or_ge 1 (zc_D c) with y | y
    · exact y
    · have e : zc_D c - 1 = 0 := by omega
      rw [e, hok.2.2.2.2.2.2.2.2.1] at w; exact absurd w (by decide)
  · rw [zs_D]; exact hD z
  · have m0 := m2 (by omega)
    have e := zq_lv z r4
    rw [hh] at hx
    rw [zs_S m0] at hx2
    have l1 := zq_oo (zc_plan pa tb re f c im k).2.2.1
    have ex : x = (zc_plan pa tb re f c im k).2.1 := by omega
    have on : (zc_plan pa tb re f c im k).2.2.1 ≠ 0 := fun w => by rw [w] at hx2; simp [zc_o] at hx2; omega
    rw [ex, zs_Tc m0 on]
    intro w
    rcases ho with (y | y | y) | y
    · exact on y
    · rw [y] at w; exact absurd w (by decide)
    · rw [y] at w; exact absurd w (by decide)
    · omega
end
section
/-! the trace of the checker's states over a body -/
theorem zo_mono {c : zc_C} (hok : zc_ok c) {d : Nat} : ∀ e, d ≤ e → e < zc_D c → zc_H c d ≤ zc_H c e
  | 0, h, _ => by rw [Nat.le_zero.mp h]; exact Nat.le_refl _
  | e + 1, h, he => by
    by_cases z : d = e + 1
    · rw [z]; exact Nat.le_refl _
    · exact Nat.le_trans (zo_mono hok e (by omega) (by omega)) (hok.2.2.2.2.1 e he)
theorem zo_h {c : zc_C} (hok : zc_ok c) {d : Nat} (hd : d < zc_D c) : zc_H c d ≤ zc_h c :=
  zo_mono hok _ (by omega) (by have := hok.1; omega)
section
variable {pa tb re : Nat → Int32} {cnt f : Nat} {o : Int32} {im : Int64} {c c' : zc_C} {i k : Nat}
theorem zn_13 (H : zt_1 pa tb re cnt f o im c c' i k) (hk : 1 ≤ k ∧ k ≤ 3) :
    zc_D c' = zc_D c + 1 ∧ zc_K c' = upd (zc_K c) (zc_D c) (nI k) ∧ zc_B c' = upd (zc_B c) (zc_D c) im.toInt32 ∧
    zc_H c' = zc_u (zc_H c) (zc_D c) (zc_plan pa tb re f c im k).2.1 ∧ zc_U c' = upd (zc_U c) (zc_D c) 0 ∧ zc_A c' = zc_u (zc_A c) (zc_D c) i ∧
    zc_S c' = (zc_plan pa tb re f c im k).2.1 + zc_o (im.toInt32 / 3) ∧ (∀ x, x < (zc_plan pa tb re f c im k).2.1 → zc_T c' x = zc_T c x) ∧
    (im.toInt32 / 3 ≠ 0 → zc_T c' (zc_plan pa tb re f c im k).2.1 = im.toInt32 / 3) := by
  obtain ⟨h1, h2, h3, h4, h5, rfl⟩ := H
  have m0 := (zq_mk (pa := pa) (tb := tb) (re := re) (f := f) (c := c) (im := im) k).2 (by omega)
  have oe : (zc_plan pa tb re f c im k).2.2.1 = im.toInt32 / 3 := by
    have : k = 1 ∨ k = 2 ∨ k = 3 := by omega
    rcases this with rfl | rfl | rfl <;> rfl
  unfold zc_nxt zc_ctl
  rw [if_pos hk]
  simp only [zm_S, zm_T, zm_D, zm_K, zm_B, zm_H, zm_U, zm_A, zs_D, zs_K, zs_B, zs_H, zs_A, zs_U m0, zs_S m0, oe]
  refine ⟨trivial, trivial, trivial, trivial, trivial, trivial, trivial, fun x hx => zs_T x hx, fun hx => zs_Tc m0 hx⟩
theorem zn_4 (H : zt_1 pa tb re cnt f o im c c' i 4) :
    zc_D c' = zc_D c ∧ zc_K c' = upd (zc_K c) (zc_D c - 1) 4 ∧ zc_B c' = zc_B c ∧ zc_H c' = zc_H c ∧ zc_U c' = upd (zc_U c) (zc_D c - 1) 0 ∧ zc_A c' = zc_A c ∧
    zc_S c' = zc_h c + zc_o (zc_B c (zc_D c - 1) / 3) ∧ (∀ x, x < zc_h c → zc_T c' x = zc_T c x) ∧
    (zc_B c (zc_D c - 1) / 3 ≠ 0 → zc_T c' (zc_h c) = zc_B c (zc_D c - 1) / 3) ∧ zc_K c (zc_D c - 1) = 3 := by
  obtain ⟨h1, h2, h3, h4, h5, rfl⟩ := H
  obtain ⟨r1, r2, r3, r4, r5⟩ := zq_rc0 h5
  have m0 := (zq_mk (pa := pa) (tb := tb) (re := re) (f := f) (c := c) (im := im) 4).2 (by omega)
  have e := zq_lv (Or.inl rfl) r4
  have oe : (zc_plan pa tb re f c im 4).2.2.1 = zc_B c (zc_D c - 1) / 3 := rfl
  unfold zc_nxt zc_ctl
  rw [if_neg (by omega), if_pos rfl]
  simp only [zm_S, zm_T, zm_D, zm_K, zm_B, zm_H, zm_U, zm_A, zs_D, zs_K, zs_B, zs_H, zs_A, zs_U m0, zs_S m0, oe, e]
  refine ⟨trivial, trivial, trivial, trivial, trivial, trivial, trivial, fun x hx => zs_T x hx, fun hx => zs_Tc m0 hx, r2 rfl⟩
theorem zn_5 (H : zt_1 pa tb re cnt f o im c c' i 5) :
    zc_D c' = zc_D c - 1 ∧ zc_K c' = zc_K c ∧ zc_B c' = zc_B c ∧ zc_H c' = zc_H c ∧ zc_U c' = zc_U c ∧ zc_A c' = zc_A c ∧
    zc_S c' = zc_h c + zc_o (if zc_D c = 1 then 0 else zc_r (zc_B c (zc_D c - 1))) ∧ (∀ x, x < zc_h c → zc_T c' x = zc_T c x) ∧
    ((if zc_D c = 1 then 0 else zc_r (zc_B c (zc_D c - 1))) ≠ 0 → zc_T c' (zc_h c) = if zc_D c = 1 then 0 else zc_r (zc_B c (zc_D c - 1))) ∧
    (zc_K c (zc_D c - 1) = 3 → zc_B c (zc_D c - 1) / 3 = zc_r (zc_B c (zc_D c - 1))) := by
  obtain ⟨h1, h2, h3, h4, h5, rfl⟩ := H
  obtain ⟨r1, r2, r3, r4, r5⟩ := zq_rc0 h5
  have m0 := (zq_mk (pa := pa) (tb := tb) (re := re) (f := f) (c := c) (im := im) 5).2 (by omega)
  have e := zq_lv (Or.inr rfl) r4
  have oe : (zc_plan pa tb re f c im 5).2.2.1 = if zc_D c = 1 then 0 else zc_r (zc_B c (zc_D c - 1)) := rfl
  unfold zc_nxt zc_ctl
  rw [if_neg (by omega), if_neg (by omega), if_pos rfl]
  simp only [zm_S, zm_T, zm_D, zm_K, zm_B, zm_H, zm_U, zm_A, zs_D, zs_K, zs_B, zs_H, zs_A, zs_U m0, zs_S m0, oe, e]
  refine ⟨trivial, trivial, trivial, trivial, trivial, trivial, trivial, fun x hx => zs_T x hx, fun hx => zs_Tc m0 hx, r3 rfl⟩
theorem zn_e (H : zt_1 pa tb re cnt f o im c c' i k) (hk : ¬ (1 ≤ k ∧ k ≤ 5)) :
    c' = zc_set c (zc_plan pa tb re f c im k).2.1 (zc_plan pa tb re f c im k).2.2.1 (zc_plan pa tb re f c im k).2.2.2 := by
  obtain ⟨h1, h2, h3, h4, h5, rfl⟩ := H
  unfold zc_nxt zc_ctl
  rw [if_neg (by omega), if_neg (by omega), if_neg (by omega)]
/-- a frame that stays -/
theorem zn_fr (H : zt_1 pa tb re cnt f o im c c' i k) {d : Nat} (h1 : d + 1 ≤ zc_D c) (h2 : d + 1 ≤ zc_D c') :
    (zc_A c' d = zc_A c d ∧ zc_B c' d = zc_B c d ∧ zc_H c' d = zc_H c d ∧ (zc_K c' d = 2 ↔ zc_K c d = 2)) ∧
    (d + 1 < zc_D c → zc_K c' d = zc_K c d ∧ zc_U c' d = zc_U c d) ∧ (∀ x, x < zc_H c d → zc_T c' x = zc_T c x) := by
  have hok := H.2.2.1
  have hH := zo_h hok (d := d) (by omega)
  have hq := (zp_cur (pa := pa) (tb := tb) (re := re) (f := f) (im := im) hok.2.2.2.2.2.1 k).1
  by_cases k13 : 1 ≤ k ∧ k ≤ 3
  · obtain ⟨a1, a2, a3, a4, a5, a6, a7, a8, a9⟩ := zn_13 H k13
    have n : d ≠ zc_D c := by omega
    rw [a2, a3, a4, a5, a6, pk_un n, pk_un n, pk_un n, zc_un n, zc_un n]
    exact ⟨⟨rfl, rfl, rfl, Iff.rfl⟩, fun _ => ⟨rfl, rfl⟩, fun x hx => a8 x (by omega)⟩
  by_cases k4 : k = 4
  · subst k4
    obtain ⟨a1, a2, a3, a4, a5, a6, a7, a8, a9, a10⟩ := zn_4 H
    rw [a2, a3, a4, a5, a6]
    refine ⟨⟨rfl, rfl, rfl, ?_⟩, fun z => ?_, fun x hx => a8 x (by omega)⟩
    · by_cases e : d = zc_D c - 1
      · rw [e, pk_us, a10]; decide
      · rw [pk_un e]
    · rw [pk_un (by omega), pk_un (by omega)]; exact ⟨rfl, rfl⟩
  by_cases k5 : k = 5
  · subst k5
    obtain ⟨a1, a2, a3, a4, a5, a6, a7, a8, a9, a10⟩ := zn_5 H
    rw [a2, a3, a4, a5, a6]
    exact ⟨⟨rfl, rfl, rfl, Iff.rfl⟩, fun _ => ⟨rfl, rfl⟩, fun x hx => a8 x (by omega)⟩
  · have e := zn_e H (by omega)
    rw [e, zs_A, zs_B, zs_H, zs_K]
    refine ⟨⟨rfl, rfl, rfl, Iff.rfl⟩, fun z => ⟨rfl, ?_⟩, fun x hx => zs_T x (by omega)⟩
    by_cases m : (zc_plan pa tb re f c im k).2.2.2 = 0
    · rw [zs_U m]
    · rw [zs_U1 m, pk_un (by omega)]
theorem zn_D (H : zt_1 pa tb re cnt f o im c c' i k) : zc_D c' = if 1 ≤ k ∧ k ≤ 3 then zc_D c + 1 else if k = 5 then zc_D c - 1 else zc_D c := by
  by_cases k13 : 1 ≤ k ∧ k ≤ 3
  · rw [if_pos k13]; exact (zn_13 H k13).1
  rw [if_neg k13]
  by_cases k5 : k = 5
  · subst k5; rw [if_pos rfl]; exact (zn_5 H).1
  rw [if_neg k5]
  by_cases k4 : k = 4
  · subst k4; exact (zn_4 H).1
  · rw [zn_e H (by omega), zs_D]
end
section
variable {pa tb re : Nat → Int32} {cnt f : Nat} {op : Nat → Int32} {im : Nat → Int64} {T : Nat → zc_C} {n : Nat}
/-- from i to m the frame d stays -/
def zt_st (T : Nat → zc_C) (d i m : Nat) : Prop := ∀ j, i ≤ j → j ≤ m → d + 1 ≤ zc_D (T j)
theorem zt_pers (HF : zt_F pa tb re cnt f op im T n) {i d : Nat} : ∀ m, i ≤ m → m ≤ n → zt_st T d i m →
    (∀ e, e ≤ d → zc_A (T m) e = zc_A (T i) e ∧ zc_B (T m) e = zc_B (T i) e ∧ zc_H (T m) e = zc_H (T i) e ∧ (zc_K (T m) e = 2 ↔ zc_K (T i) e = 2)) ∧
    (∀ e, e < d → zc_K (T m) e = zc_K (T i) e ∧ zc_U (T m) e = zc_U (T i) e) ∧ (∀ x, x < zc_H (T i) d → zc_T (T m) x = zc_T (T i) x) := by
  intro m
  induction m with
  | zero =>
    intro h1 h2 h3
    have : i = 0 := by omega
    subst this
    exact ⟨fun e he => ⟨rfl, rfl, rfl, Iff.rfl⟩, fun e he => ⟨rfl, rfl⟩, fun x hx => rfl⟩
  | succ m ih =>
    intro h1 h2 h3
    by_cases z : i = m + 1
    · subst z
      exact ⟨fun e he => ⟨rfl, rfl, rfl, Iff.rfl⟩, fun e he => ⟨rfl, rfl⟩, fun x hx => rfl⟩
    · obtain ⟨i1, i2, i3⟩ := ih (by omega) (by omega) (fun j a b => h3 j a (by omega))
      obtain ⟨k, H⟩ := HF.2 m (by omega)
      have g1 := h3 m (by omega) (by omega)
      have g2 := h3 (m + 1) (by omega) (by omega)
      refine ⟨fun e he => ?_, fun e he => ?_, fun x hx => ?_⟩
      · obtain ⟨⟨b1, b2, b3, b4⟩, _, _⟩ := zn_fr H (d := e) (by omega) (by omega)
        obtain ⟨c1, c2, c3, c4⟩ := i1 e he
        exact ⟨b1.trans c1, b2.trans c2, b3.trans c3, b4.trans c4⟩
      · obtain ⟨_, b, _⟩ := zn_fr H (d := e) (by omega) (by omega)
        obtain ⟨b1, b2⟩ := b (by omega)
        obtain ⟨c1, c2⟩ := i2 e he
        exact ⟨b1.trans c1, b2.trans c2⟩
      · obtain ⟨_, _, b⟩ := zn_fr H (d := d) (by omega) (by omega)
        exact (b x (by rw [(i1 d (Nat.le_refl _)).2.2.1]; exact hx)).trans (i3 x hx)
/-- where a frame was opened -/
theorem zt_orig (HF : zt_F pa tb re cnt f op im T n) : ∀ m, m ≤ n → ∀ d, 1 ≤ d → d < zc_D (T m) →
    ∃ i k, i < m ∧ zc_A (T m) d = i ∧ zt_1 pa tb re cnt f (op i) (im i) (T i) (T (i + 1)) i k ∧ (1 ≤ k ∧ k ≤ 3) ∧ zc_D (T i) = d ∧ zt_st T d (i + 1) m := by
  intro m
  induction m with
  | zero =>
    intro _ d h1 h2
    rw [HF.1.2.1] at h2; omega
  | succ m ih =>
    intro hm d h1 h2
    obtain ⟨k, H⟩ := HF.2 m (by omega)
    have hD := zn_D H
    by_cases z : d < zc_D (T m)
    · obtain ⟨i, k', j1, j2, j3, j4, j5, j6⟩ := ih (by omega) d h1 z
      refine ⟨i, k', by omega, ?_, j3, j4, j5, fun j a b => ?_⟩
      · rw [(zn_fr H (d := d) (by omega) (by omega)).1.1]; exact j2
      · by_cases e : j = m + 1
        · rw [e]; omega
        · exact j6 j a (by omega)
    · have k13 : 1 ≤ k ∧ k ≤ 3 := by
        refine Classical.byContradiction fun w => ?_
        rw [if_neg w] at hD
        by_cases k5 : k = 5
        · rw [if_pos k5] at hD; omega
        · rw [if_neg k5] at hD; omega
      rw [if_pos k13] at hD
      have e : d = zc_D (T m) := by omega
      refine ⟨m, k, by omega, ?_, H, k13, e.symm, fun j a b => ?_⟩
      · rw [(zn_13 H k13).2.2.2.2.2.1, e, zc_us]
      · have : j = m + 1 := by omega
        rw [this]; omega
/-- the frame that instruction i opens, as long as it stays -/
theorem zt_fr (HF : zt_F pa tb re cnt f op im T n) {i k : Nat} (H : zt_1 pa tb re cnt f (op i) (im i) (T i) (T (i + 1)) i k) (hk : 1 ≤ k ∧ k ≤ 3) {m : Nat} (h1 : i < m) (h2 : m ≤ n) (h3 : zt_st T (zc_D (T i)) (i + 1) m) :
    zc_A (T m) (zc_D (T i)) = i ∧ zc_B (T m) (zc_D (T i)) = (im i).toInt32 ∧ zc_H (T m) (zc_D (T i)) = (zc_plan pa tb re f (T i) (im i) k).2.1 ∧ (zc_K (T m) (zc_D (T i)) = 2 ↔ k = 2) := by
  obtain ⟨a1, a2, a3, a4, a5, a6, a7, a8, a9⟩ := zn_13 H hk
  obtain ⟨b1, b2, b3, b4⟩ := (zt_pers HF m (by omega) h2 h3).1 (zc_D (T i)) (Nat.le_refl _)
  refine ⟨by rw [b1, a6, zc_us], by rw [b2, a3, pk_us], by rw [b3, a4, zc_us], ?_⟩
  rw [b4, a2, pk_us]
  exact nI_eq (b := 2) (by omega) (by decide)
/-- an IF's frame is one of kind 3 until its ELSE -/
theorem zt_if (HF : zt_F pa tb re cnt f op im T n) {i k : Nat} (H : zt_1 pa tb re cnt f (op i) (im i) (T i) (T (i + 1)) i k) (hk : 1 ≤ k ∧ k ≤ 3) : ∀ m, i < m → m ≤ n → zt_st T (zc_D (T i)) (i + 1) m →
    (zc_K (T m) (zc_D (T i)) = 3 ↔ (k = 3 ∧ ∀ j, i < j → j < m → ¬ (op j = 4 ∧ zc_D (T j) = zc_D (T i) + 1))) := by
  intro m
  induction m with
  | zero => intro h1 _ _; omega
  | succ m ih =>
    intro h1 h2 h3
    by_cases z : i = m
    · subst z
      rw [(zn_13 H hk).2.1, pk_us]
      have e := nI_eq (a := k) (b := 3) (by omega) (by decide)
      refine ⟨fun w => ⟨e.mp w, fun j a b => by omega⟩, fun w => e.mpr w.1⟩
    · obtain ⟨k', H'⟩ := HF.2 m (by omega)
      have i1 := ih (by omega) (by omega) (fun j a b => h3 j a (by omega))
      have g1 := h3 m (by omega) (by omega)
      have g2 := h3 (m + 1) (by omega) (by omega)
      obtain ⟨_, f2, _⟩ := zn_fr H' (d := zc_D (T i)) (by omega) (by omega)
      by_cases w : zc_D (T i) + 1 < zc_D (T m)
      · rw [(f2 w).1, i1]
        refine ⟨fun q => ⟨q.1, fun j a b => ?_⟩, fun q => ⟨q.1, fun j a b => q.2 j a (by omega)⟩⟩
        by_cases e : j = m
        · rw [e]; intro y; omega
        · exact q.2 j a (by omega)
      · have eD : zc_D (T m) - 1 = zc_D (T i) := by omega
        by_cases k4 : k' = 4
        · subst k4
          obtain ⟨a1, a2, _⟩ := zn_4 H'
          rw [a2, eD, pk_us]
          refine ⟨fun q => absurd q (by decide), fun q => absurd ⟨H'.2.1, by omega⟩ (q.2 m (by omega) (by omega))⟩
        · have eK : zc_K (T (m + 1)) (zc_D (T i)) = zc_K (T m) (zc_D (T i)) := by
            by_cases k13 : 1 ≤ k' ∧ k' ≤ 3
            · rw [(zn_13 H' k13).2.1, pk_un (by omega)]
            · by_cases k5 : k' = 5
              · subst k5; rw [(zn_5 H').2.1]
              · rw [zn_e H' (by omega), zs_K]
          rw [eK, i1]
          refine ⟨fun q => ⟨q.1, fun j a b => ?_⟩, fun q => ⟨q.1, fun j a b => q.2 j a (by omega)⟩⟩
          by_cases e : j = m
          · rw [e]; intro y
            rw [H'.2.1] at y
            exact k4 ((nI_eq (b := 4) (by have := H'.1; omega) (by decide)).mp y.1)
          · exact q.2 j a (by omega)
/-- e is the END of frame d, seen from i -/
def zt_E (op : Nat → Int32) (T : Nat → zc_C) (n d i e : Nat) : Prop := i ≤ e ∧ e < n ∧ op e = 5 ∧ zc_D (T e) = d + 1 ∧ zt_st T d i e
theorem zt_k {o : Int32} {k m : Nat} (h : o = nI k) (hk : k < 42) (hm : m < 42) (e : o = nI m) : k = m :=
  (nI_eq (by omega) (by omega)).mp (h.symm.trans e)
theorem zt_end (HF : zt_F pa tb re cnt f op im T n) {d i e : Nat} (hd : 1 ≤ d) (E : zt_E op T n d i e) :
    zc_D (T (e + 1)) = d ∧
    (∀ x, x < d → zc_K (T (e + 1)) x = zc_K (T i) x ∧ zc_B (T (e + 1)) x = zc_B (T i) x ∧ zc_H (T (e + 1)) x = zc_H (T i) x ∧ zc_U (T (e + 1)) x = zc_U (T i) x ∧ zc_A (T (e + 1)) x = zc_A (T i) x) ∧
    (∀ x, x < zc_H (T i) d → zc_T (T (e + 1)) x = zc_T (T i) x) ∧
    zc_S (T (e + 1)) = zc_H (T i) d + zc_o (zc_r (zc_B (T i) d)) ∧
    (zc_r (zc_B (T i) d) ≠ 0 → zc_T (T (e + 1)) (zc_H (T i) d) = zc_r (zc_B (T i) d)) ∧
    (zc_K (T e) d = 3 → zc_B (T i) d / 3 = zc_r (zc_B (T i) d)) := by
  obtain ⟨h1, h2, h3, h4, h5⟩ := E
  obtain ⟨k, H⟩ := HF.2 e h2
  have k5 : k = 5 := zt_k H.2.1 H.1 (by omega) h3
  subst k5
  obtain ⟨a1, a2, a3, a4, a5, a6, a7, a8, a9, a10⟩ := zn_5 H
  obtain ⟨p1, p2, p3⟩ := zt_pers HF e h1 (by omega) h5
  have ed : zc_D (T e) - 1 = d := by omega
  have eh : zc_h (T e) = zc_H (T i) d := by
    unfold zc_h; rw [ed]; exact (p1 d (Nat.le_refl _)).2.2.1
  have eB : zc_B (T e) (zc_D (T e) - 1) = zc_B (T i) d := by rw [ed]; exact (p1 d (Nat.le_refl _)).2.1
  have eo : (if zc_D (T e) = 1 then 0 else zc_r (zc_B (T e) (zc_D (T e) - 1))) = zc_r (zc_B (T i) d) := by
    rw [if_neg (by omega), eB]
  rw [eo, eh] at a7 a9
  rw [eh] at a8
  refine ⟨by omega, fun x hx => ?_, fun x hx => (a8 x hx).trans (p3 x hx), a7, a9, fun z => ?_⟩
  · obtain ⟨b1, b2, b3, b4⟩ := p1 x (by omega)
    obtain ⟨c1, c2⟩ := p2 x hx
    rw [a2, a3, a4, a5, a6]
    exact ⟨c1, b2, b3, c2, b1⟩
  · rw [eB, ed] at a10; exact a10 z
theorem zt_loop (HF : zt_F pa tb re cnt f op im T n) {d i : Nat} (hi : i ≤ n) (hd : 1 ≤ d) (hd2 : d < zc_D (T i)) :
    zc_A (T i) d < i ∧ zc_D (T (zc_A (T i) d + 1)) = d + 1 ∧
    (∀ x, x < d → zc_K (T (zc_A (T i) d + 1)) x = zc_K (T i) x ∧ zc_B (T (zc_A (T i) d + 1)) x = zc_B (T i) x ∧ zc_H (T (zc_A (T i) d + 1)) x = zc_H (T i) x ∧ zc_U (T (zc_A (T i) d + 1)) x = zc_U (T i) x ∧ zc_A (T (zc_A (T i) d + 1)) x = zc_A (T i) x) ∧
    zc_B (T (zc_A (T i) d + 1)) d = zc_B (T i) d ∧ zc_H (T (zc_A (T i) d + 1)) d = zc_H (T i) d ∧ zc_A (T (zc_A (T i) d + 1)) d = zc_A (T i) d ∧ zc_U (T (zc_A (T i) d + 1)) d = 0 ∧
    (∀ x, x < zc_H (T i) d → zc_T (T (zc_A (T i) d + 1)) x = zc_T (T i) x) ∧
    zc_S (T (zc_A (T i) d + 1)) = zc_H (T i) d + zc_o (zc_B (T i) d / 3) ∧
    (zc_B (T i) d / 3 ≠ 0 → zc_T (T (zc_A (T i) d + 1)) (zc_H (T i) d) = zc_B (T i) d / 3) := by
  obtain ⟨s, k, h1, h2, H, h4, h5, h6⟩ := zt_orig HF i hi d hd hd2
  rw [h2]
  obtain ⟨a1, a2, a3, a4, a5, a6, a7, a8, a9⟩ := zn_13 H h4
  rw [h5] at a1 a2 a3 a4 a5 a6
  obtain ⟨p1, p2, p3⟩ := zt_pers HF i (by omega) hi h6
  have eH : zc_H (T i) d = (zc_plan pa tb re f (T s) (im s) k).2.1 := by rw [(p1 d (Nat.le_refl _)).2.2.1, a4, zc_us]
  have eH' : zc_H (T (s + 1)) d = zc_H (T i) d := (p1 d (Nat.le_refl _)).2.2.1.symm
  have eB : zc_B (T i) d = (im s).toInt32 := by rw [(p1 d (Nat.le_refl _)).2.1, a3, pk_us]
  refine ⟨h1, a1, fun x hx => ?_, (p1 d (Nat.le_refl _)).2.1.symm, eH', ?_, by rw [a5, pk_us], fun x hx => ?_, by rw [a7, eH, eB], fun z => ?_⟩
  · obtain ⟨b1, b2, b3, b4⟩ := p1 x (by omega)
    obtain ⟨c1, c2⟩ := p2 x hx
    exact ⟨c1.symm, b2.symm, b3.symm, c2.symm, b1.symm⟩
  · rw [a6, zc_us]
  · exact (p3 x (by rw [eH']; exact hx)).symm
  · rw [eB] at z ⊢; rw [eH]; exact a9 z
end
end
section
/-! the reference's checker: its own methods and the joins of its step -/
def zy_Ag (c : zc_C) (ty kd bk hh dd : Nat → Int32) : Prop :=
  (∀ i, i < zc_S c → ty i = zc_T c i) ∧ ∀ d, d < zc_D c → kd d = zc_K c d ∧ bk d = zc_B c d ∧ hh d = nI (zc_H c d) ∧ dd d = zc_U c d
section
variable {fl cl ms fu cnt opn er sz dp dep ytr nx us tk : Int32} {lr : Int64} {pa lo tb re sta len ops ty kd bk hh dd aF aP aZ aL lP lF vt byt : Nat → Int32} {imm val loc glo arg : Nat → Int64} {c : zc_C} {k s f : Nat} {im : Int64} {t : Int32}
theorem zy_pop {post : Int32 → SY → Prop} (hok : zc_ok c) (hA : zy_Ag c ty kd bk hh dd) (h1 : zc_h c ≤ s) (h2 : s ≤ zc_S c)
    (hp : post (zc_p c t (er, s)).1 (fl, cl, ms, fu, cnt, opn, (zc_p c t (er, s)).2.1, nI (zc_p c t (er, s)).2.2, nI (zc_D c), dep, ytr, nx, us, tk, lr, pa, lo, tb, re, sta, len, ops, ty, kd, bk, hh, dd, aF, aP, aZ, aL, lP, lF, vt, byt, imm, val, loc, glo, arg)) : wpY_pop post (fl, cl, ms, fu, cnt, opn, er, nI s, nI (zc_D c), dep, ytr, nx, us, tk, lr, pa, lo, tb, re, sta, len, ops, ty, kd, bk, hh, dd, aF, aP, aZ, aL, lP, lF, vt, byt, imm, val, loc, glo, arg) t := by
  have hD := hok.1
  have hD8 := hok.2.1
  have hS := hok.2.2.1
  have e1 : nI (zc_D c) - 1 = nI (zc_D c - 1) := pk_sub (b := 1) hD
  have ec : (nI (zc_D c) - 1).toNatClampNeg = zc_D c - 1 := by rw [e1, nI_clamp (by omega)]
  have hin : vp_in (nI (zc_D c) - 1) 8 := by rw [e1]; exact vp_in_nI (by omega) (by decide)
  obtain ⟨_, _, eh, ed⟩ := hA.2 (zc_D c - 1) (by omega)
  by_cases h0 : t = 0
  · have e : zc_p c t (er, s) = (3, er, s) := by rw [h0]; exact zp_0 c _
    rw [e] at hp
    exact br_t h0 hp
  by_cases he : er = 0
  · subst he
    have n0 : ¬ (t = 0 ∨ ((0 : Int32), s).1 ≠ 0) := fun z => z.elim h0 (fun w => w rfl)
    by_cases h3 : s = zc_h c
    · have e : zc_p c t (0, s) = (3, if zc_U c (zc_D c - 1) = 0 then -7 else 0, s) := by
        unfold zc_p; rw [if_neg n0, if_pos h3]
      have hs : nI s = hh (nI (zc_D c) - 1).toNatClampNeg := by rw [ec, eh, h3]; rfl
      refine br_f h0 (br_t rfl ⟨hin, br_t hs ⟨hin, ?_⟩⟩)
      by_cases hu : zc_U c (zc_D c - 1) = 0
      · rw [e, if_pos hu] at hp
        exact br_t (by rw [ec, ed]; exact hu) ⟨hin, br_t hs hp⟩
      · rw [e, if_neg hu] at hp
        exact br_f (by rw [ec, ed]; exact hu) ⟨hin, br_t hs hp⟩
    · have hs : ¬ nI s = hh (nI (zc_D c) - 1).toNatClampNeg := by
        rw [ec, eh]; intro z
        exact h3 ((nI_eq (by omega) (by have := hok.2.2.2.2.2.1; unfold zc_h at this; omega)).mp z)
      have hs1 : 1 ≤ s := by omega
      have es : nI s - 1 = nI (s - 1) := pk_sub (b := 1) hs1
      have es2 : (nI s - 1).toNatClampNeg = s - 1 := by rw [es, nI_clamp (by omega)]
      have hin2 : vp_in (nI s - 1) 16 := by rw [es]; exact vp_in_nI (by omega) (by decide)
      have et : ty (nI s - 1).toNatClampNeg = zc_T c (s - 1) := by rw [es2]; exact hA.1 _ (by omega)
      refine br_f h0 (br_t rfl ⟨hin, br_f hs ?_⟩)
      refine ⟨hin, br_f hs ⟨hin2, nm_r et ?_⟩⟩
      have e : zc_p c t (0, s) = if t = 4 ∨ zc_T c (s - 1) = t ∨ zc_T c (s - 1) = 3 then (zc_T c (s - 1), 0, s - 1) else (zc_T c (s - 1), -8, s) := by
        unfold zc_p; rw [if_neg n0, if_neg h3]
      rw [e] at hp
      by_cases h4 : t = 4
      · rw [if_pos (Or.inl h4)] at hp
        exact br_t h4 (nm_r es hp)
      by_cases h5 : zc_T c (s - 1) = t
      · rw [if_pos (Or.inr (Or.inl h5))] at hp
        exact br_f h4 (br_t h5 (nm_r es hp))
      by_cases h6 : zc_T c (s - 1) = 3
      · rw [if_pos (Or.inr (Or.inr h6))] at hp
        exact br_f h4 (br_f h5 (br_t h6 (nm_r es hp)))
      · rw [if_neg (fun z => z.elim h4 (fun w => w.elim h5 h6))] at hp
        exact br_f h4 (br_f h5 (br_f h6 hp))
  · rw [zp_err c t (er, s) he] at hp
    exact br_f h0 (br_f he hp)
theorem zy_push {post : SY → Prop} (hs : s ≤ 14) (hp : post (fl, cl, ms, fu, cnt, opn, er, nI (s + zc_o t), dp, dep, ytr, nx, us, tk, lr, pa, lo, tb, re, sta, len, ops, zc_w ty s t, kd, bk, hh, dd, aF, aP, aZ, aL, lP, lF, vt, byt, imm, val, loc, glo, arg)) : wpY_push post (fl, cl, ms, fu, cnt, opn, er, nI s, dp, dep, ytr, nx, us, tk, lr, pa, lo, tb, re, sta, len, ops, ty, kd, bk, hh, dd, aF, aP, aZ, aL, lP, lF, vt, byt, imm, val, loc, glo, arg) t := by
  by_cases z : t = 0
  · rw [zc_o0 z, zc_w0 z] at hp
    exact br_t z hp
  · rw [zc_o1 z, zc_w1 z] at hp
    have ec : (nI s).toNatClampNeg = s := nI_clamp (by omega)
    refine br_f z (br_f (nI_ge (b := 16) (by omega) (by decide)) (nm_r (nI_1 s) ⟨vp_in_nI (by omega) (by decide), ?_⟩))
    rw [ec]
    exact nm_e hp
theorem zy_lt {post : Int32 → Prop} (hok : zc_ok c) (hA : zy_Ag c ty kd bk hh dd) {l : Nat} (hl : l < zc_D c) (hp : post (zc_lt c l)) : wpY_labelType post (fl, cl, ms, fu, cnt, opn, er, sz, nI (zc_D c), dep, ytr, nx, us, tk, lr, pa, lo, tb, re, sta, len, ops, ty, kd, bk, hh, dd, aF, aP, aZ, aL, lP, lF, vt, byt, imm, val, loc, glo, arg) (nI l) := by
  have hD8 := hok.2.1
  have e1 : nI (zc_D c) - 1 - nI l = nI (zc_D c - 1 - l) := by
    rw [show nI (zc_D c) - 1 = nI (zc_D c - 1) from pk_sub (b := 1) (by omega)]
    exact pk_sub (by omega)
  have ec : (nI (zc_D c - 1 - l)).toNatClampNeg = zc_D c - 1 - l := nI_clamp (by omega)
  have hin : vp_in (nI (zc_D c - 1 - l)) 8 := vp_in_nI (by omega) (by decide)
  obtain ⟨ek, eb, _, _⟩ := hA.2 (zc_D c - 1 - l) (by omega)
  refine nm_r e1 ⟨hin, ?_⟩
  rw [ec, ek, eb]
  unfold zc_lt at hp
  by_cases z : zc_K c (zc_D c - 1 - l) = 2
  · rw [if_pos z] at hp
    exact br_t z ⟨hin, by decide, hp⟩
  · rw [if_neg z] at hp
    exact br_f z ⟨hin, by decide, hp⟩
theorem zy_ly {post : Int32 → Prop} {i : Int32} (hf : f < 4) (hp : post (zc_ly tb f i)) : wpY_localType post (fl, cl, ms, fu, cnt, opn, er, sz, dp, dep, ytr, nx, us, tk, lr, pa, lo, tb, re, sta, len, ops, ty, kd, bk, hh, dd, aF, aP, aZ, aL, lP, lF, vt, byt, imm, val, loc, glo, arg) (nI f) i := by
  have ec : (nI f).toNatClampNeg = f := nI_clamp (by omega)
  refine ⟨vp_in_nI hf (by decide), ?_⟩
  rw [ec]
  unfold zc_ly at hp
  by_cases z : ((tb f >>> (i &&& 31)) &&& 1) = 1
  · rw [if_pos z] at hp; exact br_t z hp
  · rw [if_neg z] at hp; exact br_f z hp
theorem zy_f1 {post : Int32 → Prop} (hk : k < 42) (hp : post (zc_f1 k)) : wpY_firstType post (fl, cl, ms, fu, cnt, opn, er, sz, dp, dep, ytr, nx, us, tk, lr, pa, lo, tb, re, sta, len, ops, ty, kd, bk, hh, dd, aF, aP, aZ, aL, lP, lF, vt, byt, imm, val, loc, glo, arg) (nI k) := by
  unfold zc_f1 at hp
  by_cases h : (28 ≤ k ∧ k ≤ 36) ∨ k = 41
  · rw [if_pos h] at hp
    exact pk_lt k 28 (fun _ => pk_eq k 41 (fun _ => hp) (fun _ => by omega)) (fun _ => pk_le k 36 (fun _ => hp) (fun _ => pk_eq k 41 (fun _ => hp) (fun _ => by omega)))
  · rw [if_neg h] at hp
    exact pk_lt k 28 (fun _ => pk_eq k 41 (fun _ => by omega) (fun _ => hp)) (fun _ => pk_le k 36 (fun _ => by omega) (fun _ => pk_eq k 41 (fun _ => by omega) (fun _ => hp)))
theorem zy_f2 {post : Int32 → Prop} (hk : k < 42) (h20 : 20 ≤ k) (hp : post (zc_f2 k)) : wpY_secondType post (fl, cl, ms, fu, cnt, opn, er, sz, dp, dep, ytr, nx, us, tk, lr, pa, lo, tb, re, sta, len, ops, ty, kd, bk, hh, dd, aF, aP, aZ, aL, lP, lF, vt, byt, imm, val, loc, glo, arg) (nI k) := by
  have A : ¬ (21 ≤ k ∧ k ≤ 27) → wY_secondType_12 post (nI k) fl cl ms fu cnt opn er sz dp dep ytr nx us tk lr pa lo tb re sta len ops ty kd bk hh dd aF aP aZ aL lP lF vt byt imm val loc glo arg := by
    intro n
    unfold zc_f2 at hp
    by_cases h : k = 39 ∨ k = 41
    · rw [if_pos (by omega)] at hp
      exact pk_eq k 39 (fun _ => hp) (fun _ => pk_eq k 41 (fun _ => hp) (fun _ => by omega))
    · rw [if_neg (by omega)] at hp
      by_cases h2 : 29 ≤ k ∧ k ≤ 35
      · rw [if_pos h2] at hp
        exact pk_eq k 39 (fun _ => by omega) (fun _ => pk_eq k 41 (fun _ => by omega) (fun _ => pk_lt k 29 (fun _ => by omega) (fun _ => pk_lt 35 k (fun _ => by omega) (fun _ => hp))))
      · rw [if_neg h2] at hp
        exact pk_eq k 39 (fun _ => by omega) (fun _ => pk_eq k 41 (fun _ => by omega) (fun _ => pk_lt k 29 (fun _ => hp) (fun _ => pk_lt 35 k (fun _ => hp) (fun _ => by omega))))
  refine pk_lt k 21 (fun _ => A (by omega)) (fun _ => pk_le k 27 (fun _ => ?_) (fun _ => A (by omega)))
  unfold zc_f2 at hp
  rw [if_pos (by omega)] at hp
  exact hp
theorem zy_f3 {post : Int32 → Prop} (hk : k < 42) (hp : post (zc_f3 k)) : wpY_givenType post (fl, cl, ms, fu, cnt, opn, er, sz, dp, dep, ytr, nx, us, tk, lr, pa, lo, tb, re, sta, len, ops, ty, kd, bk, hh, dd, aF, aP, aZ, aL, lP, lF, vt, byt, imm, val, loc, glo, arg) (nI k) := by
  unfold zc_f3 at hp
  by_cases h : k = 39 ∨ k = 41
  · rw [if_pos h] at hp
    exact pk_eq k 39 (fun _ => hp) (fun _ => pk_eq k 41 (fun _ => hp) (fun _ => by omega))
  rw [if_neg h] at hp
  by_cases h2 : (31 ≤ k ∧ k ≤ 35) ∨ k = 37 ∨ k = 40
  · rw [if_pos h2] at hp
    exact pk_eq k 39 (fun _ => by omega) (fun _ => pk_eq k 41 (fun _ => by omega) (fun _ => pk_lt k 31 (fun _ => by omega) (fun _ => pk_le k 35 (fun _ => hp) (fun _ => pk_eq k 37 (fun _ => hp) (fun _ => pk_eq k 40 (fun _ => hp) (fun _ => by omega))))))
  · rw [if_neg h2] at hp
    exact pk_eq k 39 (fun _ => by omega) (fun _ => pk_eq k 41 (fun _ => by omega) (fun _ => pk_lt k 31 (fun _ => pk_eq k 37 (fun _ => by omega) (fun _ => pk_eq k 40 (fun _ => by omega) (fun _ => hp))) (fun _ => pk_le k 35 (fun _ => by omega) (fun _ => pk_eq k 37 (fun _ => by omega) (fun _ => pk_eq k 40 (fun _ => by omega) (fun _ => hp))))))
end
end
section
/-! the joins of the reference's step -/
def zy_n (im : Int64) : Int32 := ((im.toUInt64 >>> ((32 : Int32).toInt64.toUInt64 &&& Int64.toUInt64 63)).toInt64).toInt32
section
variable {fl cl ms fu cnt opn er sz dp dep ytr nx us tk : Int32} {lr : Int64} {pa lo tb re sta len ops ty kd bk hh dd aF aP aZ aL lP lF vt byt : Nat → Int32} {imm val loc glo arg : Nat → Int64} {c : zc_C} {k s f : Nat} {im : Int64} {t : Int32} {post : Int32 → SY → Prop} {x4 x5 x6 x7 x8 : Int32}
theorem zy_ltx {post : Int32 → Prop} {x : Int32} (hok : zc_ok c) (hA : zy_Ag c ty kd bk hh dd) {l : Nat} (hl : l < zc_D c) (hx : nI l = x) (hp : post (zc_lt c l)) : wpY_labelType post (fl, cl, ms, fu, cnt, opn, er, sz, nI (zc_D c), dep, ytr, nx, us, tk, lr, pa, lo, tb, re, sta, len, ops, ty, kd, bk, hh, dd, aF, aP, aZ, aL, lP, lF, vt, byt, imm, val, loc, glo, arg) x := by
  subst hx; exact zy_lt hok hA hl hp
theorem zj_top (hok : zc_ok c) (hA : zy_Ag c ty kd bk hh dd) : nI (zc_D c) - 1 = nI (zc_D c - 1) ∧ vp_in (nI (zc_D c - 1)) 8 ∧ bk (nI (zc_D c - 1)).toNatClampNeg = zc_B c (zc_D c - 1) ∧ kd (nI (zc_D c - 1)).toNatClampNeg = zc_K c (zc_D c - 1) ∧ hh (nI (zc_D c - 1)).toNatClampNeg = nI (zc_h c) := by
  have hD := hok.1
  have hD8 := hok.2.1
  obtain ⟨e1, e2, e3, e4⟩ := hA.2 (zc_D c - 1) (by omega)
  have ec : (nI (zc_D c - 1)).toNatClampNeg = zc_D c - 1 := nI_clamp (by omega)
  rw [ec]
  exact ⟨pk_sub (b := 1) hD, vp_in_nI (by omega) (by decide), e2, e1, e3⟩
theorem zj_step (hok : zc_ok c) (hA : zy_Ag c ty kd bk hh dd) (hd : (1 ≤ k ∧ k ≤ 3) → zc_D c < 8) (hk : k < 42)
    (h : wY_step_50 post (nI k) im im.toInt32 (zy_n im) (nI (zc_D c - 1)) (zc_B c (zc_D c - 1)) fl cl ms fu cnt opn er sz (nI (zc_D c)) dep ytr nx us tk lr pa lo tb re sta len ops ty kd bk hh dd aF aP aZ aL lP lF vt byt imm val loc glo arg) : wpY_step post (fl, cl, ms, fu, cnt, opn, er, sz, nI (zc_D c), dep, ytr, nx, us, tk, lr, pa, lo, tb, re, sta, len, ops, ty, kd, bk, hh, dd, aF, aP, aZ, aL, lP, lF, vt, byt, imm, val, loc, glo, arg) (nI k) im := by
  obtain ⟨e1, hin, eb, _, _⟩ := zj_top hok hA
  have hD8 := hok.2.1
  refine nm_e (nm_r e1 ⟨hin, nm_r eb ?_⟩)
  exact pk_lt k 1 (fun _ => h) (fun _ => pk_lt 3 k (fun _ => h) (fun _ => pk_lt (zc_D c) 8 (fun _ => h) (fun _ => by have := hd (by omega); omega)))
theorem zj_deep (hok : zc_ok c) (hA : zy_Ag c ty kd bk hh dd) (hd : 8 ≤ zc_D c) (hk : 1 ≤ k ∧ k ≤ 3)
    (h : post (-5) (fl, cl, ms, fu, cnt, opn, er, sz, nI (zc_D c), dep, ytr, nx, us, tk, lr, pa, lo, tb, re, sta, len, ops, ty, kd, bk, hh, dd, aF, aP, aZ, aL, lP, lF, vt, byt, imm, val, loc, glo, arg)) : wpY_step post (fl, cl, ms, fu, cnt, opn, er, sz, nI (zc_D c), dep, ytr, nx, us, tk, lr, pa, lo, tb, re, sta, len, ops, ty, kd, bk, hh, dd, aF, aP, aZ, aL, lP, lF, vt, byt, imm, val, loc, glo, arg) (nI k) im := by
  obtain ⟨e1, hin, eb, _, _⟩ := zj_top hok hA
  have hD8 := hok.2.1
  refine nm_e (nm_r e1 ⟨hin, nm_r eb ?_⟩)
  exact pk_lt k 1 (fun _ => by omega) (fun _ => pk_lt 3 k (fun _ => by omega) (fun _ => pk_lt (zc_D c) 8 (fun _ => by omega) (fun _ => h)))
theorem zj_ctx (hok : zc_ok c) (hA : zy_Ag c ty kd bk hh dd) (hk : k < 42) (h4 : k = 4 → zc_K c (zc_D c - 1) = 3) (h5 : k = 5 → zc_K c (zc_D c - 1) = 3 → zc_B c (zc_D c - 1) / 3 = zc_r (zc_B c (zc_D c - 1)))
    (h : wY_step_99 post (nI k) im x4 x5 (nI (zc_D c - 1)) (zc_B c (zc_D c - 1)) fl cl ms fu cnt opn er sz (nI (zc_D c)) dep ytr nx us tk lr pa lo tb re sta len ops ty kd bk hh dd aF aP aZ aL lP lF vt byt imm val loc glo arg) :
    wY_step_50 post (nI k) im x4 x5 (nI (zc_D c - 1)) (zc_B c (zc_D c - 1)) fl cl ms fu cnt opn er sz (nI (zc_D c)) dep ytr nx us tk lr pa lo tb re sta len ops ty kd bk hh dd aF aP aZ aL lP lF vt byt imm val loc glo arg := by
  obtain ⟨e1, hin, eb, ek, _⟩ := zj_top hok hA
  have A : wY_step_69 post (nI k) im x4 x5 (nI (zc_D c - 1)) (zc_B c (zc_D c - 1)) fl cl ms fu cnt opn er sz (nI (zc_D c)) dep ytr nx us tk lr pa lo tb re sta len ops ty kd bk hh dd aF aP aZ aL lP lF vt byt imm val loc glo arg :=
    pk_eq k 5 (fun e => ⟨hin, br_c (fun z => ⟨by decide, by decide, br_t (h5 e (ek.symm.trans z)) h⟩) (fun _ => h)⟩) (fun _ => h)
  exact pk_eq k 4 (fun e => ⟨hin, br_t (ek.trans (h4 e)) A⟩) (fun _ => A)
theorem zj_bad (hok : zc_ok c) (hA : zy_Ag c ty kd bk hh dd) (hb : (k = 4 ∧ zc_K c (zc_D c - 1) ≠ 3) ∨ (k = 5 ∧ zc_K c (zc_D c - 1) = 3 ∧ zc_B c (zc_D c - 1) / 3 ≠ zc_r (zc_B c (zc_D c - 1))))
    (h : post (-6) (fl, cl, ms, fu, cnt, opn, er, sz, nI (zc_D c), dep, ytr, nx, us, tk, lr, pa, lo, tb, re, sta, len, ops, ty, kd, bk, hh, dd, aF, aP, aZ, aL, lP, lF, vt, byt, imm, val, loc, glo, arg)) :
    wY_step_50 post (nI k) im x4 x5 (nI (zc_D c - 1)) (zc_B c (zc_D c - 1)) fl cl ms fu cnt opn er sz (nI (zc_D c)) dep ytr nx us tk lr pa lo tb re sta len ops ty kd bk hh dd aF aP aZ aL lP lF vt byt imm val loc glo arg := by
  obtain ⟨e1, hin, eb, ek, _⟩ := zj_top hok hA
  rcases hb with ⟨rfl, hb⟩ | ⟨rfl, hb, hc⟩
  · exact br_t rfl ⟨hin, br_f (fun z => hb (ek.symm.trans z)) h⟩
  · exact br_f (by decide) (br_t rfl ⟨hin, br_t (ek.trans hb) ⟨by decide, by decide, br_f hc h⟩⟩)
theorem zj_99a (hk : k < 42) (hn : k ≠ 3 ∧ k ≠ 7 ∧ k ≠ 8 ∧ k ≠ 12) (h : wY_step_133 post (nI k) im x4 x5 x6 x7 fl cl ms fu cnt opn 0 sz dp dep ytr nx us tk lr pa lo tb re sta len ops ty kd bk hh dd aF aP aZ aL lP lF vt byt imm val loc glo arg) : wY_step_99 post (nI k) im x4 x5 x6 x7 fl cl ms fu cnt opn er sz dp dep ytr nx us tk lr pa lo tb re sta len ops ty kd bk hh dd aF aP aZ aL lP lF vt byt imm val loc glo arg :=
  pk_eq k 3 (fun _ => by omega) (fun _ => pk_eq k 7 (fun _ => by omega) (fun _ => pk_eq k 8 (fun _ => by omega) (fun _ => pk_eq k 12 (fun _ => by omega) (fun _ => h))))
theorem zj_99b (hok : zc_ok c) (hA : zy_Ag c ty kd bk hh dd) (hk : k < 42) (hn : k = 3 ∨ k = 7 ∨ k = 8 ∨ k = 12)
    (h : wY_step_133 post (nI k) im x4 x5 x6 x7 fl cl ms fu cnt opn ((zc_p c 1 (0, zc_S c)).2.1) (nI (zc_p c 1 (0, zc_S c)).2.2) (nI (zc_D c)) dep ytr nx us tk lr pa lo tb re sta len ops ty kd bk hh dd aF aP aZ aL lP lF vt byt imm val loc glo arg) : wY_step_99 post (nI k) im x4 x5 x6 x7 fl cl ms fu cnt opn er (nI (zc_S c)) (nI (zc_D c)) dep ytr nx us tk lr pa lo tb re sta len ops ty kd bk hh dd aF aP aZ aL lP lF vt byt imm val loc glo arg := by
  have A : wY_step_127 post (nI k) im x4 x5 x6 x7 fl cl ms fu cnt opn 0 (nI (zc_S c)) (nI (zc_D c)) dep ytr nx us tk lr pa lo tb re sta len ops ty kd bk hh dd aF aP aZ aL lP lF vt byt imm val loc glo arg :=
    zy_pop hok hA hok.2.2.2.2.2.1 (Nat.le_refl _) h
  exact pk_eq k 3 (fun _ => A) (fun _ => pk_eq k 7 (fun _ => A) (fun _ => pk_eq k 8 (fun _ => A) (fun _ => pk_eq k 12 (fun _ => A) (fun _ => by omega))))
theorem zj_133a (hk : k ≤ 5) (h : wY_step_224 post (nI k) im x4 x5 x6 x7 (zc_r x7) fl cl ms fu cnt opn er sz dp dep ytr nx us tk lr pa lo tb re sta len ops ty kd bk hh dd aF aP aZ aL lP lF vt byt imm val loc glo arg) : wY_step_133 post (nI k) im x4 x5 x6 x7 fl cl ms fu cnt opn er sz dp dep ytr nx us tk lr pa lo tb re sta len ops ty kd bk hh dd aF aP aZ aL lP lF vt byt imm val loc glo arg :=
  pk_lt 5 k (fun _ => by omega) (fun _ => ⟨by decide, h⟩)
theorem zj_133b (hok : zc_ok c) (hA : zy_Ag c ty kd bk hh dd) (hk : k = 6 ∨ k = 7) (hl : x4.toNatClampNeg < zc_D c) (hx : nI x4.toNatClampNeg = x4) (h : wY_step_224 post (nI k) im x4 x5 x6 x7 (zc_lt c x4.toNatClampNeg) fl cl ms fu cnt opn er sz (nI (zc_D c)) dep ytr nx us tk lr pa lo tb re sta len ops ty kd bk hh dd aF aP aZ aL lP lF vt byt imm val loc glo arg) : wY_step_133 post (nI k) im x4 x5 x6 x7 fl cl ms fu cnt opn er sz (nI (zc_D c)) dep ytr nx us tk lr pa lo tb re sta len ops ty kd bk hh dd aF aP aZ aL lP lF vt byt imm val loc glo arg := by
  refine pk_lt 5 k (fun _ => pk_lt 7 k (fun _ => by omega) (fun _ => ?_)) (fun _ => by omega)
  exact zy_ltx hok hA hl hx h
theorem zj_133c (hf : f < 4) (h : wY_step_224 post 9 im x4 x5 x6 x7 (re f) fl cl ms fu cnt (nI f) er sz dp dep ytr nx us tk lr pa lo tb re sta len ops ty kd bk hh dd aF aP aZ aL lP lF vt byt imm val loc glo arg) : wY_step_133 post 9 im x4 x5 x6 x7 fl cl ms fu cnt (nI f) er sz dp dep ytr nx us tk lr pa lo tb re sta len ops ty kd bk hh dd aF aP aZ aL lP lF vt byt imm val loc glo arg := by
  have ec : (nI f).toNatClampNeg = f := nI_clamp (by omega)
  refine br_t (by decide) (br_t (by decide) (br_t (by decide) ⟨vp_in_nI hf (by decide), ?_⟩))
  rw [ec]; exact h
theorem zj_133d (h : wY_step_224 post 11 im x4 x5 x6 x7 4 fl cl ms fu cnt opn er sz dp dep ytr nx us tk lr pa lo tb re sta len ops ty kd bk hh dd aF aP aZ aL lP lF vt byt imm val loc glo arg) : wY_step_133 post 11 im x4 x5 x6 x7 fl cl ms fu cnt opn er sz dp dep ytr nx us tk lr pa lo tb re sta len ops ty kd bk hh dd aF aP aZ aL lP lF vt byt imm val loc glo arg :=
  br_t (by decide) (br_t (by decide) (br_f (by decide) (br_t (by decide) h)))
theorem zj_133e (hf : f < 4) (hk : 8 ≤ k ∧ k ≤ 15 ∧ k ≠ 9 ∧ k ≠ 11) (h : wY_step_224 post (nI k) im x4 x5 x6 x7 (zc_ly tb f x4) fl cl ms fu cnt (nI f) er sz dp dep ytr nx us tk lr pa lo tb re sta len ops ty kd bk hh dd aF aP aZ aL lP lF vt byt imm val loc glo arg) : wY_step_133 post (nI k) im x4 x5 x6 x7 fl cl ms fu cnt (nI f) er sz dp dep ytr nx us tk lr pa lo tb re sta len ops ty kd bk hh dd aF aP aZ aL lP lF vt byt imm val loc glo arg :=
  pk_lt 5 k (fun _ => pk_lt 7 k (fun _ => pk_eq k 9 (fun _ => by omega) (fun _ => pk_eq k 11 (fun _ => by omega) (fun _ => pk_lt 15 k (fun _ => by omega) (fun _ => zy_ly hf h)))) (fun _ => by omega)) (fun _ => by omega)
theorem zj_133g (hk : k = 16 ∨ k = 17) (h : wY_step_224 post (nI k) im x4 x5 x6 x7 (x4 + 1) fl cl ms fu cnt opn er sz dp dep ytr nx us tk lr pa lo tb re sta len ops ty kd bk hh dd aF aP aZ aL lP lF vt byt imm val loc glo arg) : wY_step_133 post (nI k) im x4 x5 x6 x7 fl cl ms fu cnt opn er sz dp dep ytr nx us tk lr pa lo tb re sta len ops ty kd bk hh dd aF aP aZ aL lP lF vt byt imm val loc glo arg :=
  pk_lt 5 k (fun _ => pk_lt 7 k (fun _ => pk_eq k 9 (fun _ => by omega) (fun _ => pk_eq k 11 (fun _ => by omega) (fun _ => pk_lt 15 k (fun _ => pk_lt 17 k (fun _ => by omega) (fun _ => h)) (fun _ => by omega)))) (fun _ => by omega)) (fun _ => by omega)
theorem zj_133h (hk : 18 ≤ k) (hk2 : k < 42) (ht : nI k - 17 = t) (h : wY_step_224 post (nI k) im x4 x5 x6 x7 t fl cl ms fu cnt opn er sz dp dep ytr nx us tk lr pa lo tb re sta len ops ty kd bk hh dd aF aP aZ aL lP lF vt byt imm val loc glo arg) : wY_step_133 post (nI k) im x4 x5 x6 x7 fl cl ms fu cnt opn er sz dp dep ytr nx us tk lr pa lo tb re sta len ops ty kd bk hh dd aF aP aZ aL lP lF vt byt imm val loc glo arg := by
  subst ht
  exact pk_lt 5 k (fun _ => pk_lt 7 k (fun _ => pk_eq k 9 (fun _ => by omega) (fun _ => pk_eq k 11 (fun _ => by omega) (fun _ => pk_lt 15 k (fun _ => pk_lt 17 k (fun _ => h) (fun _ => by omega)) (fun _ => by omega)))) (fun _ => by omega)) (fun _ => by omega)
theorem zj_pop (hok : zc_ok c) (hA : zy_Ag c ty kd bk hh dd) (h1 : zc_h c ≤ s) (h2 : s ≤ zc_S c) (hk : (4 ≤ k ∧ k ≤ 7) ∨ k = 9 ∨ k = 11 ∨ k = 14 ∨ k = 15 ∨ k = 17)
    (h : wY_step_274 post (nI k) im x4 x5 x6 x7 t fl cl ms fu cnt opn ((zc_p c t (er, s)).2.1) (nI (zc_p c t (er, s)).2.2) (nI (zc_D c)) dep ytr nx us tk lr pa lo tb re sta len ops ty kd bk hh dd aF aP aZ aL lP lF vt byt imm val loc glo arg) : wY_step_224 post (nI k) im x4 x5 x6 x7 t fl cl ms fu cnt opn er (nI s) (nI (zc_D c)) dep ytr nx us tk lr pa lo tb re sta len ops ty kd bk hh dd aF aP aZ aL lP lF vt byt imm val loc glo arg := by
  have A : wY_step_267 post (nI k) im x4 x5 x6 x7 t fl cl ms fu cnt opn er (nI s) (nI (zc_D c)) dep ytr nx us tk lr pa lo tb re sta len ops ty kd bk hh dd aF aP aZ aL lP lF vt byt imm val loc glo arg := zy_pop hok hA h1 h2 h
  exact pk_lt k 4 (fun _ => by omega) (fun _ => pk_le k 7 (fun _ => A) (fun _ => pk_eq k 9 (fun _ => A) (fun _ => pk_eq k 11 (fun _ => A) (fun _ => pk_eq k 14 (fun _ => A) (fun _ => pk_eq k 15 (fun _ => A) (fun _ => pk_eq k 17 (fun _ => A) (fun _ => by omega)))))))
theorem zj_nop (hk : k < 42) (hn : ¬ ((4 ≤ k ∧ k ≤ 7) ∨ k = 9 ∨ k = 11 ∨ k = 14 ∨ k = 15 ∨ k = 17))
    (h : wY_step_274 post (nI k) im x4 x5 x6 x7 t fl cl ms fu cnt opn er sz dp dep ytr nx us tk lr pa lo tb re sta len ops ty kd bk hh dd aF aP aZ aL lP lF vt byt imm val loc glo arg) : wY_step_224 post (nI k) im x4 x5 x6 x7 t fl cl ms fu cnt opn er sz dp dep ytr nx us tk lr pa lo tb re sta len ops ty kd bk hh dd aF aP aZ aL lP lF vt byt imm val loc glo arg := by
  have B : wY_step_237 post (nI k) im x4 x5 x6 x7 t fl cl ms fu cnt opn er sz dp dep ytr nx us tk lr pa lo tb re sta len ops ty kd bk hh dd aF aP aZ aL lP lF vt byt imm val loc glo arg := pk_eq k 9 (fun _ => by omega) (fun _ => pk_eq k 11 (fun _ => by omega) (fun _ => pk_eq k 14 (fun _ => by omega) (fun _ => pk_eq k 15 (fun _ => by omega) (fun _ => pk_eq k 17 (fun _ => by omega) (fun _ => h)))))
  exact pk_lt k 4 (fun _ => B) (fun _ => pk_le k 7 (fun _ => by omega) (fun _ => B))
theorem zj_psh (hs : s ≤ 14) (hk : k = 7 ∨ k = 13 ∨ k = 15 ∨ k = 16 ∨ k = 18 ∨ k = 19)
    (h : wY_step_316 post (nI k) im x4 x5 x6 x7 t fl cl ms fu cnt opn er (nI (s + zc_o t)) dp dep ytr nx us tk lr pa lo tb re sta len ops (zc_w ty s t) kd bk hh dd aF aP aZ aL lP lF vt byt imm val loc glo arg) : wY_step_274 post (nI k) im x4 x5 x6 x7 t fl cl ms fu cnt opn er (nI s) dp dep ytr nx us tk lr pa lo tb re sta len ops ty kd bk hh dd aF aP aZ aL lP lF vt byt imm val loc glo arg := by
  have A : wY_step_310 post (nI k) im x4 x5 x6 x7 t fl cl ms fu cnt opn er (nI s) dp dep ytr nx us tk lr pa lo tb re sta len ops ty kd bk hh dd aF aP aZ aL lP lF vt byt imm val loc glo arg := zy_push hs h
  exact pk_eq k 7 (fun _ => A) (fun _ => pk_eq k 13 (fun _ => A) (fun _ => pk_eq k 15 (fun _ => A) (fun _ => pk_eq k 16 (fun _ => A) (fun _ => pk_eq k 18 (fun _ => A) (fun _ => pk_eq k 19 (fun _ => A) (fun _ => by omega))))))
theorem zj_nps (hk : k < 42) (hn : ¬ (k = 7 ∨ k = 13 ∨ k = 15 ∨ k = 16 ∨ k = 18 ∨ k = 19))
    (h : wY_step_316 post (nI k) im x4 x5 x6 x7 t fl cl ms fu cnt opn er sz dp dep ytr nx us tk lr pa lo tb re sta len ops ty kd bk hh dd aF aP aZ aL lP lF vt byt imm val loc glo arg) : wY_step_274 post (nI k) im x4 x5 x6 x7 t fl cl ms fu cnt opn er sz dp dep ytr nx us tk lr pa lo tb re sta len ops ty kd bk hh dd aF aP aZ aL lP lF vt byt imm val loc glo arg :=
  pk_eq k 7 (fun _ => by omega) (fun _ => pk_eq k 13 (fun _ => by omega) (fun _ => pk_eq k 15 (fun _ => by omega) (fun _ => pk_eq k 16 (fun _ => by omega) (fun _ => pk_eq k 18 (fun _ => by omega) (fun _ => pk_eq k 19 (fun _ => by omega) (fun _ => h))))))
/-- no END: from the join behind ELSE -/
theorem zj_399 (hk : k < 42) (hn : k ≠ 5) (h : wY_step_432 post (nI k) im x4 x5 x6 fl cl ms fu cnt opn er sz dp dep ytr nx us tk lr pa lo tb re sta len ops ty kd bk hh dd aF aP aZ aL lP lF vt byt imm val loc glo arg) : wY_step_399 post (nI k) im x4 x5 x6 x8 fl cl ms fu cnt opn er sz dp dep ytr nx us tk lr pa lo tb re sta len ops ty kd bk hh dd aF aP aZ aL lP lF vt byt imm val loc glo arg :=
  pk_eq k 5 (fun _ => by omega) (fun _ => pk_eq k 5 (fun _ => by omega) (fun _ => h))
theorem zj_333 (hk : k < 42) (hn : k ≠ 4 ∧ k ≠ 5) (h : wY_step_432 post (nI k) im x4 x5 x6 fl cl ms fu cnt opn er sz dp dep ytr nx us tk lr pa lo tb re sta len ops ty kd bk hh dd aF aP aZ aL lP lF vt byt imm val loc glo arg) : wY_step_333 post (nI k) im x4 x5 x6 x7 x8 fl cl ms fu cnt opn er sz dp dep ytr nx us tk lr pa lo tb re sta len ops ty kd bk hh dd aF aP aZ aL lP lF vt byt imm val loc glo arg :=
  pk_eq k 4 (fun _ => by omega) (fun _ => pk_eq k 5 (fun _ => by omega) (fun _ => pk_eq k 4 (fun _ => by omega) (fun _ => zj_399 hk hn.2 h)))
theorem zj_316n (hk : k < 42) (hn : ¬ (1 ≤ k ∧ k ≤ 3)) (h : wY_step_333 post (nI k) im x4 x5 x6 x7 x8 fl cl ms fu cnt opn er sz dp dep ytr nx us tk lr pa lo tb re sta len ops ty kd bk hh dd aF aP aZ aL lP lF vt byt imm val loc glo arg) : wY_step_316 post (nI k) im x4 x5 x6 x7 x8 fl cl ms fu cnt opn er sz dp dep ytr nx us tk lr pa lo tb re sta len ops ty kd bk hh dd aF aP aZ aL lP lF vt byt imm val loc glo arg :=
  pk_lt k 1 (fun _ => h) (fun _ => pk_lt 3 k (fun _ => h) (fun _ => by omega))
theorem zj_316 (hk : k < 42) (hn : ¬ (1 ≤ k ∧ k ≤ 5)) (h : wY_step_432 post (nI k) im x4 x5 x6 fl cl ms fu cnt opn er sz dp dep ytr nx us tk lr pa lo tb re sta len ops ty kd bk hh dd aF aP aZ aL lP lF vt byt imm val loc glo arg) : wY_step_316 post (nI k) im x4 x5 x6 x7 x8 fl cl ms fu cnt opn er sz dp dep ytr nx us tk lr pa lo tb re sta len ops ty kd bk hh dd aF aP aZ aL lP lF vt byt imm val loc glo arg :=
  zj_316n hk (by omega) (zj_333 hk (by omega) h)
theorem zj_620 (hk : k < 42) (hn : k ≠ 12) (h : wY_step_682 post (nI k) x6 fl cl ms fu cnt opn er sz dp dep ytr nx us tk lr pa lo tb re sta len ops ty kd bk hh dd aF aP aZ aL lP lF vt byt imm val loc glo arg) : wY_step_620 post (nI k) x6 fl cl ms fu cnt opn er sz dp dep ytr nx us tk lr pa lo tb re sta len ops ty kd bk hh dd aF aP aZ aL lP lF vt byt imm val loc glo arg :=
  pk_eq k 12 (fun _ => by omega) (fun _ => h)
theorem zj_558 (hk : k < 42) (hn : k ≠ 10) (h : wY_step_620 post (nI k) x6 fl cl ms fu cnt opn er sz dp dep ytr nx us tk lr pa lo tb re sta len ops ty kd bk hh dd aF aP aZ aL lP lF vt byt imm val loc glo arg) : wY_step_558 post (nI k) x4 x6 fl cl ms fu cnt opn er sz dp dep ytr nx us tk lr pa lo tb re sta len ops ty kd bk hh dd aF aP aZ aL lP lF vt byt imm val loc glo arg :=
  pk_eq k 10 (fun _ => by omega) (fun _ => pk_eq k 10 (fun _ => by omega) (fun _ => h))
theorem zj_432 (hk : k < 42) (hn : k ≠ 8) (h : wY_step_558 post (nI k) x4 x6 fl cl ms fu cnt opn er sz dp dep ytr nx us tk lr pa lo tb re sta len ops ty kd bk hh dd aF aP aZ aL lP lF vt byt imm val loc glo arg) : wY_step_432 post (nI k) im x4 x5 x6 fl cl ms fu cnt opn er sz dp dep ytr nx us tk lr pa lo tb re sta len ops ty kd bk hh dd aF aP aZ aL lP lF vt byt imm val loc glo arg :=
  pk_eq k 8 (fun _ => by omega) (fun _ => ⟨1, pk_eq k 8 (fun _ => by omega) (fun _ => h)⟩)
theorem zj_682 (hk : k < 20) (h : wY_step_729 post (nI k) x6 fl cl ms fu cnt opn er sz dp dep ytr nx us tk lr pa lo tb re sta len ops ty kd bk hh dd aF aP aZ aL lP lF vt byt imm val loc glo arg) : wY_step_682 post (nI k) x6 fl cl ms fu cnt opn er sz dp dep ytr nx us tk lr pa lo tb re sta len ops ty kd bk hh dd aF aP aZ aL lP lF vt byt imm val loc glo arg :=
  pk_lt k 20 (fun _ => h) (fun _ => by omega)
theorem zj_729 (hk : k < 42) (hn : k ≠ 0 ∧ k ≠ 6 ∧ k ≠ 8 ∧ k ≠ 9) (h : wY_step_770 post fl cl ms fu cnt opn er sz dp dep ytr nx us tk lr pa lo tb re sta len ops ty kd bk hh dd aF aP aZ aL lP lF vt byt imm val loc glo arg) : wY_step_729 post (nI k) x6 fl cl ms fu cnt opn er sz dp dep ytr nx us tk lr pa lo tb re sta len ops ty kd bk hh dd aF aP aZ aL lP lF vt byt imm val loc glo arg :=
  pk_eq k 0 (fun _ => by omega) (fun _ => pk_eq k 6 (fun _ => by omega) (fun _ => pk_eq k 8 (fun _ => by omega) (fun _ => pk_eq k 9 (fun _ => by omega) (fun _ => h))))
theorem zj_729m (hn : k = 0 ∨ k = 6 ∨ k = 8 ∨ k = 9) (h : wY_step_751 post x6 fl cl ms fu cnt opn er sz dp dep ytr nx us tk lr pa lo tb re sta len ops ty kd bk hh dd aF aP aZ aL lP lF vt byt imm val loc glo arg) : wY_step_729 post (nI k) x6 fl cl ms fu cnt opn er sz dp dep ytr nx us tk lr pa lo tb re sta len ops ty kd bk hh dd aF aP aZ aL lP lF vt byt imm val loc glo arg :=
  pk_eq k 0 (fun _ => h) (fun _ => pk_eq k 6 (fun _ => h) (fun _ => pk_eq k 8 (fun _ => h) (fun _ => pk_eq k 9 (fun _ => h) (fun _ => by omega))))
/-- a plain rule's tail -/
theorem zj_tail (hk : k < 20) (hn : ¬ (1 ≤ k ∧ k ≤ 5) ∧ k ≠ 8 ∧ k ≠ 10 ∧ k ≠ 12) (h : wY_step_729 post (nI k) x6 fl cl ms fu cnt opn er sz dp dep ytr nx us tk lr pa lo tb re sta len ops ty kd bk hh dd aF aP aZ aL lP lF vt byt imm val loc glo arg) : wY_step_316 post (nI k) im x4 x5 x6 x7 x8 fl cl ms fu cnt opn er sz dp dep ytr nx us tk lr pa lo tb re sta len ops ty kd bk hh dd aF aP aZ aL lP lF vt byt imm val loc glo arg :=
  zj_316 (by omega) hn.1 (zj_432 (by omega) hn.2.1 (zj_558 (by omega) hn.2.2.1 (zj_620 (by omega) hn.2.2.2 (zj_682 hk h))))
end
end
section
/-! the reference's step answers as the rules say -/
theorem zq_rcE {p : Int32 × Nat × Int32 × Int32} {c : zc_C} {k : Nat} (h1 : ¬ ((1 ≤ k ∧ k ≤ 3) ∧ 8 ≤ zc_D c)) (h2 : ¬ (k = 4 ∧ zc_K c (zc_D c - 1) ≠ 3))
    (h3 : ¬ (k = 5 ∧ zc_K c (zc_D c - 1) = 3 ∧ zc_B c (zc_D c - 1) / 3 ≠ zc_r (zc_B c (zc_D c - 1)))) :
    zc_rc p c k = if p.1 ≠ 0 then p.1 else if p.2.2.2 = 0 ∧ 12 < p.2.1 + zc_o p.2.2.1 then -10 else 0 := by
  unfold zc_rc; rw [if_neg h1, if_neg h2, if_neg h3]
theorem zy_agset {c : zc_C} {ty kd bk hh dd : Nat → Int32} (hA : zy_Ag c ty kd bk hh dd) {cur : Nat} {o : Int32} (hc : cur ≤ zc_S c) : zy_Ag (zc_set c cur o 0) (zc_w ty cur o) kd bk hh dd := by
  refine ⟨fun i hi => ?_, fun d hd => ?_⟩
  · rw [zs_S rfl] at hi
    by_cases z : o = 0
    · rw [zc_o0 z] at hi
      rw [zc_wl (by omega), zs_T i (by omega)]; exact hA.1 i (by omega)
    · rw [zc_o1 z] at hi
      by_cases e : i = cur
      · rw [e, zc_w1 z, pk_us, zs_Tc rfl z]
      · rw [zc_wl (by omega), zs_T i (by omega)]; exact hA.1 i (by omega)
  · rw [zs_D] at hd; rw [zs_K, zs_B, zs_H, zs_U rfl]; exact hA.2 d hd
theorem zy_agmark {c : zc_C} {ty kd bk hh dd : Nat → Int32} (hok : zc_ok c) (hA : zy_Ag c ty kd bk hh dd) {cur : Nat} {o : Int32} : zy_Ag (zc_set c cur o 1) ty kd bk hh (upd dd (zc_D c - 1) 1) := by
  have h10 : (1 : Int32) ≠ 0 := by decide
  have hT : zc_T (zc_set c cur o 1) = zc_T c := by unfold zc_set; rw [if_neg h10]; rfl
  refine ⟨fun i hi => ?_, fun d hd => ?_⟩
  · rw [zs_S1 h10] at hi
    rw [hT]; exact hA.1 i (by have := hok.2.2.2.2.2.1; omega)
  · rw [zs_D] at hd; rw [zs_K, zs_B, zs_H, zs_U1 h10]
    obtain ⟨a1, a2, a3, a4⟩ := hA.2 d hd
    refine ⟨a1, a2, a3, ?_⟩
    by_cases e : d = zc_D c - 1
    · rw [e, pk_us, pk_us]
    · rw [pk_un e, pk_un e]; exact a4
section
variable {fl cl ms fu cnt opn er sz dp dep ytr nx us tk : Int32} {lr : Int64} {pa lo tb re sta len ops ty kd bk hh dd aF aP aZ aL lP lF vt byt : Nat → Int32} {imm val loc glo arg : Nat → Int64} {c : zc_C} {k s f a : Nat} {im : Int64} {t : Int32} {post : Int32 → SY → Prop} {x4 x5 x6 x7 x8 : Int32}
theorem zy_fin (hE : ∀ r, r ≠ 0 → r = zc_rc (zc_plan pa tb re f c im k) c k → ∀ (er sz dp : Int32) (ty kd bk hh dd : Nat → Int32), post r (fl, cl, ms, fu, cnt, opn, er, sz, dp, dep, ytr, nx, us, tk, lr, pa, lo, tb, re, sta, len, ops, ty, kd, bk, hh, dd, aF, aP, aZ, aL, lP, lF, vt, byt, imm, val, loc, glo, arg)) (hO : zc_rc (zc_plan pa tb re f c im k) c k = 0 → ∀ (er : Int32) (ty kd bk hh dd : Nat → Int32), zy_Ag (zc_nxt (zc_plan pa tb re f c im k) c k a im) ty kd bk hh dd → post 0 (fl, cl, ms, fu, cnt, opn, er, nI (zc_S (zc_nxt (zc_plan pa tb re f c im k) c k a im)), nI (zc_D (zc_nxt (zc_plan pa tb re f c im k) c k a im)), dep, ytr, nx, us, tk, lr, pa, lo, tb, re, sta, len, ops, ty, kd, bk, hh, dd, aF, aP, aZ, aL, lP, lF, vt, byt, imm, val, loc, glo, arg)) (hcur : (zc_plan pa tb re f c im k).2.1 ≤ 12) (hm : (zc_plan pa tb re f c im k).2.2.2 = 0)
    (hrc : zc_rc (zc_plan pa tb re f c im k) c k = if (zc_plan pa tb re f c im k).1 ≠ 0 then (zc_plan pa tb re f c im k).1 else if (zc_plan pa tb re f c im k).2.2.2 = 0 ∧ 12 < (zc_plan pa tb re f c im k).2.1 + zc_o (zc_plan pa tb re f c im k).2.2.1 then -10 else 0)
    {D' : Nat} (hN : (zc_plan pa tb re f c im k).1 = 0 → zc_S (zc_nxt (zc_plan pa tb re f c im k) c k a im) = (zc_plan pa tb re f c im k).2.1 + zc_o (zc_plan pa tb re f c im k).2.2.1 ∧ zc_D (zc_nxt (zc_plan pa tb re f c im k) c k a im) = D' ∧ zy_Ag (zc_nxt (zc_plan pa tb re f c im k) c k a im) ty kd bk hh dd) :
    wY_step_770 post fl cl ms fu cnt opn ((zc_plan pa tb re f c im k).1) (nI ((zc_plan pa tb re f c im k).2.1 + zc_o (zc_plan pa tb re f c im k).2.2.1)) (nI D') dep ytr nx us tk lr pa lo tb re sta len ops ty kd bk hh dd aF aP aZ aL lP lF vt byt imm val loc glo arg := by
  have l := zq_oo (zc_plan pa tb re f c im k).2.2.1
  by_cases e : (zc_plan pa tb re f c im k).1 = 0
  · obtain ⟨n1, n2, n3⟩ := hN e
    refine br_t e (pk_le ((zc_plan pa tb re f c im k).2.1 + zc_o (zc_plan pa tb re f c im k).2.2.1) 12 (fun w => ?_) (fun w => ?_))
    · have r0 : zc_rc (zc_plan pa tb re f c im k) c k = 0 := by rw [hrc, if_neg (fun z => z e), if_neg (by omega)]
      have q := hO r0 (zc_plan pa tb re f c im k).1 ty kd bk hh dd n3
      rw [n1, n2] at q; exact q
    · have r1 : zc_rc (zc_plan pa tb re f c im k) c k = -10 := by rw [hrc, if_neg (fun z => z e), if_pos ⟨hm, w⟩]
      exact hE (-10) (by decide) r1.symm _ _ _ _ _ _ _ _
  · exact br_f e (hE _ e (by rw [hrc, if_pos e]) _ _ _ _ _ _ _ _)
theorem zy_finp (hok : zc_ok c) (hA : zy_Ag c ty kd bk hh dd) (hn : ¬ (1 ≤ k ∧ k ≤ 5)) (hE : ∀ r, r ≠ 0 → r = zc_rc (zc_plan pa tb re f c im k) c k → ∀ (er sz dp : Int32) (ty kd bk hh dd : Nat → Int32), post r (fl, cl, ms, fu, cnt, opn, er, sz, dp, dep, ytr, nx, us, tk, lr, pa, lo, tb, re, sta, len, ops, ty, kd, bk, hh, dd, aF, aP, aZ, aL, lP, lF, vt, byt, imm, val, loc, glo, arg)) (hO : zc_rc (zc_plan pa tb re f c im k) c k = 0 → ∀ (er : Int32) (ty kd bk hh dd : Nat → Int32), zy_Ag (zc_nxt (zc_plan pa tb re f c im k) c k a im) ty kd bk hh dd → post 0 (fl, cl, ms, fu, cnt, opn, er, nI (zc_S (zc_nxt (zc_plan pa tb re f c im k) c k a im)), nI (zc_D (zc_nxt (zc_plan pa tb re f c im k) c k a im)), dep, ytr, nx, us, tk, lr, pa, lo, tb, re, sta, len, ops, ty, kd, bk, hh, dd, aF, aP, aZ, aL, lP, lF, vt, byt, imm, val, loc, glo, arg)) (hm : (zc_plan pa tb re f c im k).2.2.2 = 0) :
    wY_step_770 post fl cl ms fu cnt opn ((zc_plan pa tb re f c im k).1) (nI ((zc_plan pa tb re f c im k).2.1 + zc_o (zc_plan pa tb re f c im k).2.2.1)) (nI (zc_D c)) dep ytr nx us tk lr pa lo tb re sta len ops (zc_w ty (zc_plan pa tb re f c im k).2.1 (zc_plan pa tb re f c im k).2.2.1) kd bk hh dd aF aP aZ aL lP lF vt byt imm val loc glo arg := by
  have q := (zp_cur (pa := pa) (tb := tb) (re := re) (f := f) (im := im) hok.2.2.2.2.2.1 k).2
  have hS := hok.2.2.1
  refine zy_fin hE hO (by omega) hm (zq_rcE (by omega) (by omega) (by omega)) (fun _ => ?_)
  have e : zc_nxt (zc_plan pa tb re f c im k) c k a im = zc_set c (zc_plan pa tb re f c im k).2.1 (zc_plan pa tb re f c im k).2.2.1 0 := by
    unfold zc_nxt zc_ctl
    rw [if_neg (by omega), if_neg (by omega), if_neg (by omega), hm]
  rw [e]
  exact ⟨zs_S rfl, zs_D, zy_agset hA q⟩
theorem zy_finp0 (hok : zc_ok c) (hA : zy_Ag c ty kd bk hh dd) (hn : ¬ (1 ≤ k ∧ k ≤ 5)) (hE : ∀ r, r ≠ 0 → r = zc_rc (zc_plan pa tb re f c im k) c k → ∀ (er sz dp : Int32) (ty kd bk hh dd : Nat → Int32), post r (fl, cl, ms, fu, cnt, opn, er, sz, dp, dep, ytr, nx, us, tk, lr, pa, lo, tb, re, sta, len, ops, ty, kd, bk, hh, dd, aF, aP, aZ, aL, lP, lF, vt, byt, imm, val, loc, glo, arg)) (hO : zc_rc (zc_plan pa tb re f c im k) c k = 0 → ∀ (er : Int32) (ty kd bk hh dd : Nat → Int32), zy_Ag (zc_nxt (zc_plan pa tb re f c im k) c k a im) ty kd bk hh dd → post 0 (fl, cl, ms, fu, cnt, opn, er, nI (zc_S (zc_nxt (zc_plan pa tb re f c im k) c k a im)), nI (zc_D (zc_nxt (zc_plan pa tb re f c im k) c k a im)), dep, ytr, nx, us, tk, lr, pa, lo, tb, re, sta, len, ops, ty, kd, bk, hh, dd, aF, aP, aZ, aL, lP, lF, vt, byt, imm, val, loc, glo, arg)) (hm : (zc_plan pa tb re f c im k).2.2.2 = 0) (ho : (zc_plan pa tb re f c im k).2.2.1 = 0) :
    wY_step_770 post fl cl ms fu cnt opn ((zc_plan pa tb re f c im k).1) (nI (zc_plan pa tb re f c im k).2.1) (nI (zc_D c)) dep ytr nx us tk lr pa lo tb re sta len ops ty kd bk hh dd aF aP aZ aL lP lF vt byt imm val loc glo arg := by
  have q := zy_finp hok hA hn hE hO hm
  rw [ho, zc_o0 rfl, zc_w0 rfl, Nat.add_zero] at q
  exact q
theorem zy_finm (hok : zc_ok c) (hA : zy_Ag c ty kd bk hh dd) (hn : ¬ (1 ≤ k ∧ k ≤ 5)) (hE : ∀ r, r ≠ 0 → r = zc_rc (zc_plan pa tb re f c im k) c k → ∀ (er sz dp : Int32) (ty kd bk hh dd : Nat → Int32), post r (fl, cl, ms, fu, cnt, opn, er, sz, dp, dep, ytr, nx, us, tk, lr, pa, lo, tb, re, sta, len, ops, ty, kd, bk, hh, dd, aF, aP, aZ, aL, lP, lF, vt, byt, imm, val, loc, glo, arg)) (hO : zc_rc (zc_plan pa tb re f c im k) c k = 0 → ∀ (er : Int32) (ty kd bk hh dd : Nat → Int32), zy_Ag (zc_nxt (zc_plan pa tb re f c im k) c k a im) ty kd bk hh dd → post 0 (fl, cl, ms, fu, cnt, opn, er, nI (zc_S (zc_nxt (zc_plan pa tb re f c im k) c k a im)), nI (zc_D (zc_nxt (zc_plan pa tb re f c im k) c k a im)), dep, ytr, nx, us, tk, lr, pa, lo, tb, re, sta, len, ops, ty, kd, bk, hh, dd, aF, aP, aZ, aL, lP, lF, vt, byt, imm, val, loc, glo, arg)) (hm : (zc_plan pa tb re f c im k).2.2.2 = 1) :
    wY_step_751 post (nI (zc_D c - 1)) fl cl ms fu cnt opn ((zc_plan pa tb re f c im k).1) sz (nI (zc_D c)) dep ytr nx us tk lr pa lo tb re sta len ops ty kd bk hh dd aF aP aZ aL lP lF vt byt imm val loc glo arg := by
  obtain ⟨e1, hin, eb, ek, eh⟩ := zj_top hok hA
  have hD8 := hok.2.1
  have hS := hok.2.2.1
  have hS2 := hok.2.2.2.2.2.1
  have ec : (nI (zc_D c - 1)).toNatClampNeg = zc_D c - 1 := nI_clamp (by omega)
  have hrc := zq_rcE (p := zc_plan pa tb re f c im k) (c := c) (k := k) (by omega) (by omega) (by omega)
  refine ⟨hin, nm_r eh ⟨hin, nm_r (e' := upd dd (zc_D c - 1) 1) (by rw [ec]) ?_⟩⟩
  by_cases e : (zc_plan pa tb re f c im k).1 = 0
  · refine br_t e (br_t (nI_le (b := 12) (by omega) (by decide)) ?_)
    have r0 : zc_rc (zc_plan pa tb re f c im k) c k = 0 := by
      rw [hrc, if_neg (fun z => z e), if_neg (fun z => by rw [hm] at z; exact absurd z.1 (by decide))]
    have en : zc_nxt (zc_plan pa tb re f c im k) c k a im = zc_set c (zc_plan pa tb re f c im k).2.1 (zc_plan pa tb re f c im k).2.2.1 1 := by
      unfold zc_nxt zc_ctl
      rw [if_neg (by omega), if_neg (by omega), if_neg (by omega), hm]
    have q := hO r0 (zc_plan pa tb re f c im k).1 ty kd bk hh (upd dd (zc_D c - 1) 1) (by rw [en]; exact zy_agmark hok hA)
    rw [en, zs_S1 (by decide), zs_D] at q
    exact q
  · exact br_f e (hE _ e (by rw [hrc, if_pos e]) _ _ _ _ _ _ _ _)
theorem zj_head (hok : zc_ok c) (hA : zy_Ag c ty kd bk hh dd) (hk : k < 42) (hn : ¬ (1 ≤ k ∧ k ≤ 5)) (h : wY_step_99 post (nI k) im im.toInt32 (zy_n im) (nI (zc_D c - 1)) (zc_B c (zc_D c - 1)) fl cl ms fu cnt opn er sz (nI (zc_D c)) dep ytr nx us tk lr pa lo tb re sta len ops ty kd bk hh dd aF aP aZ aL lP lF vt byt imm val loc glo arg) : wpY_step post (fl, cl, ms, fu, cnt, opn, er, sz, nI (zc_D c), dep, ytr, nx, us, tk, lr, pa, lo, tb, re, sta, len, ops, ty, kd, bk, hh, dd, aF, aP, aZ, aL, lP, lF, vt, byt, imm, val, loc, glo, arg) (nI k) im :=
  zj_step hok hA (fun z => absurd z (by omega)) hk (zj_ctx hok hA hk (fun z => absurd z (by omega)) (fun z => absurd z (by omega)) h)
theorem zy_s0 (hok : zc_ok c) (hA : zy_Ag c ty kd bk hh dd) (hE : ∀ r, r ≠ 0 → r = zc_rc (zc_plan pa tb re f c im 0) c 0 → ∀ (er sz dp : Int32) (ty kd bk hh dd : Nat → Int32), post r (fl, cl, ms, fu, cnt, opn, er, sz, dp, dep, ytr, nx, us, tk, lr, pa, lo, tb, re, sta, len, ops, ty, kd, bk, hh, dd, aF, aP, aZ, aL, lP, lF, vt, byt, imm, val, loc, glo, arg)) (hO : zc_rc (zc_plan pa tb re f c im 0) c 0 = 0 → ∀ (er : Int32) (ty kd bk hh dd : Nat → Int32), zy_Ag (zc_nxt (zc_plan pa tb re f c im 0) c 0 a im) ty kd bk hh dd → post 0 (fl, cl, ms, fu, cnt, opn, er, nI (zc_S (zc_nxt (zc_plan pa tb re f c im 0) c 0 a im)), nI (zc_D (zc_nxt (zc_plan pa tb re f c im 0) c 0 a im)), dep, ytr, nx, us, tk, lr, pa, lo, tb, re, sta, len, ops, ty, kd, bk, hh, dd, aF, aP, aZ, aL, lP, lF, vt, byt, imm, val, loc, glo, arg)) : wpY_step post (fl, cl, ms, fu, cnt, opn, er, nI (zc_S c), nI (zc_D c), dep, ytr, nx, us, tk, lr, pa, lo, tb, re, sta, len, ops, ty, kd, bk, hh, dd, aF, aP, aZ, aL, lP, lF, vt, byt, imm, val, loc, glo, arg) (nI 0) im :=
  zj_head hok hA (by decide) (by decide) (zj_99a (by decide) (by decide) (zj_133a (by decide) (zj_nop (by decide) (by decide) (zj_nps (by decide) (by decide) (zj_tail (by decide) (by decide) (zj_729m (by decide) (zy_finm hok hA (by decide) hE hO rfl)))))))
theorem zy_s6 (hok : zc_ok c) (hA : zy_Ag c ty kd bk hh dd) (hl : im.toInt32.toNatClampNeg < zc_D c) (hx : nI im.toInt32.toNatClampNeg = im.toInt32) (hE : ∀ r, r ≠ 0 → r = zc_rc (zc_plan pa tb re f c im 6) c 6 → ∀ (er sz dp : Int32) (ty kd bk hh dd : Nat → Int32), post r (fl, cl, ms, fu, cnt, opn, er, sz, dp, dep, ytr, nx, us, tk, lr, pa, lo, tb, re, sta, len, ops, ty, kd, bk, hh, dd, aF, aP, aZ, aL, lP, lF, vt, byt, imm, val, loc, glo, arg)) (hO : zc_rc (zc_plan pa tb re f c im 6) c 6 = 0 → ∀ (er : Int32) (ty kd bk hh dd : Nat → Int32), zy_Ag (zc_nxt (zc_plan pa tb re f c im 6) c 6 a im) ty kd bk hh dd → post 0 (fl, cl, ms, fu, cnt, opn, er, nI (zc_S (zc_nxt (zc_plan pa tb re f c im 6) c 6 a im)), nI (zc_D (zc_nxt (zc_plan pa tb re f c im 6) c 6 a im)), dep, ytr, nx, us, tk, lr, pa, lo, tb, re, sta, len, ops, ty, kd, bk, hh, dd, aF, aP, aZ, aL, lP, lF, vt, byt, imm, val, loc, glo, arg)) : wpY_step post (fl, cl, ms, fu, cnt, opn, er, nI (zc_S c), nI (zc_D c), dep, ytr, nx, us, tk, lr, pa, lo, tb, re, sta, len, ops, ty, kd, bk, hh, dd, aF, aP, aZ, aL, lP, lF, vt, byt, imm, val, loc, glo, arg) (nI 6) im :=
  zj_head hok hA (by decide) (by decide) (zj_99a (by decide) (by decide) (zj_133b hok hA (by decide) hl hx (zj_pop hok hA hok.2.2.2.2.2.1 (Nat.le_refl _) (by decide) (zj_nps (by decide) (by decide) (zj_tail (by decide) (by decide) (zj_729m (by decide) (zy_finm hok hA (by decide) hE hO rfl)))))))
theorem zy_s7 (hok : zc_ok c) (hA : zy_Ag c ty kd bk hh dd) (hl : im.toInt32.toNatClampNeg < zc_D c) (hx : nI im.toInt32.toNatClampNeg = im.toInt32) (hE : ∀ r, r ≠ 0 → r = zc_rc (zc_plan pa tb re f c im 7) c 7 → ∀ (er sz dp : Int32) (ty kd bk hh dd : Nat → Int32), post r (fl, cl, ms, fu, cnt, opn, er, sz, dp, dep, ytr, nx, us, tk, lr, pa, lo, tb, re, sta, len, ops, ty, kd, bk, hh, dd, aF, aP, aZ, aL, lP, lF, vt, byt, imm, val, loc, glo, arg)) (hO : zc_rc (zc_plan pa tb re f c im 7) c 7 = 0 → ∀ (er : Int32) (ty kd bk hh dd : Nat → Int32), zy_Ag (zc_nxt (zc_plan pa tb re f c im 7) c 7 a im) ty kd bk hh dd → post 0 (fl, cl, ms, fu, cnt, opn, er, nI (zc_S (zc_nxt (zc_plan pa tb re f c im 7) c 7 a im)), nI (zc_D (zc_nxt (zc_plan pa tb re f c im 7) c 7 a im)), dep, ytr, nx, us, tk, lr, pa, lo, tb, re, sta, len, ops, ty, kd, bk, hh, dd, aF, aP, aZ, aL, lP, lF, vt, byt, imm, val, loc, glo, arg)) : wpY_step post (fl, cl, ms, fu, cnt, opn, er, nI (zc_S c), nI (zc_D c), dep, ytr, nx, us, tk, lr, pa, lo, tb, re, sta, len, ops, ty, kd, bk, hh, dd, aF, aP, aZ, aL, lP, lF, vt, byt, imm, val, loc, glo, arg) (nI 7) im := by
  have hs := hok.2.2.2.2.2.1
  have q := (zp_cur (pa := pa) (tb := tb) (re := re) (f := f) (im := im) hok.2.2.2.2.2.1 7).2
  have hS := hok.2.2.1
  exact zj_head hok hA (by decide) (by decide) (zj_99b hok hA (by decide) (by decide) (zj_133b hok hA (by decide) hl hx (zj_pop hok hA (zp_ge c 1 (0, zc_S c) hs) (zp_le c 1 (0, zc_S c)) (by decide) (zj_psh (Nat.le_trans q (by omega)) (by decide) (zj_tail (by decide) (by decide) (zj_729 (by decide) (by decide) (zy_finp hok hA (by decide) hE hO rfl)))))))
theorem zy_s9 (hok : zc_ok c) (hA : zy_Ag c ty kd bk hh dd) (hf : f < 4) (hE : ∀ r, r ≠ 0 → r = zc_rc (zc_plan pa tb re f c im 9) c 9 → ∀ (er sz dp : Int32) (ty kd bk hh dd : Nat → Int32), post r (fl, cl, ms, fu, cnt, opn, er, sz, dp, dep, ytr, nx, us, tk, lr, pa, lo, tb, re, sta, len, ops, ty, kd, bk, hh, dd, aF, aP, aZ, aL, lP, lF, vt, byt, imm, val, loc, glo, arg)) (hO : zc_rc (zc_plan pa tb re f c im 9) c 9 = 0 → ∀ (er : Int32) (ty kd bk hh dd : Nat → Int32), zy_Ag (zc_nxt (zc_plan pa tb re f c im 9) c 9 a im) ty kd bk hh dd → post 0 (fl, cl, ms, fu, cnt, opn, er, nI (zc_S (zc_nxt (zc_plan pa tb re f c im 9) c 9 a im)), nI (zc_D (zc_nxt (zc_plan pa tb re f c im 9) c 9 a im)), dep, ytr, nx, us, tk, lr, pa, lo, tb, re, sta, len, ops, ty, kd, bk, hh, dd, aF, aP, aZ, aL, lP, lF, vt, byt, imm, val, loc, glo, arg)) (ho : opn = nI f) : wpY_step post (fl, cl, ms, fu, cnt, opn, er, nI (zc_S c), nI (zc_D c), dep, ytr, nx, us, tk, lr, pa, lo, tb, re, sta, len, ops, ty, kd, bk, hh, dd, aF, aP, aZ, aL, lP, lF, vt, byt, imm, val, loc, glo, arg) (nI 9) im := by
  subst ho
  exact zj_head hok hA (by decide) (by decide) (zj_99a (by decide) (by decide) (zj_133c hf (zj_pop hok hA hok.2.2.2.2.2.1 (Nat.le_refl _) (by decide) (zj_nps (by decide) (by decide) (zj_tail (by decide) (by decide) (zj_729m (by decide) (zy_finm hok hA (by decide) hE hO rfl)))))))
theorem zy_s11 (hok : zc_ok c) (hA : zy_Ag c ty kd bk hh dd) (hE : ∀ r, r ≠ 0 → r = zc_rc (zc_plan pa tb re f c im 11) c 11 → ∀ (er sz dp : Int32) (ty kd bk hh dd : Nat → Int32), post r (fl, cl, ms, fu, cnt, opn, er, sz, dp, dep, ytr, nx, us, tk, lr, pa, lo, tb, re, sta, len, ops, ty, kd, bk, hh, dd, aF, aP, aZ, aL, lP, lF, vt, byt, imm, val, loc, glo, arg)) (hO : zc_rc (zc_plan pa tb re f c im 11) c 11 = 0 → ∀ (er : Int32) (ty kd bk hh dd : Nat → Int32), zy_Ag (zc_nxt (zc_plan pa tb re f c im 11) c 11 a im) ty kd bk hh dd → post 0 (fl, cl, ms, fu, cnt, opn, er, nI (zc_S (zc_nxt (zc_plan pa tb re f c im 11) c 11 a im)), nI (zc_D (zc_nxt (zc_plan pa tb re f c im 11) c 11 a im)), dep, ytr, nx, us, tk, lr, pa, lo, tb, re, sta, len, ops, ty, kd, bk, hh, dd, aF, aP, aZ, aL, lP, lF, vt, byt, imm, val, loc, glo, arg)) : wpY_step post (fl, cl, ms, fu, cnt, opn, er, nI (zc_S c), nI (zc_D c), dep, ytr, nx, us, tk, lr, pa, lo, tb, re, sta, len, ops, ty, kd, bk, hh, dd, aF, aP, aZ, aL, lP, lF, vt, byt, imm, val, loc, glo, arg) (nI 11) im :=
  zj_head hok hA (by decide) (by decide) (zj_99a (by decide) (by decide) (zj_133d (zj_pop hok hA hok.2.2.2.2.2.1 (Nat.le_refl _) (by decide) (zj_nps (by decide) (by decide) (zj_tail (by decide) (by decide) (zj_729 (by decide) (by decide) (zy_finp0 hok hA (by decide) hE hO rfl rfl)))))))
theorem zy_s13 (hok : zc_ok c) (hA : zy_Ag c ty kd bk hh dd) (hf : f < 4) (hE : ∀ r, r ≠ 0 → r = zc_rc (zc_plan pa tb re f c im 13) c 13 → ∀ (er sz dp : Int32) (ty kd bk hh dd : Nat → Int32), post r (fl, cl, ms, fu, cnt, opn, er, sz, dp, dep, ytr, nx, us, tk, lr, pa, lo, tb, re, sta, len, ops, ty, kd, bk, hh, dd, aF, aP, aZ, aL, lP, lF, vt, byt, imm, val, loc, glo, arg)) (hO : zc_rc (zc_plan pa tb re f c im 13) c 13 = 0 → ∀ (er : Int32) (ty kd bk hh dd : Nat → Int32), zy_Ag (zc_nxt (zc_plan pa tb re f c im 13) c 13 a im) ty kd bk hh dd → post 0 (fl, cl, ms, fu, cnt, opn, er, nI (zc_S (zc_nxt (zc_plan pa tb re f c im 13) c 13 a im)), nI (zc_D (zc_nxt (zc_plan pa tb re f c im 13) c 13 a im)), dep, ytr, nx, us, tk, lr, pa, lo, tb, re, sta, len, ops, ty, kd, bk, hh, dd, aF, aP, aZ, aL, lP, lF, vt, byt, imm, val, loc, glo, arg)) (ho : opn = nI f) : wpY_step post (fl, cl, ms, fu, cnt, opn, er, nI (zc_S c), nI (zc_D c), dep, ytr, nx, us, tk, lr, pa, lo, tb, re, sta, len, ops, ty, kd, bk, hh, dd, aF, aP, aZ, aL, lP, lF, vt, byt, imm, val, loc, glo, arg) (nI 13) im := by
  subst ho
  have hS := hok.2.2.1
  exact zj_head hok hA (by decide) (by decide) (zj_99a (by decide) (by decide) (zj_133e hf (by decide) (zj_nop (by decide) (by decide) (zj_psh (by omega) (by decide) (zj_tail (by decide) (by decide) (zj_729 (by decide) (by decide) (zy_finp hok hA (by decide) hE hO rfl)))))))
theorem zy_s14 (hok : zc_ok c) (hA : zy_Ag c ty kd bk hh dd) (hf : f < 4) (hE : ∀ r, r ≠ 0 → r = zc_rc (zc_plan pa tb re f c im 14) c 14 → ∀ (er sz dp : Int32) (ty kd bk hh dd : Nat → Int32), post r (fl, cl, ms, fu, cnt, opn, er, sz, dp, dep, ytr, nx, us, tk, lr, pa, lo, tb, re, sta, len, ops, ty, kd, bk, hh, dd, aF, aP, aZ, aL, lP, lF, vt, byt, imm, val, loc, glo, arg)) (hO : zc_rc (zc_plan pa tb re f c im 14) c 14 = 0 → ∀ (er : Int32) (ty kd bk hh dd : Nat → Int32), zy_Ag (zc_nxt (zc_plan pa tb re f c im 14) c 14 a im) ty kd bk hh dd → post 0 (fl, cl, ms, fu, cnt, opn, er, nI (zc_S (zc_nxt (zc_plan pa tb re f c im 14) c 14 a im)), nI (zc_D (zc_nxt (zc_plan pa tb re f c im 14) c 14 a im)), dep, ytr, nx, us, tk, lr, pa, lo, tb, re, sta, len, ops, ty, kd, bk, hh, dd, aF, aP, aZ, aL, lP, lF, vt, byt, imm, val, loc, glo, arg)) (ho : opn = nI f) : wpY_step post (fl, cl, ms, fu, cnt, opn, er, nI (zc_S c), nI (zc_D c), dep, ytr, nx, us, tk, lr, pa, lo, tb, re, sta, len, ops, ty, kd, bk, hh, dd, aF, aP, aZ, aL, lP, lF, vt, byt, imm, val, loc, glo, arg) (nI 14) im := by
  subst ho
  exact zj_head hok hA (by decide) (by decide) (zj_99a (by decide) (by decide) (zj_133e hf (by decide) (zj_pop hok hA hok.2.2.2.2.2.1 (Nat.le_refl _) (by decide) (zj_nps (by decide) (by decide) (zj_tail (by decide) (by decide) (zj_729 (by decide) (by decide) (zy_finp0 hok hA (by decide) hE hO rfl rfl)))))))
theorem zy_s15 (hok : zc_ok c) (hA : zy_Ag c ty kd bk hh dd) (hf : f < 4) (hE : ∀ r, r ≠ 0 → r = zc_rc (zc_plan pa tb re f c im 15) c 15 → ∀ (er sz dp : Int32) (ty kd bk hh dd : Nat → Int32), post r (fl, cl, ms, fu, cnt, opn, er, sz, dp, dep, ytr, nx, us, tk, lr, pa, lo, tb, re, sta, len, ops, ty, kd, bk, hh, dd, aF, aP, aZ, aL, lP, lF, vt, byt, imm, val, loc, glo, arg)) (hO : zc_rc (zc_plan pa tb re f c im 15) c 15 = 0 → ∀ (er : Int32) (ty kd bk hh dd : Nat → Int32), zy_Ag (zc_nxt (zc_plan pa tb re f c im 15) c 15 a im) ty kd bk hh dd → post 0 (fl, cl, ms, fu, cnt, opn, er, nI (zc_S (zc_nxt (zc_plan pa tb re f c im 15) c 15 a im)), nI (zc_D (zc_nxt (zc_plan pa tb re f c im 15) c 15 a im)), dep, ytr, nx, us, tk, lr, pa, lo, tb, re, sta, len, ops, ty, kd, bk, hh, dd, aF, aP, aZ, aL, lP, lF, vt, byt, imm, val, loc, glo, arg)) (ho : opn = nI f) : wpY_step post (fl, cl, ms, fu, cnt, opn, er, nI (zc_S c), nI (zc_D c), dep, ytr, nx, us, tk, lr, pa, lo, tb, re, sta, len, ops, ty, kd, bk, hh, dd, aF, aP, aZ, aL, lP, lF, vt, byt, imm, val, loc, glo, arg) (nI 15) im := by
  subst ho
  have q := (zp_cur (pa := pa) (tb := tb) (re := re) (f := f) (im := im) hok.2.2.2.2.2.1 15).2
  have hS := hok.2.2.1
  exact zj_head hok hA (by decide) (by decide) (zj_99a (by decide) (by decide) (zj_133e hf (by decide) (zj_pop hok hA hok.2.2.2.2.2.1 (Nat.le_refl _) (by decide) (zj_psh (Nat.le_trans q (by omega)) (by decide) (zj_tail (by decide) (by decide) (zj_729 (by decide) (by decide) (zy_finp hok hA (by decide) hE hO rfl)))))))
theorem zy_s16 (hok : zc_ok c) (hA : zy_Ag c ty kd bk hh dd) (hE : ∀ r, r ≠ 0 → r = zc_rc (zc_plan pa tb re f c im 16) c 16 → ∀ (er sz dp : Int32) (ty kd bk hh dd : Nat → Int32), post r (fl, cl, ms, fu, cnt, opn, er, sz, dp, dep, ytr, nx, us, tk, lr, pa, lo, tb, re, sta, len, ops, ty, kd, bk, hh, dd, aF, aP, aZ, aL, lP, lF, vt, byt, imm, val, loc, glo, arg)) (hO : zc_rc (zc_plan pa tb re f c im 16) c 16 = 0 → ∀ (er : Int32) (ty kd bk hh dd : Nat → Int32), zy_Ag (zc_nxt (zc_plan pa tb re f c im 16) c 16 a im) ty kd bk hh dd → post 0 (fl, cl, ms, fu, cnt, opn, er, nI (zc_S (zc_nxt (zc_plan pa tb re f c im 16) c 16 a im)), nI (zc_D (zc_nxt (zc_plan pa tb re f c im 16) c 16 a im)), dep, ytr, nx, us, tk, lr, pa, lo, tb, re, sta, len, ops, ty, kd, bk, hh, dd, aF, aP, aZ, aL, lP, lF, vt, byt, imm, val, loc, glo, arg)) : wpY_step post (fl, cl, ms, fu, cnt, opn, er, nI (zc_S c), nI (zc_D c), dep, ytr, nx, us, tk, lr, pa, lo, tb, re, sta, len, ops, ty, kd, bk, hh, dd, aF, aP, aZ, aL, lP, lF, vt, byt, imm, val, loc, glo, arg) (nI 16) im := by
  have hS := hok.2.2.1
  exact zj_head hok hA (by decide) (by decide) (zj_99a (by decide) (by decide) (zj_133g (by decide) (zj_nop (by decide) (by decide) (zj_psh (by omega) (by decide) (zj_tail (by decide) (by decide) (zj_729 (by decide) (by decide) (zy_finp hok hA (by decide) hE hO rfl)))))))
theorem zy_s17 (hok : zc_ok c) (hA : zy_Ag c ty kd bk hh dd) (hE : ∀ r, r ≠ 0 → r = zc_rc (zc_plan pa tb re f c im 17) c 17 → ∀ (er sz dp : Int32) (ty kd bk hh dd : Nat → Int32), post r (fl, cl, ms, fu, cnt, opn, er, sz, dp, dep, ytr, nx, us, tk, lr, pa, lo, tb, re, sta, len, ops, ty, kd, bk, hh, dd, aF, aP, aZ, aL, lP, lF, vt, byt, imm, val, loc, glo, arg)) (hO : zc_rc (zc_plan pa tb re f c im 17) c 17 = 0 → ∀ (er : Int32) (ty kd bk hh dd : Nat → Int32), zy_Ag (zc_nxt (zc_plan pa tb re f c im 17) c 17 a im) ty kd bk hh dd → post 0 (fl, cl, ms, fu, cnt, opn, er, nI (zc_S (zc_nxt (zc_plan pa tb re f c im 17) c 17 a im)), nI (zc_D (zc_nxt (zc_plan pa tb re f c im 17) c 17 a im)), dep, ytr, nx, us, tk, lr, pa, lo, tb, re, sta, len, ops, ty, kd, bk, hh, dd, aF, aP, aZ, aL, lP, lF, vt, byt, imm, val, loc, glo, arg)) : wpY_step post (fl, cl, ms, fu, cnt, opn, er, nI (zc_S c), nI (zc_D c), dep, ytr, nx, us, tk, lr, pa, lo, tb, re, sta, len, ops, ty, kd, bk, hh, dd, aF, aP, aZ, aL, lP, lF, vt, byt, imm, val, loc, glo, arg) (nI 17) im :=
  zj_head hok hA (by decide) (by decide) (zj_99a (by decide) (by decide) (zj_133g (by decide) (zj_pop hok hA hok.2.2.2.2.2.1 (Nat.le_refl _) (by decide) (zj_nps (by decide) (by decide) (zj_tail (by decide) (by decide) (zj_729 (by decide) (by decide) (zy_finp0 hok hA (by decide) hE hO rfl rfl)))))))
theorem zy_s18 (hok : zc_ok c) (hA : zy_Ag c ty kd bk hh dd) (hE : ∀ r, r ≠ 0 → r = zc_rc (zc_plan pa tb re f c im 18) c 18 → ∀ (er sz dp : Int32) (ty kd bk hh dd : Nat → Int32), post r (fl, cl, ms, fu, cnt, opn, er, sz, dp, dep, ytr, nx, us, tk, lr, pa, lo, tb, re, sta, len, ops, ty, kd, bk, hh, dd, aF, aP, aZ, aL, lP, lF, vt, byt, imm, val, loc, glo, arg)) (hO : zc_rc (zc_plan pa tb re f c im 18) c 18 = 0 → ∀ (er : Int32) (ty kd bk hh dd : Nat → Int32), zy_Ag (zc_nxt (zc_plan pa tb re f c im 18) c 18 a im) ty kd bk hh dd → post 0 (fl, cl, ms, fu, cnt, opn, er, nI (zc_S (zc_nxt (zc_plan pa tb re f c im 18) c 18 a im)), nI (zc_D (zc_nxt (zc_plan pa tb re f c im 18) c 18 a im)), dep, ytr, nx, us, tk, lr, pa, lo, tb, re, sta, len, ops, ty, kd, bk, hh, dd, aF, aP, aZ, aL, lP, lF, vt, byt, imm, val, loc, glo, arg)) : wpY_step post (fl, cl, ms, fu, cnt, opn, er, nI (zc_S c), nI (zc_D c), dep, ytr, nx, us, tk, lr, pa, lo, tb, re, sta, len, ops, ty, kd, bk, hh, dd, aF, aP, aZ, aL, lP, lF, vt, byt, imm, val, loc, glo, arg) (nI 18) im := by
  have hS := hok.2.2.1
  exact zj_head hok hA (by decide) (by decide) (zj_99a (by decide) (by decide) (zj_133h (by decide) (by decide) (t := 1) (by decide) (zj_nop (by decide) (by decide) (zj_psh (by omega) (by decide) (zj_tail (by decide) (by decide) (zj_729 (by decide) (by decide) (zy_finp hok hA (by decide) hE hO rfl)))))))
theorem zy_s19 (hok : zc_ok c) (hA : zy_Ag c ty kd bk hh dd) (hE : ∀ r, r ≠ 0 → r = zc_rc (zc_plan pa tb re f c im 19) c 19 → ∀ (er sz dp : Int32) (ty kd bk hh dd : Nat → Int32), post r (fl, cl, ms, fu, cnt, opn, er, sz, dp, dep, ytr, nx, us, tk, lr, pa, lo, tb, re, sta, len, ops, ty, kd, bk, hh, dd, aF, aP, aZ, aL, lP, lF, vt, byt, imm, val, loc, glo, arg)) (hO : zc_rc (zc_plan pa tb re f c im 19) c 19 = 0 → ∀ (er : Int32) (ty kd bk hh dd : Nat → Int32), zy_Ag (zc_nxt (zc_plan pa tb re f c im 19) c 19 a im) ty kd bk hh dd → post 0 (fl, cl, ms, fu, cnt, opn, er, nI (zc_S (zc_nxt (zc_plan pa tb re f c im 19) c 19 a im)), nI (zc_D (zc_nxt (zc_plan pa tb re f c im 19) c 19 a im)), dep, ytr, nx, us, tk, lr, pa, lo, tb, re, sta, len, ops, ty, kd, bk, hh, dd, aF, aP, aZ, aL, lP, lF, vt, byt, imm, val, loc, glo, arg)) : wpY_step post (fl, cl, ms, fu, cnt, opn, er, nI (zc_S c), nI (zc_D c), dep, ytr, nx, us, tk, lr, pa, lo, tb, re, sta, len, ops, ty, kd, bk, hh, dd, aF, aP, aZ, aL, lP, lF, vt, byt, imm, val, loc, glo, arg) (nI 19) im := by
  have hS := hok.2.2.1
  exact zj_head hok hA (by decide) (by decide) (zj_99a (by decide) (by decide) (zj_133h (by decide) (by decide) (t := 2) (by decide) (zj_nop (by decide) (by decide) (zj_psh (by omega) (by decide) (zj_tail (by decide) (by decide) (zj_729 (by decide) (by decide) (zy_finp hok hA (by decide) hE hO rfl)))))))
end
end
section
/-! the reference's step: the rules with loops and frames -/
def zy_ix : Nat → Int32
  | 0 => -1
  | j + 1 => nI j
theorem zy_ix0 : zy_ix 0 < 0 := by decide
theorem zy_ixp {p : Nat} : nI p - 1 = zy_ix p := by
  cases p with
  | zero => decide
  | succ p => exact nI_pred p
theorem zy_ixm (j : Nat) : zy_ix (j + 1) + (-1) = zy_ix j := by
  cases j with
  | zero => decide
  | succ j => exact pk_m1 j
theorem zb_16 (j : Nat) : 2 ^ (4 * j) = 16 ^ j := by rw [Nat.pow_mul]
theorem zb_a15 (q : Nat) : nI q &&& 15 = nI (q % 16) := by
  rw [pk_and (nI q) 4 (by decide)]
  have e : (nI q).toBitVec.toNat = q % 2 ^ 32 := rfl
  rw [e]
  exact congrArg nI (by omega)
theorem zb_lb (im : Int64) {j : Nat} (hj : j < 16) : ((((im.toUInt64 >>> ((4 * nI j).toInt64.toUInt64 &&& Int64.toUInt64 63)).toInt64).toInt32) &&& 15) = nI (zc_lb im j) := by
  obtain ⟨m, hm, rfl⟩ := wb_of im
  have e4 : 4 * nI j = nI (4 * j) := pk_mul 4 j
  rw [e4, wb_shr hm (by omega), lN_i, zb_a15, zb_16]
  unfold zc_lb
  rw [wb_tn hm]
theorem zb_n (im : Int64) : zy_n im = nI (zc_n im) := by
  obtain ⟨m, hm, rfl⟩ := wb_of im
  unfold zy_n zc_n
  rw [show (32 : Int32) = nI 32 from rfl, wb_shr hm (by omega), lN_i, wb_tn hm]
section
variable {fl cl ms fu cnt opn er sz dp dep ytr nx us tk : Int32} {lr : Int64} {pa lo tb re sta len ops ty kd bk hh dd aF aP aZ aL lP lF vt byt : Nat → Int32} {imm val loc glo arg : Nat → Int64} {c : zc_C} {k s f a g : Nat} {im : Int64} {t : Int32} {post : Int32 → SY → Prop} {x4 x5 x6 x7 x8 : Int32}
theorem zj_682f (hok : zc_ok c) (hA : zy_Ag c ty kd bk hh dd) (hk : k < 42) (h20 : 20 ≤ k)
    (h : wY_step_729 post (nI k) x6 fl cl ms fu cnt opn ((zc_pl c [zc_f1 k, zc_f2 k] (0, zc_S c)).1) (nI ((zc_pl c [zc_f1 k, zc_f2 k] (0, zc_S c)).2 + zc_o (zc_f3 k))) (nI (zc_D c)) dep ytr nx us tk lr pa lo tb re sta len ops (zc_w ty (zc_pl c [zc_f1 k, zc_f2 k] (0, zc_S c)).2 (zc_f3 k)) kd bk hh dd aF aP aZ aL lP lF vt byt imm val loc glo arg) :
    wY_step_682 post (nI k) x6 fl cl ms fu cnt opn 0 (nI (zc_S c)) (nI (zc_D c)) dep ytr nx us tk lr pa lo tb re sta len ops ty kd bk hh dd aF aP aZ aL lP lF vt byt imm val loc glo arg := by
  have hs := hok.2.2.2.2.2.1
  have hS := hok.2.2.1
  have l := zp_lle c [zc_f1 k, zc_f2 k] (0, zc_S c)
  refine pk_lt k 20 (fun _ => by omega) (fun _ => zy_f1 hk (zy_f2 hk h20 (zy_f3 hk ?_)))
  refine zy_pop hok hA hs (Nat.le_refl _) ?_
  refine zy_pop hok hA (zp_ge c _ (0, zc_S c) hs) (zp_le c _ (0, zc_S c)) ?_
  exact zy_push (Nat.le_trans l (by show zc_S c ≤ 14; omega)) h
theorem zy_s20 (hok : zc_ok c) (hA : zy_Ag c ty kd bk hh dd) {m : Nat} (hm : m + 20 < 42) (hE : ∀ r, r ≠ 0 → r = zc_rc (zc_plan pa tb re f c im (m + 20)) c (m + 20) → ∀ (er sz dp : Int32) (ty kd bk hh dd : Nat → Int32), post r (fl, cl, ms, fu, cnt, opn, er, sz, dp, dep, ytr, nx, us, tk, lr, pa, lo, tb, re, sta, len, ops, ty, kd, bk, hh, dd, aF, aP, aZ, aL, lP, lF, vt, byt, imm, val, loc, glo, arg)) (hO : zc_rc (zc_plan pa tb re f c im (m + 20)) c (m + 20) = 0 → ∀ (er : Int32) (ty kd bk hh dd : Nat → Int32), zy_Ag (zc_nxt (zc_plan pa tb re f c im (m + 20)) c (m + 20) a im) ty kd bk hh dd → post 0 (fl, cl, ms, fu, cnt, opn, er, nI (zc_S (zc_nxt (zc_plan pa tb re f c im (m + 20)) c (m + 20) a im)), nI (zc_D (zc_nxt (zc_plan pa tb re f c im (m + 20)) c (m + 20) a im)), dep, ytr, nx, us, tk, lr, pa, lo, tb, re, sta, len, ops, ty, kd, bk, hh, dd, aF, aP, aZ, aL, lP, lF, vt, byt, imm, val, loc, glo, arg)) : wpY_step post (fl, cl, ms, fu, cnt, opn, er, nI (zc_S c), nI (zc_D c), dep, ytr, nx, us, tk, lr, pa, lo, tb, re, sta, len, ops, ty, kd, bk, hh, dd, aF, aP, aZ, aL, lP, lF, vt, byt, imm, val, loc, glo, arg) (nI (m + 20)) im :=
  zj_head hok hA hm (by omega) (zj_99a hm (by omega) (zj_133h (by omega) hm rfl (zj_nop hm (by omega) (zj_nps hm (by omega) (zj_316 hm (by omega) (zj_432 hm (by omega) (zj_558 hm (by omega) (zj_620 hm (by omega) (zj_682f hok hA hm (by omega) (zj_729 hm (by omega) (zy_finp hok hA (by omega) hE hO rfl)))))))))))
/-- SELECT -/
theorem zj_620s (hok : zc_ok c) (hA : zy_Ag c ty kd bk hh dd) (h1 : zc_h c ≤ s) (h2 : s ≤ zc_S c)
    (h : wY_step_682 post 12 x6 fl cl ms fu cnt opn ((zc_sl (zc_p c 4 (er, s)) (zc_p c 4 (zc_p c 4 (er, s)).2)).1) (nI ((zc_sl (zc_p c 4 (er, s)) (zc_p c 4 (zc_p c 4 (er, s)).2)).2.1 + zc_o (zc_sl (zc_p c 4 (er, s)) (zc_p c 4 (zc_p c 4 (er, s)).2)).2.2.1)) (nI (zc_D c)) dep ytr nx us tk lr pa lo tb re sta len ops (zc_w ty (zc_sl (zc_p c 4 (er, s)) (zc_p c 4 (zc_p c 4 (er, s)).2)).2.1 (zc_sl (zc_p c 4 (er, s)) (zc_p c 4 (zc_p c 4 (er, s)).2)).2.2.1) kd bk hh dd aF aP aZ aL lP lF vt byt imm val loc glo arg) :
    wY_step_620 post 12 x6 fl cl ms fu cnt opn er (nI s) (nI (zc_D c)) dep ytr nx us tk lr pa lo tb re sta len ops ty kd bk hh dd aF aP aZ aL lP lF vt byt imm val loc glo arg := by
  have hS := hok.2.2.1
  have l1 := zp_le c 4 (er, s)
  have l2 := zp_le c 4 (zc_p c 4 (er, s)).2
  refine br_t rfl (zy_pop hok hA h1 h2 (zy_pop hok hA (zp_ge c _ (er, s) h1) (Nat.le_trans l1 h2) ?_))
  generalize zc_p c 4 (er, s) = x at *
  have e2 : (x.2.1, x.2.2) = x.2 := rfl
  rw [e2]
  generalize zc_p c 4 x.2 = y at *
  have l3 : y.2.2 ≤ 14 := by have z : s ≤ 12 := by omega
                             have z1 : x.2.2 ≤ s := l1
                             have z2 : y.2.2 ≤ x.2.2 := l2
                             omega
  have A : ∀ er', wY_step_682 post 12 x6 fl cl ms fu cnt opn er' (nI (y.2.2 + zc_o (if x.1 = 3 then y.1 else x.1))) (nI (zc_D c)) dep ytr nx us tk lr pa lo tb re sta len ops (zc_w ty y.2.2 (if x.1 = 3 then y.1 else x.1)) kd bk hh dd aF aP aZ aL lP lF vt byt imm val loc glo arg → wY_step_665 post 12 x6 x.1 y.1 fl cl ms fu cnt opn er' (nI y.2.2) (nI (zc_D c)) dep ytr nx us tk lr pa lo tb re sta len ops ty kd bk hh dd aF aP aZ aL lP lF vt byt imm val loc glo arg := by
    intro er' hh'
    by_cases x3 : x.1 = 3
    · rw [if_pos x3] at hh'
      exact br_t x3 (zy_push l3 hh')
    · rw [if_neg x3] at hh'
      exact br_f x3 (zy_push l3 hh')
  unfold zc_sl at h
  by_cases c1 : x.1 = y.1
  · rw [if_neg (fun z => z.1 c1)] at h
    exact br_t c1 (A _ h)
  by_cases c2 : x.1 = 3
  · rw [if_neg (fun z => z.2.1 c2)] at h
    exact br_f c1 (br_t c2 (A _ h))
  by_cases c3 : y.1 = 3
  · rw [if_neg (fun z => z.2.2 c3)] at h
    exact br_f c1 (br_f c2 (br_t c3 (A _ h)))
  · rw [if_pos ⟨c1, c2, c3⟩] at h
    exact br_f c1 (br_f c2 (br_f c3 (A _ h)))
theorem zy_s12 (hok : zc_ok c) (hA : zy_Ag c ty kd bk hh dd) (hf : f < 4) (hE : ∀ r, r ≠ 0 → r = zc_rc (zc_plan pa tb re f c im 12) c 12 → ∀ (er sz dp : Int32) (ty kd bk hh dd : Nat → Int32), post r (fl, cl, ms, fu, cnt, opn, er, sz, dp, dep, ytr, nx, us, tk, lr, pa, lo, tb, re, sta, len, ops, ty, kd, bk, hh, dd, aF, aP, aZ, aL, lP, lF, vt, byt, imm, val, loc, glo, arg)) (hO : zc_rc (zc_plan pa tb re f c im 12) c 12 = 0 → ∀ (er : Int32) (ty kd bk hh dd : Nat → Int32), zy_Ag (zc_nxt (zc_plan pa tb re f c im 12) c 12 a im) ty kd bk hh dd → post 0 (fl, cl, ms, fu, cnt, opn, er, nI (zc_S (zc_nxt (zc_plan pa tb re f c im 12) c 12 a im)), nI (zc_D (zc_nxt (zc_plan pa tb re f c im 12) c 12 a im)), dep, ytr, nx, us, tk, lr, pa, lo, tb, re, sta, len, ops, ty, kd, bk, hh, dd, aF, aP, aZ, aL, lP, lF, vt, byt, imm, val, loc, glo, arg)) (ho : opn = nI f) : wpY_step post (fl, cl, ms, fu, cnt, opn, er, nI (zc_S c), nI (zc_D c), dep, ytr, nx, us, tk, lr, pa, lo, tb, re, sta, len, ops, ty, kd, bk, hh, dd, aF, aP, aZ, aL, lP, lF, vt, byt, imm, val, loc, glo, arg) (nI 12) im := by
  subst ho
  have hs := hok.2.2.2.2.2.1
  exact zj_head hok hA (by decide) (by decide) (zj_99b hok hA (by decide) (by decide) (zj_133e hf (by decide) (zj_nop (by decide) (by decide) (zj_nps (by decide) (by decide) (zj_316 (by decide) (by decide) (zj_432 (by decide) (by decide) (zj_558 (by decide) (by decide) (zj_620s hok hA (zp_ge c 1 (0, zc_S c) hs) (zp_le c 1 (0, zc_S c)) (zj_682 (by decide) (zj_729 (by decide) (by decide) (zy_finp hok hA (by decide) hE hO rfl)))))))))))
/-- CALL -/
theorem zj_575 (hok : zc_ok c) (hA : zy_Ag c ty kd bk hh dd) (hg : g < 4) : ∀ (j fuel : Nat) (er : Int32) (s : Nat), j ≤ 4 → j < fuel → zc_h c ≤ s → s ≤ zc_S c →
    wY_step_603 post 10 (nI g) x6 fl cl ms fu cnt opn ((zc_pl c (zc_cl tb g j) (er, s)).1) (nI (zc_pl c (zc_cl tb g j) (er, s)).2) (nI (zc_D c)) dep ytr nx us tk lr pa lo tb re sta len ops ty kd bk hh dd aF aP aZ aL lP lF vt byt imm val loc glo arg →
    wY_step_575 post 10 (nI g) x6 fuel (zy_ix j) fl cl ms fu cnt opn er (nI s) (nI (zc_D c)) dep ytr nx us tk lr pa lo tb re sta len ops ty kd bk hh dd aF aP aZ aL lP lF vt byt imm val loc glo arg
  | 0, fuel + 1, er, s, _, _, _, _, h => br_t zy_ix0 h
  | j + 1, fuel + 1, er, s, h4, hj, h1, h2, h => by
    have hj' : ¬ zy_ix (j + 1) < 0 := nI_pos (by omega)
    refine br_f hj' (zy_ly hg (zy_pop hok hA h1 h2 (nm_r (zy_ixm j) ?_)))
    exact zj_575 hok hA hg j fuel _ _ (by omega) (by omega) (zp_ge c _ (er, s) h1) (Nat.le_trans (zp_le c _ (er, s)) h2) h
theorem zj_558c (hok : zc_ok c) (hA : zy_Ag c ty kd bk hh dd) (hg : g < 4) {p : Nat} (hp : p ≤ 4) (ep : pa g = nI p)
    (h : wY_step_620 post 10 x6 fl cl ms fu cnt opn ((zc_pl c (zc_cl tb g p) (0, zc_S c)).1) (nI ((zc_pl c (zc_cl tb g p) (0, zc_S c)).2 + zc_o (re g))) (nI (zc_D c)) dep ytr nx us tk lr pa lo tb re sta len ops (zc_w ty (zc_pl c (zc_cl tb g p) (0, zc_S c)).2 (re g)) kd bk hh dd aF aP aZ aL lP lF vt byt imm val loc glo arg) :
    wY_step_558 post 10 (nI g) x6 fl cl ms fu cnt opn 0 (nI (zc_S c)) (nI (zc_D c)) dep ytr nx us tk lr pa lo tb re sta len ops ty kd bk hh dd aF aP aZ aL lP lF vt byt imm val loc glo arg := by
  have hs := hok.2.2.2.2.2.1
  have hS := hok.2.2.1
  have ec : (nI g).toNatClampNeg = g := nI_clamp (by omega)
  have hin : vp_in (nI g) 4 := vp_in_nI hg (by decide)
  have l := zp_lle c (zc_cl tb g p) (0, zc_S c)
  refine br_t rfl ⟨hin, nm_r (e' := zy_ix p) (by rw [ec, ep]; exact zy_ixp) ⟨p + 1, ?_⟩⟩
  refine zj_575 hok hA hg p (p + 1) 0 (zc_S c) hp (by omega) hs (Nat.le_refl _) ?_
  refine br_t rfl ⟨hin, ?_⟩
  rw [ec]
  exact zy_push (Nat.le_trans l (by show zc_S c ≤ 14; omega)) h
theorem zy_s10 (hok : zc_ok c) (hA : zy_Ag c ty kd bk hh dd) (hf : f < 4) (hg : g < 4) {p : Nat} (hp : p ≤ 4) (ep : pa g = nI p) (hi : im.toInt32 = nI g) (hE : ∀ r, r ≠ 0 → r = zc_rc (zc_plan pa tb re f c im 10) c 10 → ∀ (er sz dp : Int32) (ty kd bk hh dd : Nat → Int32), post r (fl, cl, ms, fu, cnt, opn, er, sz, dp, dep, ytr, nx, us, tk, lr, pa, lo, tb, re, sta, len, ops, ty, kd, bk, hh, dd, aF, aP, aZ, aL, lP, lF, vt, byt, imm, val, loc, glo, arg)) (hO : zc_rc (zc_plan pa tb re f c im 10) c 10 = 0 → ∀ (er : Int32) (ty kd bk hh dd : Nat → Int32), zy_Ag (zc_nxt (zc_plan pa tb re f c im 10) c 10 a im) ty kd bk hh dd → post 0 (fl, cl, ms, fu, cnt, opn, er, nI (zc_S (zc_nxt (zc_plan pa tb re f c im 10) c 10 a im)), nI (zc_D (zc_nxt (zc_plan pa tb re f c im 10) c 10 a im)), dep, ytr, nx, us, tk, lr, pa, lo, tb, re, sta, len, ops, ty, kd, bk, hh, dd, aF, aP, aZ, aL, lP, lF, vt, byt, imm, val, loc, glo, arg)) (ho : opn = nI f) : wpY_step post (fl, cl, ms, fu, cnt, opn, er, nI (zc_S c), nI (zc_D c), dep, ytr, nx, us, tk, lr, pa, lo, tb, re, sta, len, ops, ty, kd, bk, hh, dd, aF, aP, aZ, aL, lP, lF, vt, byt, imm, val, loc, glo, arg) (nI 10) im := by
  subst ho
  have ec : (nI g).toNatClampNeg = g := nI_clamp (by omega)
  have ecp : (nI p).toNatClampNeg = p := nI_clamp (by omega)
  have eP : zc_plan pa tb re f c im 10 = zc_mk (zc_pl c (zc_cl tb g p) (0, zc_S c)) (re g) 0 := by
    show zc_mk (zc_pl c (zc_cl tb im.toInt32.toNatClampNeg (pa im.toInt32.toNatClampNeg).toNatClampNeg) (0, zc_S c)) (re im.toInt32.toNatClampNeg) 0 = _
    rw [hi, ec, ep, ecp]
  refine zj_head hok hA (by decide) (by decide) (zj_99a (by decide) (by decide) (zj_133e hf (by decide) (zj_nop (by decide) (by decide) (zj_nps (by decide) (by decide) (zj_316 (by decide) (by decide) (zj_432 (by decide) (by decide) ?_))))))
  rw [hi]
  refine zj_558c hok hA hg hp ep (zj_620 (by decide) (by decide) (zj_682 (by decide) (zj_729 (by decide) (by decide) ?_)))
  have q := zy_finp hok hA (by decide) hE hO rfl
  rw [eP] at q
  exact q
/-- BR_TABLE -/
theorem zj_461 (hok : zc_ok c) (hA : zy_Ag c ty kd bk hh dd) (hn7 : zc_n im ≤ 7) (hl : ∀ j, j ≤ zc_n im → zc_lb im j < zc_D c) {s0 : Int32 × Nat} (h1 : zc_h c ≤ s0.2) (h2 : s0.2 ≤ zc_S c)
    (h : wY_step_558 post 8 x4 x6 fl cl ms fu cnt opn ((zc_ts c im (zc_n im + 1) s0).1) (nI s0.2) (nI (zc_D c)) dep ytr nx us tk lr pa lo tb re sta len ops ty kd bk hh dd aF aP aZ aL lP lF vt byt imm val loc glo arg) : ∀ (m j fuel : Nat), j + m = zc_n im + 1 → m < fuel →
    wY_step_461 post 8 im x4 (nI (zc_n im)) x6 (zc_lt c (zc_lb im (zc_n im))) fuel (nI j) fl cl ms fu cnt opn ((zc_ts c im j s0).1) (nI s0.2) (nI (zc_D c)) dep ytr nx us tk lr pa lo tb re sta len ops ty kd bk hh dd aF aP aZ aL lP lF vt byt imm val loc glo arg
  | 0, j, fuel + 1, hj, _ => by
    have e : j = zc_n im + 1 := by omega
    subst e
    exact br_t rfl (pk_lt (zc_n im) (zc_n im + 1) (fun _ => h) (fun _ => by omega))
  | m + 1, j, fuel + 1, hj, hf => by
    have eL : zc_lb im j < zc_D c := hl j (by omega)
    refine br_t rfl (pk_lt (zc_n im) j (fun _ => by omega) (fun _ => pk_le 8 j (fun _ => by omega) (fun _ => ?_)))
    rw [zb_lb im (by omega)]
    refine zy_lt hok hA eL ?_
    have IH := zj_461 hok hA hn7 hl h1 h2 h m (j + 1) fuel (by omega) (by omega)
    have es : (zc_ts c im j s0).2 = s0.2 := zp_ts c im j s0
    have eT : zc_ts c im (j + 1) s0 = zc_t1 c im j (zc_ts c im j s0) := rfl
    rw [eT] at IH
    unfold zc_t1 at IH
    rw [es] at IH
    generalize zc_ts c im j s0 = S at *
    have A : ∀ er', wY_step_461 post 8 im x4 (nI (zc_n im)) x6 (zc_lt c (zc_lb im (zc_n im))) fuel (nI (j + 1)) fl cl ms fu cnt opn ((zc_p c (zc_lt c (zc_lb im j)) (er', s0.2)).2.1) (nI s0.2) (nI (zc_D c)) dep ytr nx us tk lr pa lo tb re sta len ops ty kd bk hh dd aF aP aZ aL lP lF vt byt imm val loc glo arg →
        wY_step_539 post (wY_step_461 post 8 im x4 (nI (zc_n im)) x6 (zc_lt c (zc_lb im (zc_n im))) fuel) 8 im x4 (nI (zc_n im)) x6 (zc_lt c (zc_lb im (zc_n im))) (nI j) (nI s0.2) (zc_lt c (zc_lb im j)) fl cl ms fu cnt opn er' (nI s0.2) (nI (zc_D c)) dep ytr nx us tk lr pa lo tb re sta len ops ty kd bk hh dd aF aP aZ aL lP lF vt byt imm val loc glo arg :=
      fun er' q => zy_pop hok hA h1 h2 (nm_r (nI_1 j) q)
    by_cases e0 : S.1 = 0
    · refine br_t e0 ?_
      by_cases a0 : zc_lt c (zc_lb im j) = 0
      · refine br_t a0 ?_
        by_cases b0 : zc_lt c (zc_lb im (zc_n im)) = 0
        · rw [if_neg (fun z => z.2 ⟨fun _ => b0, fun _ => a0⟩)] at IH
          exact br_t b0 (br_t rfl (A _ IH))
        · rw [if_pos ⟨e0, fun z => b0 (z.mp a0)⟩] at IH
          exact br_f b0 (br_f (by decide) (A _ IH))
      · refine br_f a0 ?_
        by_cases b0 : zc_lt c (zc_lb im (zc_n im)) = 0
        · rw [if_pos ⟨e0, fun z => a0 (z.mpr b0)⟩] at IH
          exact br_t b0 (br_f (by decide) (A _ IH))
        · rw [if_neg (fun z => z.2 ⟨fun w => absurd w a0, fun w => absurd w b0⟩)] at IH
          exact br_f b0 (br_t rfl (A _ IH))
    · rw [if_neg (fun z => e0 z.1)] at IH
      exact br_f e0 (A _ IH)
theorem zy_s8 (hok : zc_ok c) (hA : zy_Ag c ty kd bk hh dd) (hf : f < 4) (hn7 : zc_n im ≤ 7) (hl : ∀ j, j ≤ zc_n im → zc_lb im j < zc_D c) (hE : ∀ r, r ≠ 0 → r = zc_rc (zc_plan pa tb re f c im 8) c 8 → ∀ (er sz dp : Int32) (ty kd bk hh dd : Nat → Int32), post r (fl, cl, ms, fu, cnt, opn, er, sz, dp, dep, ytr, nx, us, tk, lr, pa, lo, tb, re, sta, len, ops, ty, kd, bk, hh, dd, aF, aP, aZ, aL, lP, lF, vt, byt, imm, val, loc, glo, arg)) (hO : zc_rc (zc_plan pa tb re f c im 8) c 8 = 0 → ∀ (er : Int32) (ty kd bk hh dd : Nat → Int32), zy_Ag (zc_nxt (zc_plan pa tb re f c im 8) c 8 a im) ty kd bk hh dd → post 0 (fl, cl, ms, fu, cnt, opn, er, nI (zc_S (zc_nxt (zc_plan pa tb re f c im 8) c 8 a im)), nI (zc_D (zc_nxt (zc_plan pa tb re f c im 8) c 8 a im)), dep, ytr, nx, us, tk, lr, pa, lo, tb, re, sta, len, ops, ty, kd, bk, hh, dd, aF, aP, aZ, aL, lP, lF, vt, byt, imm, val, loc, glo, arg)) (ho : opn = nI f) : wpY_step post (fl, cl, ms, fu, cnt, opn, er, nI (zc_S c), nI (zc_D c), dep, ytr, nx, us, tk, lr, pa, lo, tb, re, sta, len, ops, ty, kd, bk, hh, dd, aF, aP, aZ, aL, lP, lF, vt, byt, imm, val, loc, glo, arg) (nI 8) im := by
  subst ho
  have hs := hok.2.2.2.2.2.1
  refine zj_head hok hA (by decide) (by decide) (zj_99b hok hA (by decide) (by decide) (zj_133e hf (by decide) (zj_nop (by decide) (by decide) (zj_nps (by decide) (by decide) (zj_316 (by decide) (by decide) ?_)))))
  refine br_t rfl ?_
  rw [zb_n, zb_lb im (by omega)]
  refine zy_lt hok hA (hl _ (Nat.le_refl _)) ⟨zc_n im + 2, ?_⟩
  refine zj_461 hok hA hn7 hl (s0 := zc_pl c [1] (0, zc_S c)) (zp_lge c _ (0, zc_S c) hs) (zp_lle c _ (0, zc_S c)) ?_ (zc_n im + 1) 0 (zc_n im + 2) (by omega) (by omega)
  exact zj_558 (by decide) (by decide) (zj_620 (by decide) (by decide) (zj_682 (by decide) (zj_729m (by decide) (zy_finm hok hA (by decide) hE hO rfl))))
end
end
section
/-! the reference's step: frames; and its replay -/
section
variable {fl cl ms fu cnt opn er sz dp dep ytr nx us tk : Int32} {lr : Int64} {pa lo tb re sta len ops ty kd bk hh dd aF aP aZ aL lP lF vt byt : Nat → Int32} {imm val loc glo arg : Nat → Int64} {c : zc_C} {k s f a g : Nat} {im : Int64} {t : Int32} {post : Int32 → SY → Prop} {x4 x5 x6 x7 x8 : Int32}
theorem zj_316e (hok : zc_ok c) (hA : zy_Ag c ty kd bk hh dd) (h1 : zc_h c ≤ s) (h2 : s ≤ zc_S c) (hk : 1 ≤ k ∧ k ≤ 3) (hD : zc_D c < 8)
    (h : wY_step_333 post (nI k) im x4 x5 x6 x7 x8 fl cl ms fu cnt opn ((zc_p c (x4 / 3) (er, s)).2.1) (nI ((zc_p c (x4 / 3) (er, s)).2.2 + zc_o (x4 / 3))) (nI (zc_D c + 1)) dep ytr nx us tk lr pa lo tb re sta len ops (zc_w ty (zc_p c (x4 / 3) (er, s)).2.2 (x4 / 3)) (upd kd (zc_D c) (nI k)) (upd bk (zc_D c) x4) (upd hh (zc_D c) (nI (zc_p c (x4 / 3) (er, s)).2.2)) (upd dd (zc_D c) 0) aF aP aZ aL lP lF vt byt imm val loc glo arg) :
    wY_step_316 post (nI k) im x4 x5 x6 x7 x8 fl cl ms fu cnt opn er (nI s) (nI (zc_D c)) dep ytr nx us tk lr pa lo tb re sta len ops ty kd bk hh dd aF aP aZ aL lP lF vt byt imm val loc glo arg := by
  have hS := hok.2.2.1
  have hin : vp_in (nI (zc_D c)) 8 := vp_in_nI hD (by decide)
  have ec : (nI (zc_D c)).toNatClampNeg = zc_D c := nI_clamp (by omega)
  have l := zp_le c (x4 / 3) (er, s)
  refine pk_lt k 1 (fun _ => by omega) (fun _ => pk_lt 3 k (fun _ => by omega) (fun _ => ?_))
  refine ⟨by decide, zy_pop hok hA h1 h2 ⟨hin, nm_r (e' := upd kd (zc_D c) (nI k)) (by rw [ec]) ⟨hin, nm_r (e' := upd bk (zc_D c) x4) (by rw [ec]) ⟨hin, nm_r (e' := upd hh (zc_D c) (nI (zc_p c (x4 / 3) (er, s)).2.2)) (by rw [ec]) ⟨hin, nm_r (e' := upd dd (zc_D c) 0) (by rw [ec]) (nm_r (nI_1 (zc_D c)) ⟨by decide, ?_⟩)⟩⟩⟩⟩⟩
  exact zy_push (Nat.le_trans l (by show s ≤ 14; omega)) h
theorem zy_ag13 (hA : zy_Ag c ty kd bk hh dd) (hk : 1 ≤ k ∧ k ≤ 3) {p : Int32 × Nat × Int32 × Int32} (hm : p.2.2.2 = 0) (hc : p.2.1 ≤ zc_S c) :
    zy_Ag (zc_nxt p c k a im) (zc_w ty p.2.1 p.2.2.1) (upd kd (zc_D c) (nI k)) (upd bk (zc_D c) im.toInt32) (upd hh (zc_D c) (nI p.2.1)) (upd dd (zc_D c) 0) ∧
    zc_S (zc_nxt p c k a im) = p.2.1 + zc_o p.2.2.1 ∧ zc_D (zc_nxt p c k a im) = zc_D c + 1 := by
  have q := zy_agset hA (o := p.2.2.1) hc
  have e : zc_nxt p c k a im = zc_ctl k p.2.1 a im.toInt32 (zc_set c p.2.1 p.2.2.1 0) := by unfold zc_nxt; rw [hm]
  rw [e]
  unfold zc_ctl
  rw [if_pos hk]
  refine ⟨⟨fun i hi => ?_, fun d hd => ?_⟩, ?_, ?_⟩
  · exact q.1 i hi
  · simp only [zm_D, zs_D] at hd
    simp only [zm_K, zm_B, zm_H, zm_U, zs_D, zs_K, zs_B, zs_H, zs_U]
    by_cases z : d = zc_D c
    · rw [z, pk_us, pk_us, pk_us, pk_us, pk_us, pk_us, pk_us, zc_us]
      exact ⟨rfl, rfl, rfl, rfl⟩
    · rw [pk_un z, pk_un z, pk_un z, pk_un z, pk_un z, pk_un z, pk_un z, zc_un z]
      exact hA.2 d (by omega)
  · exact zs_S rfl
  · show zc_D (zc_set c p.2.1 p.2.2.1 0) + 1 = _
    rw [zs_D]
theorem zy_s13a (hok : zc_ok c) (hA : zy_Ag c ty kd bk hh dd) (hk : k = 1 ∨ k = 2) (hE : ∀ r, r ≠ 0 → r = zc_rc (zc_plan pa tb re f c im k) c k → ∀ (er sz dp : Int32) (ty kd bk hh dd : Nat → Int32), post r (fl, cl, ms, fu, cnt, opn, er, sz, dp, dep, ytr, nx, us, tk, lr, pa, lo, tb, re, sta, len, ops, ty, kd, bk, hh, dd, aF, aP, aZ, aL, lP, lF, vt, byt, imm, val, loc, glo, arg)) (hO : zc_rc (zc_plan pa tb re f c im k) c k = 0 → ∀ (er : Int32) (ty kd bk hh dd : Nat → Int32), zy_Ag (zc_nxt (zc_plan pa tb re f c im k) c k a im) ty kd bk hh dd → post 0 (fl, cl, ms, fu, cnt, opn, er, nI (zc_S (zc_nxt (zc_plan pa tb re f c im k) c k a im)), nI (zc_D (zc_nxt (zc_plan pa tb re f c im k) c k a im)), dep, ytr, nx, us, tk, lr, pa, lo, tb, re, sta, len, ops, ty, kd, bk, hh, dd, aF, aP, aZ, aL, lP, lF, vt, byt, imm, val, loc, glo, arg)) : wpY_step post (fl, cl, ms, fu, cnt, opn, er, nI (zc_S c), nI (zc_D c), dep, ytr, nx, us, tk, lr, pa, lo, tb, re, sta, len, ops, ty, kd, bk, hh, dd, aF, aP, aZ, aL, lP, lF, vt, byt, imm, val, loc, glo, arg) (nI k) im := by
  have hs := hok.2.2.2.2.2.1
  have hS := hok.2.2.1
  have q := (zp_cur (pa := pa) (tb := tb) (re := re) (f := f) (im := im) hs k).2
  have eP : zc_plan pa tb re f c im k = zc_mk (zc_pl c [im.toInt32 / 3] (0, zc_S c)) (im.toInt32 / 3) 0 := by
    rcases hk with rfl | rfl <;> rfl
  by_cases hD : 8 ≤ zc_D c
  · exact zj_deep hok hA hD (by omega) (hE (-5) (by decide) (by unfold zc_rc; rw [if_pos ⟨by omega, hD⟩]) _ _ _ _ _ _ _ _)
  · refine zj_step hok hA (fun _ => by omega) (by omega) (zj_ctx hok hA (by omega) (fun z => by omega) (fun z => by omega) (zj_99a (by omega) (by omega) (zj_133a (by omega) (zj_nop (by omega) (by omega) (zj_nps (by omega) (by omega) (zj_316e hok hA hs (Nat.le_refl _) (by omega) (by omega) ?_))))))
    refine zj_333 (by omega) (by omega) (zj_432 (by omega) (by omega) (zj_558 (by omega) (by omega) (zj_620 (by omega) (by omega) (zj_682 (by omega) (zj_729 (by omega) (by omega) ?_)))))
    have w := zy_fin (D' := zc_D c + 1) hE hO (by omega) (by rw [eP]; rfl) (zq_rcE (by omega) (by omega) (by omega)) (fun _ => by
      obtain ⟨n1, n2, n3⟩ := zy_ag13 (a := a) (im := im) (k := k) (p := zc_plan pa tb re f c im k) hA (by omega) (by rw [eP]; rfl) q
      exact ⟨n2, n3, n1⟩)
    rw [eP] at w
    exact w
theorem zy_s3 (hok : zc_ok c) (hA : zy_Ag c ty kd bk hh dd) (hE : ∀ r, r ≠ 0 → r = zc_rc (zc_plan pa tb re f c im 3) c 3 → ∀ (er sz dp : Int32) (ty kd bk hh dd : Nat → Int32), post r (fl, cl, ms, fu, cnt, opn, er, sz, dp, dep, ytr, nx, us, tk, lr, pa, lo, tb, re, sta, len, ops, ty, kd, bk, hh, dd, aF, aP, aZ, aL, lP, lF, vt, byt, imm, val, loc, glo, arg)) (hO : zc_rc (zc_plan pa tb re f c im 3) c 3 = 0 → ∀ (er : Int32) (ty kd bk hh dd : Nat → Int32), zy_Ag (zc_nxt (zc_plan pa tb re f c im 3) c 3 a im) ty kd bk hh dd → post 0 (fl, cl, ms, fu, cnt, opn, er, nI (zc_S (zc_nxt (zc_plan pa tb re f c im 3) c 3 a im)), nI (zc_D (zc_nxt (zc_plan pa tb re f c im 3) c 3 a im)), dep, ytr, nx, us, tk, lr, pa, lo, tb, re, sta, len, ops, ty, kd, bk, hh, dd, aF, aP, aZ, aL, lP, lF, vt, byt, imm, val, loc, glo, arg)) : wpY_step post (fl, cl, ms, fu, cnt, opn, er, nI (zc_S c), nI (zc_D c), dep, ytr, nx, us, tk, lr, pa, lo, tb, re, sta, len, ops, ty, kd, bk, hh, dd, aF, aP, aZ, aL, lP, lF, vt, byt, imm, val, loc, glo, arg) (nI 3) im := by
  have hs := hok.2.2.2.2.2.1
  have hS := hok.2.2.1
  have q := (zp_cur (pa := pa) (tb := tb) (re := re) (f := f) (im := im) hs 3).2
  by_cases hD : 8 ≤ zc_D c
  · exact zj_deep hok hA hD (by omega) (hE (-5) (by decide) (by unfold zc_rc; rw [if_pos ⟨by omega, hD⟩]) _ _ _ _ _ _ _ _)
  · refine zj_step hok hA (fun _ => by omega) (by omega) (zj_ctx hok hA (by omega) (fun z => by omega) (fun z => by omega) (zj_99b hok hA (by omega) (by omega) (zj_133a (by omega) (zj_nop (by omega) (by omega) (zj_nps (by omega) (by omega) (zj_316e hok hA (zp_ge c 1 (0, zc_S c) hs) (zp_le c 1 (0, zc_S c)) (by omega) (by omega) ?_))))))
    refine zj_333 (by omega) (by omega) (zj_432 (by omega) (by omega) (zj_558 (by omega) (by omega) (zj_620 (by omega) (by omega) (zj_682 (by omega) (zj_729 (by omega) (by omega) ?_)))))
    exact zy_fin (D' := zc_D c + 1) hE hO (by omega) rfl (zq_rcE (by omega) (by omega) (by omega)) (fun _ => by
      obtain ⟨n1, n2, n3⟩ := zy_ag13 (a := a) (im := im) (k := 3) (p := zc_plan pa tb re f c im 3) hA (by omega) rfl q
      exact ⟨n2, n3, n1⟩)
theorem zj_343 (hok : zc_ok c) (hA : zy_Ag c ty kd bk hh dd) (h1 : zc_h c ≤ s) (h2 : s ≤ zc_S c) (hk : k = 4 ∨ k = 5)
    (h : wY_step_370 post (nI k) im x4 x5 (nI (zc_D c - 1)) x7 x8 fl cl ms fu cnt opn ((zc_lv c (er, s)).1) (nI s) (nI (zc_D c)) dep ytr nx us tk lr pa lo tb re sta len ops ty kd bk hh dd aF aP aZ aL lP lF vt byt imm val loc glo arg) :
    wY_step_333 post (nI k) im x4 x5 (nI (zc_D c - 1)) x7 x8 fl cl ms fu cnt opn er (nI s) (nI (zc_D c)) dep ytr nx us tk lr pa lo tb re sta len ops ty kd bk hh dd aF aP aZ aL lP lF vt byt imm val loc glo arg := by
  obtain ⟨e1, hin, eb, ek, eh⟩ := zj_top hok hA
  have hS := hok.2.2.1
  have A : wY_step_343 post (nI k) im x4 x5 (nI (zc_D c - 1)) x7 x8 fl cl ms fu cnt opn er (nI s) (nI (zc_D c)) dep ytr nx us tk lr pa lo tb re sta len ops ty kd bk hh dd aF aP aZ aL lP lF vt byt imm val loc glo arg := by
    unfold zc_lv at h
    by_cases e0 : er = 0
    · refine br_t e0 ⟨hin, ?_⟩
      rw [eh]
      refine pk_eq s (zc_h c) (fun z => ?_) (fun z => ?_)
      · rw [if_neg (fun w => w.2 z)] at h; exact h
      · rw [if_pos ⟨e0, z⟩] at h; exact h
    · rw [if_neg (fun w => e0 w.1)] at h
      exact br_f e0 h
  exact pk_eq k 4 (fun _ => A) (fun _ => pk_eq k 5 (fun _ => A) (fun _ => by omega))
theorem zy_s4 (hok : zc_ok c) (hA : zy_Ag c ty kd bk hh dd) (hE : ∀ r, r ≠ 0 → r = zc_rc (zc_plan pa tb re f c im 4) c 4 → ∀ (er sz dp : Int32) (ty kd bk hh dd : Nat → Int32), post r (fl, cl, ms, fu, cnt, opn, er, sz, dp, dep, ytr, nx, us, tk, lr, pa, lo, tb, re, sta, len, ops, ty, kd, bk, hh, dd, aF, aP, aZ, aL, lP, lF, vt, byt, imm, val, loc, glo, arg)) (hO : zc_rc (zc_plan pa tb re f c im 4) c 4 = 0 → ∀ (er : Int32) (ty kd bk hh dd : Nat → Int32), zy_Ag (zc_nxt (zc_plan pa tb re f c im 4) c 4 a im) ty kd bk hh dd → post 0 (fl, cl, ms, fu, cnt, opn, er, nI (zc_S (zc_nxt (zc_plan pa tb re f c im 4) c 4 a im)), nI (zc_D (zc_nxt (zc_plan pa tb re f c im 4) c 4 a im)), dep, ytr, nx, us, tk, lr, pa, lo, tb, re, sta, len, ops, ty, kd, bk, hh, dd, aF, aP, aZ, aL, lP, lF, vt, byt, imm, val, loc, glo, arg)) : wpY_step post (fl, cl, ms, fu, cnt, opn, er, nI (zc_S c), nI (zc_D c), dep, ytr, nx, us, tk, lr, pa, lo, tb, re, sta, len, ops, ty, kd, bk, hh, dd, aF, aP, aZ, aL, lP, lF, vt, byt, imm, val, loc, glo, arg) (nI 4) im := by
  have hs := hok.2.2.2.2.2.1
  have hS := hok.2.2.1
  have hD1 := hok.1
  obtain ⟨e1, hin, eb, ek, eh⟩ := zj_top hok hA
  have ec : (nI (zc_D c - 1)).toNatClampNeg = zc_D c - 1 := nI_clamp (by have := hok.2.1; omega)
  have q := zp_cur (pa := pa) (tb := tb) (re := re) (f := f) (im := im) hs 4
  have ql := zp_lle c [zc_r (zc_B c (zc_D c - 1))] (0, zc_S c)
  refine zj_step hok hA (fun _ => by omega) (by omega) ?_
  by_cases hK : zc_K c (zc_D c - 1) = 3
  · refine zj_ctx hok hA (by omega) (fun _ => hK) (fun z => by omega) (zj_99a (by omega) (by omega) (zj_133a (by omega) (zj_pop hok hA hs (Nat.le_refl _) (by omega) (zj_nps (by omega) (by omega) (zj_316n (by omega) (by omega) (zj_343 hok hA (zp_lge c [_] (0, zc_S c) hs) ql (by omega) ?_))))))
    refine br_t rfl ⟨hin, nm_r (e' := upd kd (zc_D c - 1) 4) (by rw [ec]) ⟨hin, nm_r (e' := upd dd (zc_D c - 1) 0) (by rw [ec]) ⟨by decide, zy_push (Nat.le_trans ql (by show zc_S c ≤ 14; omega)) ?_⟩⟩⟩
    refine zj_399 (by omega) (by omega) (zj_432 (by omega) (by omega) (zj_558 (by omega) (by omega) (zj_620 (by omega) (by omega) (zj_682 (by omega) (zj_729 (by omega) (by omega) ?_)))))
    refine zy_fin (D' := zc_D c) hE hO (by omega) rfl (zq_rcE (by omega) (fun z => z.2 hK) (by omega)) (fun _ => ?_)
    have w := zy_agset hA (o := zc_B c (zc_D c - 1) / 3) q.2
    have e : zc_nxt (zc_plan pa tb re f c im 4) c 4 a im = zc_ctl 4 (zc_plan pa tb re f c im 4).2.1 a im.toInt32 (zc_set c (zc_plan pa tb re f c im 4).2.1 (zc_B c (zc_D c - 1) / 3) 0) := rfl
    rw [e]
    unfold zc_ctl
    rw [if_neg (by omega), if_pos rfl]
    refine ⟨zs_S rfl, zs_D, fun i hi => w.1 i hi, fun d hd => ?_⟩
    simp only [zm_D, zs_D] at hd
    simp only [zm_K, zm_B, zm_H, zm_U, zs_D, zs_K, zs_B, zs_H, zs_U]
    obtain ⟨a1, a2, a3, a4⟩ := hA.2 d hd
    by_cases z : d = zc_D c - 1
    · rw [z, pk_us, pk_us, pk_us, pk_us]; rw [z] at a2 a3
      exact ⟨rfl, a2, a3, rfl⟩
    · rw [pk_un z, pk_un z, pk_un z, pk_un z]; exact ⟨a1, a2, a3, a4⟩
  · exact zj_bad hok hA (Or.inl ⟨rfl, hK⟩) (hE (-6) (by decide) (by unfold zc_rc; rw [if_neg (by omega), if_pos ⟨rfl, hK⟩]) _ _ _ _ _ _ _ _)
theorem zj_399e (hok : zc_ok c) (hs : s ≤ 14)
    (h : wY_step_432 post 5 im x4 x5 x6 fl cl ms fu cnt opn er (nI (s + zc_o (if zc_D c = 1 then 0 else x8))) (nI (zc_D c - 1)) dep ytr nx us tk lr pa lo tb re sta len ops (zc_w ty s (if zc_D c = 1 then 0 else x8)) kd bk hh dd aF aP aZ aL lP lF vt byt imm val loc glo arg) :
    wY_step_399 post 5 im x4 x5 x6 x8 fl cl ms fu cnt opn er (nI s) (nI (zc_D c)) dep ytr nx us tk lr pa lo tb re sta len ops ty kd bk hh dd aF aP aZ aL lP lF vt byt imm val loc glo arg := by
  have hD := hok.1
  have hD8 := hok.2.1
  refine br_t rfl (nm_r (pk_sub (b := 1) hD) (br_t rfl (pk_le (zc_D c - 1) 0 (fun z => ?_) (fun z => ?_))))
  · rw [if_pos (by omega), zc_o0 rfl, zc_w0 rfl] at h; exact h
  · rw [if_neg (by omega)] at h; exact zy_push hs h
theorem zy_s5 (hok : zc_ok c) (hA : zy_Ag c ty kd bk hh dd) (hE : ∀ r, r ≠ 0 → r = zc_rc (zc_plan pa tb re f c im 5) c 5 → ∀ (er sz dp : Int32) (ty kd bk hh dd : Nat → Int32), post r (fl, cl, ms, fu, cnt, opn, er, sz, dp, dep, ytr, nx, us, tk, lr, pa, lo, tb, re, sta, len, ops, ty, kd, bk, hh, dd, aF, aP, aZ, aL, lP, lF, vt, byt, imm, val, loc, glo, arg)) (hO : zc_rc (zc_plan pa tb re f c im 5) c 5 = 0 → ∀ (er : Int32) (ty kd bk hh dd : Nat → Int32), zy_Ag (zc_nxt (zc_plan pa tb re f c im 5) c 5 a im) ty kd bk hh dd → post 0 (fl, cl, ms, fu, cnt, opn, er, nI (zc_S (zc_nxt (zc_plan pa tb re f c im 5) c 5 a im)), nI (zc_D (zc_nxt (zc_plan pa tb re f c im 5) c 5 a im)), dep, ytr, nx, us, tk, lr, pa, lo, tb, re, sta, len, ops, ty, kd, bk, hh, dd, aF, aP, aZ, aL, lP, lF, vt, byt, imm, val, loc, glo, arg)) : wpY_step post (fl, cl, ms, fu, cnt, opn, er, nI (zc_S c), nI (zc_D c), dep, ytr, nx, us, tk, lr, pa, lo, tb, re, sta, len, ops, ty, kd, bk, hh, dd, aF, aP, aZ, aL, lP, lF, vt, byt, imm, val, loc, glo, arg) (nI 5) im := by
  have hs := hok.2.2.2.2.2.1
  have hS := hok.2.2.1
  have hD1 := hok.1
  have q := zp_cur (pa := pa) (tb := tb) (re := re) (f := f) (im := im) hs 5
  have ql := zp_lle c [zc_r (zc_B c (zc_D c - 1))] (0, zc_S c)
  refine zj_step hok hA (fun _ => by omega) (by omega) ?_
  by_cases hK : zc_K c (zc_D c - 1) = 3 ∧ zc_B c (zc_D c - 1) / 3 ≠ zc_r (zc_B c (zc_D c - 1))
  · exact zj_bad hok hA (Or.inr ⟨rfl, hK⟩) (hE (-6) (by decide) (by unfold zc_rc; rw [if_neg (by omega), if_neg (by omega), if_pos ⟨rfl, hK⟩]) _ _ _ _ _ _ _ _)
  · refine zj_ctx hok hA (by omega) (fun z => by omega) (fun _ z => Classical.byContradiction fun w => hK ⟨z, w⟩) (zj_99a (by omega) (by omega) (zj_133a (by omega) (zj_pop hok hA hs (Nat.le_refl _) (by omega) (zj_nps (by omega) (by omega) (zj_316n (by omega) (by omega) (zj_343 hok hA (zp_lge c [_] (0, zc_S c) hs) ql (by omega) ?_))))))
    refine br_f (by decide) (zj_399e hok (Nat.le_trans ql (by show zc_S c ≤ 14; omega)) ?_)
    refine zj_432 (k := 5) (by omega) (by omega) (zj_558 (k := 5) (by omega) (by omega) (zj_620 (k := 5) (by omega) (by omega) (zj_682 (k := 5) (by omega) (zj_729 (k := 5) (by omega) (by omega) ?_))))
    refine zy_fin (D' := zc_D c - 1) hE hO (by omega) rfl (zq_rcE (by omega) (by omega) (fun z => hK z.2)) (fun _ => ?_)
    have w := zy_agset hA (o := if zc_D c = 1 then 0 else zc_r (zc_B c (zc_D c - 1))) q.2
    have e : zc_nxt (zc_plan pa tb re f c im 5) c 5 a im = zc_ctl 5 (zc_plan pa tb re f c im 5).2.1 a im.toInt32 (zc_set c (zc_plan pa tb re f c im 5).2.1 (if zc_D c = 1 then 0 else zc_r (zc_B c (zc_D c - 1))) 0) := rfl
    rw [e]
    unfold zc_ctl
    rw [if_neg (by omega), if_neg (by omega), if_pos rfl]
    refine ⟨zs_S rfl, by simp only [zm_D, zs_D], fun i hi => w.1 i hi, fun d hd => ?_⟩
    simp only [zm_D, zs_D] at hd
    simp only [zm_K, zm_B, zm_H, zm_U, zs_K, zs_B, zs_H, zs_U]
    exact hA.2 d (by omega)
/-- the reference's step, all rules -/
theorem zy_step {cn : Nat} (hok : zc_ok c) (hA : zy_Ag c ty kd bk hh dd) (hsg : zc_sg pa lo re cn) (hf : f < cn) (hk : k < 42) (him : zc_im cn c k im) (hE : ∀ r, r ≠ 0 → r = zc_rc (zc_plan pa tb re f c im k) c k → ∀ (er sz dp : Int32) (ty kd bk hh dd : Nat → Int32), post r (fl, cl, ms, fu, cnt, opn, er, sz, dp, dep, ytr, nx, us, tk, lr, pa, lo, tb, re, sta, len, ops, ty, kd, bk, hh, dd, aF, aP, aZ, aL, lP, lF, vt, byt, imm, val, loc, glo, arg)) (hO : zc_rc (zc_plan pa tb re f c im k) c k = 0 → ∀ (er : Int32) (ty kd bk hh dd : Nat → Int32), zy_Ag (zc_nxt (zc_plan pa tb re f c im k) c k a im) ty kd bk hh dd → post 0 (fl, cl, ms, fu, cnt, opn, er, nI (zc_S (zc_nxt (zc_plan pa tb re f c im k) c k a im)), nI (zc_D (zc_nxt (zc_plan pa tb re f c im k) c k a im)), dep, ytr, nx, us, tk, lr, pa, lo, tb, re, sta, len, ops, ty, kd, bk, hh, dd, aF, aP, aZ, aL, lP, lF, vt, byt, imm, val, loc, glo, arg)) (ho : opn = nI f) :
    wpY_step post (fl, cl, ms, fu, cnt, opn, er, nI (zc_S c), nI (zc_D c), dep, ytr, nx, us, tk, lr, pa, lo, tb, re, sta, len, ops, ty, kd, bk, hh, dd, aF, aP, aZ, aL, lP, lF, vt, byt, imm, val, loc, glo, arg) (nI k) im := by
  obtain ⟨i1, i2, i3, i4, i5, i6, i7, i8⟩ := him
  have hD8 := hok.2.1
  have hc4 := hsg.1
  have hf4 : f < 4 := by omega
  have hc : k = 0 ∨ k = 1 ∨ k = 2 ∨ k = 3 ∨ k = 4 ∨ k = 5 ∨ k = 6 ∨ k = 7 ∨ k = 8 ∨ k = 9 ∨ k = 10 ∨ k = 11 ∨ k = 12 ∨ k = 13 ∨ k = 14 ∨ k = 15 ∨ k = 16 ∨ k = 17 ∨ k = 18 ∨ k = 19 ∨ 20 ≤ k := by omega
  rcases hc with rfl | rfl | rfl | rfl | rfl | rfl | rfl | rfl | rfl | rfl | rfl | rfl | rfl | rfl | rfl | rfl | rfl | rfl | rfl | rfl | h20
  · exact zy_s0 hok hA hE hO
  · exact zy_s13a hok hA (Or.inl rfl) hE hO
  · exact zy_s13a hok hA (Or.inr rfl) hE hO
  · exact zy_s3 hok hA hE hO
  · exact zy_s4 hok hA hE hO
  · exact zy_s5 hok hA hE hO
  · obtain ⟨l, hl, e⟩ := i2 (Or.inl rfl)
    have e' : im.toInt32 = nI l := by rw [e, lN_i]
    have e2 : im.toInt32.toNatClampNeg = l := by rw [e', nI_clamp (by omega)]
    exact zy_s6 hok hA (by rw [e2]; exact hl) (by rw [e2, e']) hE hO
  · obtain ⟨l, hl, e⟩ := i2 (Or.inr rfl)
    have e' : im.toInt32 = nI l := by rw [e, lN_i]
    have e2 : im.toInt32.toNatClampNeg = l := by rw [e', nI_clamp (by omega)]
    exact zy_s7 hok hA (by rw [e2]; exact hl) (by rw [e2, e']) hE hO
  · obtain ⟨j1, j2⟩ := i7 rfl
    exact zy_s8 hok hA hf4 j1 j2 hE hO ho
  · exact zy_s9 hok hA hf4 hE hO ho
  · obtain ⟨g, hg, e⟩ := i3 rfl
    obtain ⟨⟨p, hp, ep⟩, _, _⟩ := hsg.2 g hg
    exact zy_s10 (g := g) hok hA hf4 (by omega) hp ep (by rw [e, lN_i]) hE hO ho
  · exact zy_s11 hok hA hE hO
  · exact zy_s12 hok hA hf4 hE hO ho
  · exact zy_s13 hok hA hf4 hE hO ho
  · exact zy_s14 hok hA hf4 hE hO ho
  · exact zy_s15 hok hA hf4 hE hO ho
  · exact zy_s16 hok hA hE hO
  · exact zy_s17 hok hA hE hO
  · exact zy_s18 hok hA hE hO
  · exact zy_s19 hok hA hE hO
  · obtain ⟨m, rfl⟩ : ∃ m, k = m + 20 := ⟨k - 20, by omega⟩
    exact zy_s20 hok hA hk hE hO
/-- the address of an instruction -/
theorem zy_ad {i : Nat} (hf : f < 4) (hi : i < 64) : 64 * nI f + nI i = nI (64 * f + i) ∧ vp_in (64 * nI f + nI i) 256 ∧ (64 * nI f + nI i).toNatClampNeg = 64 * f + i := by
  have e : 64 * nI f + nI i = nI (64 * f + i) := by
    rw [show (64 : Int32) * nI f = nI (64 * f) from pk_mul 64 f, nI_add]
  rw [e]
  exact ⟨rfl, vp_in_nI (by omega) (by decide), nI_clamp (by omega)⟩
theorem zy_rep {post : SY → Prop} {cn n : Nat} {T : Nat → zc_C} (hsg : zc_sg pa lo re cn) (hf : f < cn) (hn : n ≤ 64) (hl : len f = nI n) (ho : opn = nI f)
    (HF : zt_F pa tb re cn f (fun i => ops (64 * f + i)) (fun i => imm (64 * f + i)) T n)
    (hp : ∀ (er : Int32) (ty kd bk hh dd : Nat → Int32), zy_Ag (T n) ty kd bk hh dd → post (fl, cl, ms, fu, cnt, opn, er, nI (zc_S (T n)), nI (zc_D (T n)), dep, ytr, nx, us, tk, lr, pa, lo, tb, re, sta, len, ops, ty, kd, bk, hh, dd, aF, aP, aZ, aL, lP, lF, vt, byt, imm, val, loc, glo, arg)) :
    ∀ (m i fuel : Nat) (er : Int32) (ty kd bk hh dd : Nat → Int32), i + m = n → m < fuel → zy_Ag (T i) ty kd bk hh dd →
    wY_replay_34 post fuel (nI i) fl cl ms fu cnt opn er (nI (zc_S (T i))) (nI (zc_D (T i))) dep ytr nx us tk lr pa lo tb re sta len ops ty kd bk hh dd aF aP aZ aL lP lF vt byt imm val loc glo arg
  | 0, i, fuel + 1, er, ty, kd, bk, hh, dd, hi, _, hA => by
    have hc4 := hsg.1
    have e : i = n := by omega
    subst e
    subst ho
    refine ⟨vp_in_nI (by omega) (by decide), br_t ?_ (hp er ty kd bk hh dd hA)⟩
    rw [nI_clamp (by omega), hl]; exact nI_le (Nat.le_refl _) (by omega)
  | m + 1, i, fuel + 1, er, ty, kd, bk, hh, dd, hi, hm, hA => by
    have hc4 := hsg.1
    obtain ⟨k, H⟩ := HF.2 i (by omega)
    obtain ⟨h1, h2, h3, h4, h5, h6⟩ := H
    obtain ⟨a1, a2, a3⟩ := zy_ad (f := f) (i := i) (by omega) (by omega)
    have IH := fun er ty kd bk hh dd => zy_rep hsg hf hn hl ho HF hp m (i + 1) fuel er ty kd bk hh dd (by omega) (by omega)
    rw [ho] at IH hp ⊢
    refine ⟨vp_in_nI (by omega) (by decide), br_f ?_ ⟨a2, a2, ?_⟩⟩
    · rw [nI_clamp (by omega), hl]; exact nI_ge (by omega) (by omega)
    · rw [a3]
      have h2' : ops (64 * f + i) = nI k := h2
      rw [h2']
      refine zy_step (a := i) (f := f) h3 hA hsg hf h1 h4 (fun r hr e => absurd (e.trans h5) hr) (fun _ er ty kd bk hh dd hAg => nm_r (nI_1 i) ?_) rfl
      have w : T (i + 1) = zc_nxt (zc_plan pa tb re f (T i) (imm (64 * f + i)) k) (T i) k i (imm (64 * f + i)) := h6
      rw [← w] at hAg ⊢
      exact IH er ty kd bk hh dd hAg
theorem zy_replay {post : SY → Prop} {cn n : Nat} {T : Nat → zc_C} (hsg : zc_sg pa lo re cn) (hf : f < cn) (hn : n ≤ 64) (hl : len f = nI n) (ho : opn = nI f)
    (HF : zt_F pa tb re cn f (fun i => ops (64 * f + i)) (fun i => imm (64 * f + i)) T n)
    (hp : ∀ (er : Int32) (ty kd bk hh dd : Nat → Int32), zy_Ag (T n) ty kd bk hh dd → post (fl, cl, ms, fu, cnt, opn, er, nI (zc_S (T n)), nI (zc_D (T n)), dep, ytr, nx, us, tk, lr, pa, lo, tb, re, sta, len, ops, ty, kd, bk, hh, dd, aF, aP, aZ, aL, lP, lF, vt, byt, imm, val, loc, glo, arg)) : wpY_replay post (fl, cl, ms, fu, cnt, opn, er, sz, dp, dep, ytr, nx, us, tk, lr, pa, lo, tb, re, sta, len, ops, ty, kd, bk, hh, dd, aF, aP, aZ, aL, lP, lF, vt, byt, imm, val, loc, glo, arg) := by
  have hc4 := hsg.1
  have hin8 : vp_in (0 : Int32) 8 := vp_in_nI (n := 0) (by decide) (by decide)
  have ec : (nI f).toNatClampNeg = f := nI_clamp (by omega)
  have r3 : re f / 3 = 0 := by
    rcases (hsg.2 f hf).2.2 with z | z | z <;> rw [z] <;> decide
  have q := fun er ty kd bk hh dd => zy_rep hsg hf hn hl ho HF hp n 0 (n + 1) er ty kd bk hh dd (by omega) (by omega)
  obtain ⟨t1, t2, t3, t4, t5, t6⟩ := HF.1
  rw [t1, t2] at q
  rw [ho] at q ⊢
  refine br_t (nI_pos' (by omega)) ⟨vp_in_nI (by omega) (by decide), ?_⟩
  rw [ec]
  refine ⟨by decide, br_t r3 ⟨hin8, nm_e ⟨hin8, nm_e ⟨hin8, nm_e ⟨hin8, nm_e (nm_e ⟨by decide, br_t r3 ⟨n + 1, ?_⟩⟩)⟩⟩⟩⟩⟩
  refine q er ty (upd kd (0 : Int32).toNatClampNeg 0) (upd bk (0 : Int32).toNatClampNeg (re f)) (upd hh (0 : Int32).toNatClampNeg 0) (upd dd (0 : Int32).toNatClampNeg 0) ⟨fun i hi => ?_, fun d hd => ?_⟩
  · rw [t1] at hi; omega
  · have e : d = 0 := by rw [t2] at hd; omega
    rw [e, t3, t4, t5, t6, sb_cl0, pk_us, pk_us, pk_us, pk_us]
    exact ⟨rfl, rfl, rfl, rfl⟩
theorem zy_replay0 {post : SY → Prop} (ho : opn = -1) (hp : post (fl, cl, ms, fu, cnt, opn, er, 0, 0, dep, ytr, nx, us, tk, lr, pa, lo, tb, re, sta, len, ops, ty, kd, bk, hh, dd, aF, aP, aZ, aL, lP, lF, vt, byt, imm, val, loc, glo, arg)) : wpY_replay post (fl, cl, ms, fu, cnt, opn, er, sz, dp, dep, ytr, nx, us, tk, lr, pa, lo, tb, re, sta, len, ops, ty, kd, bk, hh, dd, aF, aP, aZ, aL, lP, lF, vt, byt, imm, val, loc, glo, arg) := by
  refine br_f ?_ hp
  rw [ho]; decide
end
end
section
/-! the component's planning -/
theorem zk_7 : (-7 : Int32) ≠ 0 := by decide
theorem zk_8 : (-8 : Int32) ≠ 0 := by decide
theorem zk_9 : (-9 : Int32) ≠ 0 := by decide
theorem zk_7l : (-7 : Int32) < 0 := by decide
theorem zk_7n : ¬ 0 ≤ (-7 : Int32) := by decide
theorem zk_8n : ¬ 0 ≤ (-8 : Int32) := by decide
theorem zk_3n : ¬ (3 : Int32) < 0 := by decide
theorem zp_neg (c : zc_C) (t : Int32) (s : Nat) (h : (zc_p c t (0, s)).2.1 ≠ 0) : ¬ 0 ≤ (zc_p c t (0, s)).2.1 := by
  unfold zc_p at h ⊢
  by_cases h0 : t = 0 ∨ ((0 : Int32), s).1 ≠ 0
  · rw [if_pos h0] at h; exact absurd rfl h
  rw [if_neg h0] at h ⊢
  by_cases h1 : ((0 : Int32), s).2 = zc_h c
  · rw [if_pos h1] at h ⊢
    by_cases h2 : zc_U c (zc_D c - 1) = 0
    · rw [if_pos h2]; exact zk_7n
    · rw [if_neg h2] at h; exact absurd rfl h
  rw [if_neg h1] at h ⊢
  by_cases h2 : t = 4 ∨ zc_T c (((0 : Int32), s).2 - 1) = t ∨ zc_T c (((0 : Int32), s).2 - 1) = 3
  · rw [if_pos h2] at h; exact absurd rfl h
  · rw [if_neg h2]; exact zk_8n
theorem zp_e0 {c : zc_C} {t : Int32} {s : Int32 × Nat} (h : (zc_p c t s).2.1 = 0) : (zc_p c t s).2 = (0, (zc_p c t s).2.2) := by rw [← h]
theorem zp_l0 (c : zc_C) (t : Int32) (s : Int32 × Nat) : zc_pl c [t, 0] s = zc_pl c [t] s := by
  show (zc_p c 0 (zc_p c t s).2).2 = (zc_p c t s).2
  rw [zp_0]
section
variable {fl cl ms fu cnt opn tu oc fc cu pu mk us dep top pc tr : Int32} {lr : Int64} {pa lo tb re sta len ops sT sF sM oT fK fT fH fU fS fC mem aF aA aT : Nat → Int32} {imm arg glo cel loc : Nat → Int64} {c : zc_C} {k s f a g : Nat} {im : Int64} {t o : Int32}
theorem zx_pa {post : Int32 → SX → Prop} (hok : zc_ok c) (h1 : zc_h c ≤ s) (h2 : s ≤ zc_S c)
    (hE : (zc_p c 4 (0, s)).2.1 ≠ 0 → post (zc_p c 4 (0, s)).2.1 (fl, cl, ms, fu, cnt, opn, tu, nI (zc_S c), nI (zc_D c), nI s, pu, mk, lr, us, dep, top, pc, tr, pa, lo, tb, re, sta, len, ops, imm, sT, sF, sM, zc_T c, zc_K c, zc_B c, zc_z (zc_H c), zc_U c, zc_z (zc_A c), fC, arg, glo, mem, aF, aA, aT, cel, loc))
    (hO : (zc_p c 4 (0, s)).2.1 = 0 → post (zc_p c 4 (0, s)).1 (fl, cl, ms, fu, cnt, opn, tu, nI (zc_S c), nI (zc_D c), nI (zc_p c 4 (0, s)).2.2, pu, mk, lr, us, dep, top, pc, tr, pa, lo, tb, re, sta, len, ops, imm, sT, sF, sM, zc_T c, zc_K c, zc_B c, zc_z (zc_H c), zc_U c, zc_z (zc_A c), fC, arg, glo, mem, aF, aA, aT, cel, loc)) : wpX_popAny post (fl, cl, ms, fu, cnt, opn, tu, nI (zc_S c), nI (zc_D c), nI s, pu, mk, lr, us, dep, top, pc, tr, pa, lo, tb, re, sta, len, ops, imm, sT, sF, sM, zc_T c, zc_K c, zc_B c, zc_z (zc_H c), zc_U c, zc_z (zc_A c), fC, arg, glo, mem, aF, aA, aT, cel, loc) := by
  have hD := hok.1
  have hD8 := hok.2.1
  have hS := hok.2.2.1
  have ec : (nI (zc_D c - 1)).toNatClampNeg = zc_D c - 1 := nI_clamp (by omega)
  have hin : vp_in (nI (zc_D c - 1)) 8 := vp_in_nI (by omega) (by decide)
  have eh : zc_z (zc_H c) (nI (zc_D c - 1)).toNatClampNeg = nI (zc_h c) := by rw [ec]; rfl
  have n0 : ¬ ((4 : Int32) = 0 ∨ ((0 : Int32), s).1 ≠ 0) := fun z => z.elim (by decide) (fun w => w rfl)
  refine nm_r (e' := nI (zc_D c - 1)) (pk_sub (b := 1) hD) ⟨hin, ?_⟩
  rw [eh]
  refine pk_lt (zc_h c) s (fun z => ?_) (fun z => ?_)
  · have e : zc_p c 4 (0, s) = (zc_T c (s - 1), 0, s - 1) := by
      unfold zc_p; rw [if_neg n0, if_neg (by show ¬ s = zc_h c; omega), if_pos (Or.inl rfl)]
    rw [e] at hO
    refine nm_r (e' := nI (s - 1)) (pk_sub (b := 1) (by omega)) ⟨vp_in_nI (by omega) (by decide), ?_⟩
    rw [nI_clamp (by omega)]
    exact hO rfl
  · have es : s = zc_h c := by omega
    refine ⟨hin, ?_⟩
    rw [ec]
    by_cases hu : zc_U c (zc_D c - 1) = 0
    · have e : zc_p c 4 (0, s) = (3, -7, s) := by
        unfold zc_p; rw [if_neg n0, if_pos es, if_pos hu]
      rw [e] at hE
      exact br_t hu (hE zk_7)
    · have e : zc_p c 4 (0, s) = (3, 0, s) := by
        unfold zc_p; rw [if_neg n0, if_pos es, if_neg hu]
      rw [e] at hO
      exact br_f hu (hO rfl)
theorem zx_pop {post : Int32 → SX → Prop} (hok : zc_ok c) (h1 : zc_h c ≤ s) (h2 : s ≤ zc_S c) (ht : t ≠ 4)
    (hE : (zc_p c t (0, s)).2.1 ≠ 0 → ∀ x, post (zc_p c t (0, s)).2.1 (fl, cl, ms, fu, cnt, opn, tu, nI (zc_S c), nI (zc_D c), x, pu, mk, lr, us, dep, top, pc, tr, pa, lo, tb, re, sta, len, ops, imm, sT, sF, sM, zc_T c, zc_K c, zc_B c, zc_z (zc_H c), zc_U c, zc_z (zc_A c), fC, arg, glo, mem, aF, aA, aT, cel, loc))
    (hO : (zc_p c t (0, s)).2.1 = 0 → ∀ e, 0 ≤ e → post e (fl, cl, ms, fu, cnt, opn, tu, nI (zc_S c), nI (zc_D c), nI (zc_p c t (0, s)).2.2, pu, mk, lr, us, dep, top, pc, tr, pa, lo, tb, re, sta, len, ops, imm, sT, sF, sM, zc_T c, zc_K c, zc_B c, zc_z (zc_H c), zc_U c, zc_z (zc_A c), fC, arg, glo, mem, aF, aA, aT, cel, loc)) : wpX_pop post (fl, cl, ms, fu, cnt, opn, tu, nI (zc_S c), nI (zc_D c), nI s, pu, mk, lr, us, dep, top, pc, tr, pa, lo, tb, re, sta, len, ops, imm, sT, sF, sM, zc_T c, zc_K c, zc_B c, zc_z (zc_H c), zc_U c, zc_z (zc_A c), fC, arg, glo, mem, aF, aA, aT, cel, loc) t := by
  by_cases h0 : t = 0
  · have e : zc_p c t (0, s) = (3, 0, s) := by rw [h0]; exact zp_0 c _
    rw [e] at hO
    exact br_t h0 (hO rfl 0 (by decide))
  have n0 : ¬ (t = 0 ∨ ((0 : Int32), s).1 ≠ 0) := fun z => z.elim h0 (fun w => w rfl)
  have n4 : ¬ ((4 : Int32) = 0 ∨ ((0 : Int32), s).1 ≠ 0) := fun z => z.elim (by decide) (fun w => w rfl)
  by_cases h3 : s = zc_h c
  · have p4 : zc_p c 4 (0, s) = (3, if zc_U c (zc_D c - 1) = 0 then -7 else 0, s) := by
      unfold zc_p; rw [if_neg n4, if_pos h3]
    have pt : zc_p c t (0, s) = (3, if zc_U c (zc_D c - 1) = 0 then -7 else 0, s) := by
      unfold zc_p; rw [if_neg n0, if_pos h3]
    rw [pt] at hE hO
    refine br_f h0 (zx_pa hok h1 h2 (fun e => ?_) (fun e => ?_))
    · rw [p4] at e ⊢
      by_cases hu : zc_U c (zc_D c - 1) = 0
      · rw [if_pos hu] at hE ⊢
        exact br_t zk_7l (hE zk_7 _)
      · rw [if_neg hu] at e; exact absurd rfl e
    · rw [p4] at e ⊢
      have ht3 : 0 ≤ (3 : Int32) := by decide
      by_cases h5 : (3 : Int32) = t
      · exact br_f zk_3n (br_t h5 (hO e 3 ht3))
      · exact br_f zk_3n (br_f h5 (br_t rfl (hO e 3 ht3)))
  · have p4 : zc_p c 4 (0, s) = (zc_T c (s - 1), 0, s - 1) := by
      unfold zc_p; rw [if_neg n4, if_neg h3, if_pos (Or.inl rfl)]
    have pt : zc_p c t (0, s) = if t = 4 ∨ zc_T c (s - 1) = t ∨ zc_T c (s - 1) = 3 then (zc_T c (s - 1), 0, s - 1) else (zc_T c (s - 1), -8, s) := by
      unfold zc_p; rw [if_neg n0, if_neg h3]
    have ty := hok.2.2.2.2.2.2.1 (s - 1) (by omega)
    have tp : 0 ≤ zc_T c (s - 1) := by rcases ty with z | z | z <;> rw [z] <;> decide
    have tn : ¬ zc_T c (s - 1) < 0 := by rcases ty with z | z | z <;> rw [z] <;> decide
    rw [pt] at hE hO
    refine br_f h0 (zx_pa hok h1 h2 (fun e => absurd (by rw [p4]) e) (fun e => ?_))
    rw [p4]
    refine br_f tn ?_
    by_cases h5 : zc_T c (s - 1) = t
    · rw [if_pos (Or.inr (Or.inl h5))] at hO
      exact br_t h5 (hO rfl _ tp)
    by_cases h6 : zc_T c (s - 1) = 3
    · rw [if_pos (Or.inr (Or.inr h6))] at hO
      exact br_f h5 (br_t h6 (hO rfl _ tp))
    · rw [if_neg (fun z => z.elim ht (fun w => w.elim h5 h6))] at hE
      exact br_f h5 (br_f h6 (hE zk_8 _))
theorem zx_pops {post : Int32 → SX → Prop} {x y : Int32} (hok : zc_ok c) (h1 : zc_h c ≤ s) (h2 : s ≤ zc_S c) (hx : x ≠ 4) (hy : y ≠ 4)
    (hE : (zc_pl c [x, y] (0, s)).1 ≠ 0 → ∀ z, post (zc_pl c [x, y] (0, s)).1 (fl, cl, ms, fu, cnt, opn, tu, nI (zc_S c), nI (zc_D c), z, pu, mk, lr, us, dep, top, pc, tr, pa, lo, tb, re, sta, len, ops, imm, sT, sF, sM, zc_T c, zc_K c, zc_B c, zc_z (zc_H c), zc_U c, zc_z (zc_A c), fC, arg, glo, mem, aF, aA, aT, cel, loc))
    (hO : (zc_pl c [x, y] (0, s)).1 = 0 → post 0 (fl, cl, ms, fu, cnt, opn, tu, nI (zc_S c), nI (zc_D c), nI (zc_pl c [x, y] (0, s)).2, o, mk, lr, us, dep, top, pc, tr, pa, lo, tb, re, sta, len, ops, imm, sT, sF, sM, zc_T c, zc_K c, zc_B c, zc_z (zc_H c), zc_U c, zc_z (zc_A c), fC, arg, glo, mem, aF, aA, aT, cel, loc)) : wpX_planPops post (fl, cl, ms, fu, cnt, opn, tu, nI (zc_S c), nI (zc_D c), nI s, pu, mk, lr, us, dep, top, pc, tr, pa, lo, tb, re, sta, len, ops, imm, sT, sF, sM, zc_T c, zc_K c, zc_B c, zc_z (zc_H c), zc_U c, zc_z (zc_A c), fC, arg, glo, mem, aF, aA, aT, cel, loc) x y o := by
  have e1 : zc_pl c [x, y] (0, s) = (zc_p c y (zc_p c x (0, s)).2).2 := rfl
  rw [e1] at hE hO
  unfold wpX_planPops
  refine zx_pop hok h1 h2 hx (fun e z => ?_) (fun e r hr => ?_)
  · rw [zp_err c y _ e] at hE
    exact br_f (zp_neg c x s e) (hE e z)
  · have e2 := zp_e0 e
    rw [e2] at hE hO
    refine br_t hr (zx_pop hok (zp_ge c x (0, s) h1) (Nat.le_trans (zp_le c x (0, s)) h2) hy (fun e' z => ?_) (fun e' r' hr' => ?_))
    · exact br_f (zp_neg c y _ e') (hE e' z)
    · exact br_t hr' (hO e')
theorem zx_pop1 {post : Int32 → SX → Prop} {x : Int32} (hok : zc_ok c) (h1 : zc_h c ≤ s) (h2 : s ≤ zc_S c) (hx : x ≠ 4)
    (hE : (zc_pl c [x] (0, s)).1 ≠ 0 → ∀ z, post (zc_pl c [x] (0, s)).1 (fl, cl, ms, fu, cnt, opn, tu, nI (zc_S c), nI (zc_D c), z, pu, mk, lr, us, dep, top, pc, tr, pa, lo, tb, re, sta, len, ops, imm, sT, sF, sM, zc_T c, zc_K c, zc_B c, zc_z (zc_H c), zc_U c, zc_z (zc_A c), fC, arg, glo, mem, aF, aA, aT, cel, loc))
    (hO : (zc_pl c [x] (0, s)).1 = 0 → post 0 (fl, cl, ms, fu, cnt, opn, tu, nI (zc_S c), nI (zc_D c), nI (zc_pl c [x] (0, s)).2, o, mk, lr, us, dep, top, pc, tr, pa, lo, tb, re, sta, len, ops, imm, sT, sF, sM, zc_T c, zc_K c, zc_B c, zc_z (zc_H c), zc_U c, zc_z (zc_A c), fC, arg, glo, mem, aF, aA, aT, cel, loc)) : wpX_planPops post (fl, cl, ms, fu, cnt, opn, tu, nI (zc_S c), nI (zc_D c), nI s, pu, mk, lr, us, dep, top, pc, tr, pa, lo, tb, re, sta, len, ops, imm, sT, sF, sM, zc_T c, zc_K c, zc_B c, zc_z (zc_H c), zc_U c, zc_z (zc_A c), fC, arg, glo, mem, aF, aA, aT, cel, loc) x 0 o := by
  rw [← zp_l0] at hE hO
  exact zx_pops hok h1 h2 hx (by decide) hE hO
theorem zx_lt {post : Int32 → Prop} (hok : zc_ok c) {l : Nat} (hl : l < zc_D c) (hp : post (zc_lt c l)) : wpX_labelType post (fl, cl, ms, fu, cnt, opn, tu, nI (zc_S c), nI (zc_D c), cu, pu, mk, lr, us, dep, top, pc, tr, pa, lo, tb, re, sta, len, ops, imm, sT, sF, sM, zc_T c, zc_K c, zc_B c, zc_z (zc_H c), zc_U c, zc_z (zc_A c), fC, arg, glo, mem, aF, aA, aT, cel, loc) (nI l) := by
  have hD8 := hok.2.1
  have e1 : nI (zc_D c) - 1 - nI l = nI (zc_D c - 1 - l) := by
    rw [show nI (zc_D c) - 1 = nI (zc_D c - 1) from pk_sub (b := 1) (by omega)]
    exact pk_sub (by omega)
  have ec : (nI (zc_D c - 1 - l)).toNatClampNeg = zc_D c - 1 - l := nI_clamp (by omega)
  have hin : vp_in (nI (zc_D c - 1 - l)) 8 := vp_in_nI (by omega) (by decide)
  refine nm_r e1 ⟨hin, ?_⟩
  rw [ec]
  unfold zc_lt at hp
  by_cases z : zc_K c (zc_D c - 1 - l) = 2
  · rw [if_pos z] at hp
    exact br_t z ⟨hin, by decide, hp⟩
  · rw [if_neg z] at hp
    exact br_f z ⟨hin, by decide, hp⟩
theorem zx_ltx {post : Int32 → Prop} {x : Int32} (hok : zc_ok c) {l : Nat} (hl : l < zc_D c) (hx : nI l = x) (hp : post (zc_lt c l)) : wpX_labelType post (fl, cl, ms, fu, cnt, opn, tu, nI (zc_S c), nI (zc_D c), cu, pu, mk, lr, us, dep, top, pc, tr, pa, lo, tb, re, sta, len, ops, imm, sT, sF, sM, zc_T c, zc_K c, zc_B c, zc_z (zc_H c), zc_U c, zc_z (zc_A c), fC, arg, glo, mem, aF, aA, aT, cel, loc) x := by
  subst hx; exact zx_lt hok hl hp
theorem zx_ly {post : Int32 → Prop} {i : Int32} (hf : f < 4) (hp : post (zc_ly tb f i)) : wpX_localType post (fl, cl, ms, fu, cnt, opn, tu, oc, fc, cu, pu, mk, lr, us, dep, top, pc, tr, pa, lo, tb, re, sta, len, ops, imm, sT, sF, sM, oT, fK, fT, fH, fU, fS, fC, arg, glo, mem, aF, aA, aT, cel, loc) (nI f) i := by
  have ec : (nI f).toNatClampNeg = f := nI_clamp (by omega)
  refine ⟨vp_in_nI hf (by decide), ?_⟩
  rw [ec]
  unfold zc_ly at hp
  by_cases z : ((tb f >>> (i &&& 31)) &&& 1) = 1
  · rw [if_pos z] at hp; exact br_t z hp
  · rw [if_neg z] at hp; exact br_f z hp
theorem zx_cls {post : Int32 → SX → Prop} (hok : zc_ok c)
    (hE : (zc_lv c (zc_pl c [zc_r (zc_B c (zc_D c - 1))] (0, zc_S c))).1 ≠ 0 → ∀ z, post (zc_lv c (zc_pl c [zc_r (zc_B c (zc_D c - 1))] (0, zc_S c))).1 (fl, cl, ms, fu, cnt, opn, tu, nI (zc_S c), nI (zc_D c), z, pu, mk, lr, us, dep, top, pc, tr, pa, lo, tb, re, sta, len, ops, imm, sT, sF, sM, zc_T c, zc_K c, zc_B c, zc_z (zc_H c), zc_U c, zc_z (zc_A c), fC, arg, glo, mem, aF, aA, aT, cel, loc))
    (hO : (zc_lv c (zc_pl c [zc_r (zc_B c (zc_D c - 1))] (0, zc_S c))).1 = 0 → post 0 (fl, cl, ms, fu, cnt, opn, tu, nI (zc_S c), nI (zc_D c), nI (zc_pl c [zc_r (zc_B c (zc_D c - 1))] (0, zc_S c)).2, o, mk, lr, us, dep, top, pc, tr, pa, lo, tb, re, sta, len, ops, imm, sT, sF, sM, zc_T c, zc_K c, zc_B c, zc_z (zc_H c), zc_U c, zc_z (zc_A c), fC, arg, glo, mem, aF, aA, aT, cel, loc)) : wpX_planClose post (fl, cl, ms, fu, cnt, opn, tu, nI (zc_S c), nI (zc_D c), nI (zc_S c), pu, mk, lr, us, dep, top, pc, tr, pa, lo, tb, re, sta, len, ops, imm, sT, sF, sM, zc_T c, zc_K c, zc_B c, zc_z (zc_H c), zc_U c, zc_z (zc_A c), fC, arg, glo, mem, aF, aA, aT, cel, loc) o := by
  have hD := hok.1
  have hD8 := hok.2.1
  have hS := hok.2.2.1
  have hs := hok.2.2.2.2.2.1
  have ec : (nI (zc_D c - 1)).toNatClampNeg = zc_D c - 1 := nI_clamp (by omega)
  have hin : vp_in (nI (zc_D c - 1)) 8 := vp_in_nI (by omega) (by decide)
  have eh : zc_z (zc_H c) (nI (zc_D c - 1)).toNatClampNeg = nI (zc_h c) := by rw [ec]; rfl
  have r4 : zc_r (zc_B c (zc_D c - 1)) ≠ 4 := by
    rcases (zp_B3 hok (d := zc_D c - 1) (by omega)).2 with z | z | z <;> rw [z] <;> decide
  have l := zp_le c (zc_r (zc_B c (zc_D c - 1))) (0, zc_S c)
  have e1 : zc_pl c [zc_r (zc_B c (zc_D c - 1))] (0, zc_S c) = (zc_p c (zc_r (zc_B c (zc_D c - 1))) (0, zc_S c)).2 := rfl
  rw [e1] at hE hO
  unfold zc_lv at hE hO
  refine nm_r (e' := nI (zc_D c - 1)) (pk_sub (b := 1) hD) ⟨hin, by decide, ?_⟩
  rw [ec]
  refine zx_pop (t := zc_r (zc_B c (zc_D c - 1))) hok hs (Nat.le_refl _) r4 (fun e z => ?_) (fun e r hr => ?_)
  · rw [if_neg (fun w => e w.1)] at hE
    exact br_f (zp_neg c _ _ e) (hE e z)
  · refine br_t hr ⟨hin, ?_⟩
    refine pk_eq (zc_p c (zc_r (zc_B c (zc_D c - 1))) (0, zc_S c)).2.2 (zc_h c) (fun w => ?_) (fun w => ?_) (ha := by omega) (hb := by omega)
    · rw [if_neg (fun y => y.2 w)] at hO
      exact hO e
    · rw [if_pos ⟨e, w⟩] at hE
      exact hE zk_9 _
end
end
section
/-! the component's planning, all rules -/
theorem zp_43 {c : zc_C} {s : Int32 × Nat} (h : (zc_p c 4 s).2.1 ≠ 0) : (zc_p c 4 s).1 = 3 := by
  unfold zc_p at h ⊢
  by_cases h0 : (4 : Int32) = 0 ∨ s.1 ≠ 0
  · rw [if_pos h0]
  rw [if_neg h0] at h ⊢
  by_cases h1 : s.2 = zc_h c
  · rw [if_pos h1]
  rw [if_neg h1, if_pos (Or.inl rfl)] at h
  exact absurd rfl h
theorem zf_11 {k : Nat} (h : ¬ ((28 ≤ k ∧ k ≤ 36) ∨ k = 41)) : zc_f1 k = 1 := if_neg h
theorem zf_12 {k : Nat} (h : (28 ≤ k ∧ k ≤ 36) ∨ k = 41) : zc_f1 k = 2 := if_pos h
theorem zf_21 {k : Nat} (h : (21 ≤ k ∧ k ≤ 27) ∨ k = 39 ∨ k = 41) : zc_f2 k = 1 := if_pos h
theorem zf_22 {k : Nat} (h : 29 ≤ k ∧ k ≤ 35) : zc_f2 k = 2 := by unfold zc_f2; rw [if_neg (by omega), if_pos h]
theorem zf_20 {k : Nat} (h : ¬ ((21 ≤ k ∧ k ≤ 27) ∨ k = 39 ∨ k = 41 ∨ (29 ≤ k ∧ k ≤ 35))) : zc_f2 k = 0 := by unfold zc_f2; rw [if_neg (by omega), if_neg (by omega)]
theorem zf_30 {k : Nat} (h : k = 39 ∨ k = 41) : zc_f3 k = 0 := if_pos h
theorem zf_32 {k : Nat} (h : (31 ≤ k ∧ k ≤ 35) ∨ k = 37 ∨ k = 40) : zc_f3 k = 2 := by unfold zc_f3; rw [if_neg (by omega), if_pos h]
theorem zf_31 {k : Nat} (h : ¬ (k = 39 ∨ k = 41 ∨ (31 ≤ k ∧ k ≤ 35) ∨ k = 37 ∨ k = 40)) : zc_f3 k = 1 := by unfold zc_f3; rw [if_neg (by omega), if_neg (by omega)]
theorem zf_n4 {x : Int32} (h : zc_o3 x) : x ≠ 4 := by
  rcases h with z | z | z <;> rw [z] <;> decide
section
variable {fl cl ms fu cnt opn tu oc fc cu pu mk us dep top pc tr : Int32} {lr : Int64} {pa lo tb re sta len ops sT sF sM oT fK fT fH fU fS fC mem aF aA aT : Nat → Int32} {imm arg glo cel loc : Nat → Int64} {c : zc_C} {k s f a g : Nat} {im : Int64} {t o : Int32} {post : Int32 → SX → Prop}
theorem zx_fx {x y : Int32} (hok : zc_ok c) (e1 : zc_f1 k = x) (e2 : zc_f2 k = y) (e3 : zc_f3 k = o) (hx : x ≠ 4) (hy : y ≠ 4)
    (hE : (zc_pl c [zc_f1 k, zc_f2 k] (0, zc_S c)).1 ≠ 0 → ∀ z, post (zc_pl c [zc_f1 k, zc_f2 k] (0, zc_S c)).1 (fl, cl, ms, fu, cnt, opn, tu, nI (zc_S c), nI (zc_D c), z, pu, mk, lr, us, dep, top, pc, tr, pa, lo, tb, re, sta, len, ops, imm, sT, sF, sM, zc_T c, zc_K c, zc_B c, zc_z (zc_H c), zc_U c, zc_z (zc_A c), fC, arg, glo, mem, aF, aA, aT, cel, loc))
    (hO : (zc_pl c [zc_f1 k, zc_f2 k] (0, zc_S c)).1 = 0 → post 0 (fl, cl, ms, fu, cnt, opn, tu, nI (zc_S c), nI (zc_D c), nI (zc_pl c [zc_f1 k, zc_f2 k] (0, zc_S c)).2, zc_f3 k, mk, lr, us, dep, top, pc, tr, pa, lo, tb, re, sta, len, ops, imm, sT, sF, sM, zc_T c, zc_K c, zc_B c, zc_z (zc_H c), zc_U c, zc_z (zc_A c), fC, arg, glo, mem, aF, aA, aT, cel, loc)) : wpX_planPops post (fl, cl, ms, fu, cnt, opn, tu, nI (zc_S c), nI (zc_D c), nI (zc_S c), pu, mk, lr, us, dep, top, pc, tr, pa, lo, tb, re, sta, len, ops, imm, sT, sF, sM, zc_T c, zc_K c, zc_B c, zc_z (zc_H c), zc_U c, zc_z (zc_A c), fC, arg, glo, mem, aF, aA, aT, cel, loc) x y o := by
  subst e1 e2 e3
  exact zx_pops hok hok.2.2.2.2.2.1 (Nat.le_refl _) hx hy hE hO
theorem zx_fixed (hok : zc_ok c) (hk : k < 42) (h20 : 20 ≤ k)
    (hE : (zc_pl c [zc_f1 k, zc_f2 k] (0, zc_S c)).1 ≠ 0 → ∀ z, post (zc_pl c [zc_f1 k, zc_f2 k] (0, zc_S c)).1 (fl, cl, ms, fu, cnt, opn, tu, nI (zc_S c), nI (zc_D c), z, pu, mk, lr, us, dep, top, pc, tr, pa, lo, tb, re, sta, len, ops, imm, sT, sF, sM, zc_T c, zc_K c, zc_B c, zc_z (zc_H c), zc_U c, zc_z (zc_A c), fC, arg, glo, mem, aF, aA, aT, cel, loc))
    (hO : (zc_pl c [zc_f1 k, zc_f2 k] (0, zc_S c)).1 = 0 → post 0 (fl, cl, ms, fu, cnt, opn, tu, nI (zc_S c), nI (zc_D c), nI (zc_pl c [zc_f1 k, zc_f2 k] (0, zc_S c)).2, zc_f3 k, mk, lr, us, dep, top, pc, tr, pa, lo, tb, re, sta, len, ops, imm, sT, sF, sM, zc_T c, zc_K c, zc_B c, zc_z (zc_H c), zc_U c, zc_z (zc_A c), fC, arg, glo, mem, aF, aA, aT, cel, loc)) : wpX_planFixed post (fl, cl, ms, fu, cnt, opn, tu, nI (zc_S c), nI (zc_D c), nI (zc_S c), pu, mk, lr, us, dep, top, pc, tr, pa, lo, tb, re, sta, len, ops, imm, sT, sF, sM, zc_T c, zc_K c, zc_B c, zc_z (zc_H c), zc_U c, zc_z (zc_A c), fC, arg, glo, mem, aF, aA, aT, cel, loc) (nI k) := by
  have A12 : (k = 20 ∨ k = 38) → wX_planFixed_12 post fl cl ms fu cnt opn tu (nI (zc_S c)) (nI (zc_D c)) (nI (zc_S c)) pu mk lr us dep top pc tr pa lo tb re sta len ops imm sT sF sM (zc_T c) (zc_K c) (zc_B c) (zc_z (zc_H c)) (zc_U c) (zc_z (zc_A c)) fC arg glo mem aF aA aT cel loc := fun z =>
    zx_fx hok (zf_11 (by omega)) (zf_20 (by omega)) (zf_31 (by omega)) (by decide) (by decide) hE hO
  have A46 : (k = 28 ∨ k = 36) → wX_planFixed_46 post fl cl ms fu cnt opn tu (nI (zc_S c)) (nI (zc_D c)) (nI (zc_S c)) pu mk lr us dep top pc tr pa lo tb re sta len ops imm sT sF sM (zc_T c) (zc_K c) (zc_B c) (zc_z (zc_H c)) (zc_U c) (zc_z (zc_A c)) fC arg glo mem aF aA aT cel loc := fun z =>
    zx_fx hok (zf_12 (by omega)) (zf_20 (by omega)) (zf_31 (by omega)) (by decide) (by decide) hE hO
  have A94 : (k = 37 ∨ k = 40) → wX_planFixed_94 post fl cl ms fu cnt opn tu (nI (zc_S c)) (nI (zc_D c)) (nI (zc_S c)) pu mk lr us dep top pc tr pa lo tb re sta len ops imm sT sF sM (zc_T c) (zc_K c) (zc_B c) (zc_z (zc_H c)) (zc_U c) (zc_z (zc_A c)) fC arg glo mem aF aA aT cel loc := fun z =>
    zx_fx hok (zf_11 (by omega)) (zf_20 (by omega)) (zf_32 (by omega)) (by decide) (by decide) hE hO
  refine pk_eq k 20 (fun z => A12 (by omega)) (fun z1 => pk_eq k 38 (fun z => A12 (by omega)) (fun z2 => pk_lt 27 k (fun z3 => ?_) (fun z3 => ?_)))
  · refine pk_eq k 28 (fun z => A46 (by omega)) (fun z4 => pk_eq k 36 (fun z => A46 (by omega)) (fun z5 => pk_lt 30 k (fun z6 => ?_) (fun z6 => ?_)))
    · refine pk_lt 35 k (fun z7 => ?_) (fun z7 => ?_)
      · refine pk_eq k 37 (fun z => A94 (by omega)) (fun z8 => pk_eq k 40 (fun z => A94 (by omega)) (fun z9 => pk_eq k 39 (fun z => ?_) (fun z => ?_)))
        · exact zx_fx hok (zf_11 (by omega)) (zf_21 (by omega)) (zf_30 (by omega)) (by decide) (by decide) hE hO
        · exact zx_fx hok (zf_12 (by omega)) (zf_21 (by omega)) (zf_30 (by omega)) (by decide) (by decide) hE hO
      · exact zx_fx hok (zf_12 (by omega)) (zf_22 (by omega)) (zf_32 (by omega)) (by decide) (by decide) hE hO
    · exact zx_fx hok (zf_12 (by omega)) (zf_22 (by omega)) (zf_31 (by omega)) (by decide) (by decide) hE hO
  · exact zx_fx hok (zf_11 (by omega)) (zf_21 (by omega)) (zf_31 (by omega)) (by decide) (by decide) hE hO
theorem zx_call (hok : zc_ok c) (hg : g < 4) : ∀ (j fuel s : Nat), j ≤ 4 → j < fuel → zc_h c ≤ s → s ≤ zc_S c →
    ((zc_pl c (zc_cl tb g j) (0, s)).1 ≠ 0 → ∀ z, post (zc_pl c (zc_cl tb g j) (0, s)).1 (fl, cl, ms, fu, cnt, opn, tu, nI (zc_S c), nI (zc_D c), z, pu, mk, lr, us, dep, top, pc, tr, pa, lo, tb, re, sta, len, ops, imm, sT, sF, sM, zc_T c, zc_K c, zc_B c, zc_z (zc_H c), zc_U c, zc_z (zc_A c), fC, arg, glo, mem, aF, aA, aT, cel, loc)) →
    ((zc_pl c (zc_cl tb g j) (0, s)).1 = 0 → post 0 (fl, cl, ms, fu, cnt, opn, tu, nI (zc_S c), nI (zc_D c), nI (zc_pl c (zc_cl tb g j) (0, s)).2, re g, mk, lr, us, dep, top, pc, tr, pa, lo, tb, re, sta, len, ops, imm, sT, sF, sM, zc_T c, zc_K c, zc_B c, zc_z (zc_H c), zc_U c, zc_z (zc_A c), fC, arg, glo, mem, aF, aA, aT, cel, loc)) →
    wX_planCall_9 post (nI g) fuel (zy_ix j) fl cl ms fu cnt opn tu (nI (zc_S c)) (nI (zc_D c)) (nI s) pu mk lr us dep top pc tr pa lo tb re sta len ops imm sT sF sM (zc_T c) (zc_K c) (zc_B c) (zc_z (zc_H c)) (zc_U c) (zc_z (zc_A c)) fC arg glo mem aF aA aT cel loc
  | 0, fuel + 1, s, _, _, _, _, _, hO => by
    have ec : (nI g).toNatClampNeg = g := nI_clamp (by omega)
    exact br_t zy_ix0 ⟨vp_in_nI hg (by decide), nm_r (e' := re g) (by rw [ec]) (hO rfl)⟩
  | j + 1, fuel + 1, s, h4, hj, h1, h2, hE, hO => by
    have e1 : zc_pl c (zc_cl tb g (j + 1)) (0, s) = zc_pl c (zc_cl tb g j) (zc_p c (zc_ly tb g (zy_ix (j + 1))) (0, s)).2 := rfl
    rw [e1] at hE hO
    have n4 : zc_ly tb g (zy_ix (j + 1)) ≠ 4 := by rcases zp_ly3 tb g (zy_ix (j + 1)) with z | z <;> rw [z] <;> decide
    refine br_f (nI_pos (by omega)) (zx_ly hg (zx_pop hok h1 h2 n4 (fun e z => ?_) (fun e r hr => ?_)))
    · rw [zp_lerr c _ _ e] at hE
      exact br_f (zp_neg c _ s e) (hE e z)
    · rw [zp_e0 e] at hE hO
      exact br_t hr (nm_r (zy_ixm j) (zx_call hok hg j fuel _ (by omega) (by omega) (zp_ge c _ (0, s) h1) (Nat.le_trans (zp_le c _ (0, s)) h2) hE hO))
theorem zx_sel (hok : zc_ok c) (hE : (zc_plan pa tb re f c im 12).1 ≠ 0 → ∀ x y z, post (zc_plan pa tb re f c im 12).1 (fl, cl, ms, fu, cnt, opn, tu, nI (zc_S c), nI (zc_D c), x, y, z, lr, us, dep, top, pc, tr, pa, lo, tb, re, sta, len, ops, imm, sT, sF, sM, zc_T c, zc_K c, zc_B c, zc_z (zc_H c), zc_U c, zc_z (zc_A c), fC, arg, glo, mem, aF, aA, aT, cel, loc)) (hO : (zc_plan pa tb re f c im 12).1 = 0 → post 0 (fl, cl, ms, fu, cnt, opn, tu, nI (zc_S c), nI (zc_D c), nI (zc_plan pa tb re f c im 12).2.1, (zc_plan pa tb re f c im 12).2.2.1, (zc_plan pa tb re f c im 12).2.2.2, lr, us, dep, top, pc, tr, pa, lo, tb, re, sta, len, ops, imm, sT, sF, sM, zc_T c, zc_K c, zc_B c, zc_z (zc_H c), zc_U c, zc_z (zc_A c), fC, arg, glo, mem, aF, aA, aT, cel, loc)) : wpX_planSelect post (fl, cl, ms, fu, cnt, opn, tu, nI (zc_S c), nI (zc_D c), nI (zc_S c), pu, 0, lr, us, dep, top, pc, tr, pa, lo, tb, re, sta, len, ops, imm, sT, sF, sM, zc_T c, zc_K c, zc_B c, zc_z (zc_H c), zc_U c, zc_z (zc_A c), fC, arg, glo, mem, aF, aA, aT, cel, loc) := by
  have hs := hok.2.2.2.2.2.1
  simp only [zc_plan] at hE hO
  have e1 : zc_pl c [1] (0, zc_S c) = (zc_p c 1 (0, zc_S c)).2 := rfl
  have e2 : zc_pl c [1, 4] (0, zc_S c) = (zc_p c 4 (zc_p c 1 (0, zc_S c)).2).2 := rfl
  rw [e1, e2] at hE hO
  have g1 := zp_ge c 1 (0, zc_S c) hs
  have l1 := zp_le c 1 (0, zc_S c)
  unfold wpX_planSelect
  refine zx_pop hok hs (Nat.le_refl _) (by decide) (fun e z => ?_) (fun e r hr => ?_)
  · rw [zp_err c 4 _ e] at hE
    rw [zp_err c 4 _ e] at hE
    unfold zc_sl at hE
    rw [if_neg (fun w => w.1 rfl)] at hE
    exact br_f (zp_neg c 1 _ e) (hE e z _ _)
  · rw [zp_e0 e] at hE hO
    refine br_t hr ?_
    generalize (zc_p c 1 (0, zc_S c)).2.2 = s1 at *
    have g2 := zp_ge c 4 (0, s1) g1
    have l2 := zp_le c 4 (0, s1)
    have x1 := zp_1 hok 4 (s := (0, s1)) l1 g1
    refine zx_pa hok g1 l1 (fun e' => ?_) (fun e' => ?_)
    · rw [zp_err c 4 _ e'] at hE
      unfold zc_sl at hE
      rw [if_neg (fun w => w.2.2 rfl)] at hE
      exact br_f (zp_neg c 4 s1 e') (hE e' _ _ _)
    · rw [zp_e0 e'] at hE hO
      generalize hx : zc_p c 4 (0, s1) = x at *
      have xp : 0 ≤ x.1 := by rcases x1 with z | z | z <;> rw [z] <;> decide
      refine br_t xp ?_
      have y1 := zp_1 hok 4 (s := (0, x.2.2)) (Nat.le_trans l2 l1) g2
      refine zx_pa hok g2 (Nat.le_trans l2 l1) (fun e'' => ?_) (fun e'' => ?_)
      · unfold zc_sl at hE
        have y3 := zp_43 e''
        rw [if_neg (fun w => w.2.2 y3)] at hE
        exact br_f (zp_neg c 4 _ e'') (hE e'' _ _ _)
      · generalize zc_p c 4 (0, x.2.2) = y at *
        have yp : 0 ≤ y.1 := by rcases y1 with z | z | z <;> rw [z] <;> decide
        refine br_t yp ?_
        unfold zc_sl at hE hO
        have A : (if x.1 ≠ y.1 ∧ x.1 ≠ 3 ∧ y.1 ≠ 3 then -8 else y.2.1) = 0 → wX_planSelect_52 post x.1 y.1 fl cl ms fu cnt opn tu (nI (zc_S c)) (nI (zc_D c)) (nI y.2.2) pu 0 lr us dep top pc tr pa lo tb re sta len ops imm sT sF sM (zc_T c) (zc_K c) (zc_B c) (zc_z (zc_H c)) (zc_U c) (zc_z (zc_A c)) fC arg glo mem aF aA aT cel loc := by
          intro w
          have q := hO w
          by_cases x3 : x.1 = 3
          · simp only [if_pos x3] at q; exact br_t x3 q
          · simp only [if_neg x3] at q; exact br_f x3 q
        by_cases c1 : x.1 = y.1
        · exact br_t c1 (A (by rw [if_neg (fun z => z.1 c1)]; exact e''))
        by_cases c2 : x.1 = 3
        · exact br_f c1 (br_t c2 (A (by rw [if_neg (fun z => z.2.1 c2)]; exact e'')))
        by_cases c3 : y.1 = 3
        · exact br_f c1 (br_f c2 (br_t c3 (A (by rw [if_neg (fun z => z.2.2 c3)]; exact e''))))
        · rw [if_pos ⟨c1, c2, c3⟩] at hE
          exact br_f c1 (br_f c2 (br_f c3 (hE zk_8 _ _ _)))
theorem zx_p0 {i : Int32} (hE : (zc_plan pa tb re f c im 0).1 ≠ 0 → ∀ x y z, post (zc_plan pa tb re f c im 0).1 (fl, cl, ms, fu, cnt, opn, tu, nI (zc_S c), nI (zc_D c), x, y, z, lr, us, dep, top, pc, tr, pa, lo, tb, re, sta, len, ops, imm, sT, sF, sM, zc_T c, zc_K c, zc_B c, zc_z (zc_H c), zc_U c, zc_z (zc_A c), fC, arg, glo, mem, aF, aA, aT, cel, loc)) (hO : (zc_plan pa tb re f c im 0).1 = 0 → post 0 (fl, cl, ms, fu, cnt, opn, tu, nI (zc_S c), nI (zc_D c), nI (zc_plan pa tb re f c im 0).2.1, (zc_plan pa tb re f c im 0).2.2.1, (zc_plan pa tb re f c im 0).2.2.2, lr, us, dep, top, pc, tr, pa, lo, tb, re, sta, len, ops, imm, sT, sF, sM, zc_T c, zc_K c, zc_B c, zc_z (zc_H c), zc_U c, zc_z (zc_A c), fC, arg, glo, mem, aF, aA, aT, cel, loc)) : wpX_planSpecial post (fl, cl, ms, fu, cnt, opn, tu, nI (zc_S c), nI (zc_D c), nI (zc_S c), 0, 0, lr, us, dep, top, pc, tr, pa, lo, tb, re, sta, len, ops, imm, sT, sF, sM, zc_T c, zc_K c, zc_B c, zc_z (zc_H c), zc_U c, zc_z (zc_A c), fC, arg, glo, mem, aF, aA, aT, cel, loc) (nI 0) i := by
  refine nm_e ?_
  refine br_f (by decide) (br_f (by decide) (br_t (by decide) ?_))
  exact hO rfl
theorem zx_p12 {i : Int32} (hok : zc_ok c) (hk : k = 1 ∨ k = 2) (hi : i = im.toInt32) (h3 : zc_o3 (i / 3)) (hE : (zc_plan pa tb re f c im k).1 ≠ 0 → ∀ x y z, post (zc_plan pa tb re f c im k).1 (fl, cl, ms, fu, cnt, opn, tu, nI (zc_S c), nI (zc_D c), x, y, z, lr, us, dep, top, pc, tr, pa, lo, tb, re, sta, len, ops, imm, sT, sF, sM, zc_T c, zc_K c, zc_B c, zc_z (zc_H c), zc_U c, zc_z (zc_A c), fC, arg, glo, mem, aF, aA, aT, cel, loc)) (hO : (zc_plan pa tb re f c im k).1 = 0 → post 0 (fl, cl, ms, fu, cnt, opn, tu, nI (zc_S c), nI (zc_D c), nI (zc_plan pa tb re f c im k).2.1, (zc_plan pa tb re f c im k).2.2.1, (zc_plan pa tb re f c im k).2.2.2, lr, us, dep, top, pc, tr, pa, lo, tb, re, sta, len, ops, imm, sT, sF, sM, zc_T c, zc_K c, zc_B c, zc_z (zc_H c), zc_U c, zc_z (zc_A c), fC, arg, glo, mem, aF, aA, aT, cel, loc)) : wpX_planSpecial post (fl, cl, ms, fu, cnt, opn, tu, nI (zc_S c), nI (zc_D c), nI (zc_S c), 0, 0, lr, us, dep, top, pc, tr, pa, lo, tb, re, sta, len, ops, imm, sT, sF, sM, zc_T c, zc_K c, zc_B c, zc_z (zc_H c), zc_U c, zc_z (zc_A c), fC, arg, glo, mem, aF, aA, aT, cel, loc) (nI k) i := by
  have hs := hok.2.2.2.2.2.1
  have eP : zc_plan pa tb re f c im k = zc_mk (zc_pl c [im.toInt32 / 3] (0, zc_S c)) (im.toInt32 / 3) 0 := by
    rcases hk with rfl | rfl <;> rfl
  rw [eP, ← hi] at hE hO
  have A : wX_planSpecial_107 post i fl cl ms fu cnt opn tu (nI (zc_S c)) (nI (zc_D c)) (nI (zc_S c)) 0 0 lr us dep top pc tr pa lo tb re sta len ops imm sT sF sM (zc_T c) (zc_K c) (zc_B c) (zc_z (zc_H c)) (zc_U c) (zc_z (zc_A c)) fC arg glo mem aF aA aT cel loc :=
    ⟨by decide, nm_e (zx_pop1 hok hs (Nat.le_refl _) (zf_n4 h3) (fun e z => hE e z _ _) hO)⟩
  refine nm_e ?_
  rcases hk with rfl | rfl
  · refine br_f (by decide) (br_f (by decide) (br_f (by decide) (br_t (by decide) ?_)))
    exact A
  · refine br_f (by decide) (br_f (by decide) (br_f (by decide) (br_f (by decide) (br_t (by decide) ?_))))
    exact A
theorem zx_p3 {i : Int32} (hok : zc_ok c) (hi : i = im.toInt32) (h3 : zc_o3 (i / 3)) (hE : (zc_plan pa tb re f c im 3).1 ≠ 0 → ∀ x y z, post (zc_plan pa tb re f c im 3).1 (fl, cl, ms, fu, cnt, opn, tu, nI (zc_S c), nI (zc_D c), x, y, z, lr, us, dep, top, pc, tr, pa, lo, tb, re, sta, len, ops, imm, sT, sF, sM, zc_T c, zc_K c, zc_B c, zc_z (zc_H c), zc_U c, zc_z (zc_A c), fC, arg, glo, mem, aF, aA, aT, cel, loc)) (hO : (zc_plan pa tb re f c im 3).1 = 0 → post 0 (fl, cl, ms, fu, cnt, opn, tu, nI (zc_S c), nI (zc_D c), nI (zc_plan pa tb re f c im 3).2.1, (zc_plan pa tb re f c im 3).2.2.1, (zc_plan pa tb re f c im 3).2.2.2, lr, us, dep, top, pc, tr, pa, lo, tb, re, sta, len, ops, imm, sT, sF, sM, zc_T c, zc_K c, zc_B c, zc_z (zc_H c), zc_U c, zc_z (zc_A c), fC, arg, glo, mem, aF, aA, aT, cel, loc)) : wpX_planSpecial post (fl, cl, ms, fu, cnt, opn, tu, nI (zc_S c), nI (zc_D c), nI (zc_S c), 0, 0, lr, us, dep, top, pc, tr, pa, lo, tb, re, sta, len, ops, imm, sT, sF, sM, zc_T c, zc_K c, zc_B c, zc_z (zc_H c), zc_U c, zc_z (zc_A c), fC, arg, glo, mem, aF, aA, aT, cel, loc) (nI 3) i := by
  subst hi
  refine nm_e ?_
  refine br_f (by decide) (br_f (by decide) (br_f (by decide) (br_f (by decide) (br_f (by decide) (br_t (by decide) ?_)))))
  exact ⟨by decide, nm_e (zx_pops hok hok.2.2.2.2.2.1 (Nat.le_refl _) (by decide) (zf_n4 h3) (fun e z => hE e z _ _) hO)⟩
theorem zx_p4 {i : Int32} (hok : zc_ok c) (hE : (zc_plan pa tb re f c im 4).1 ≠ 0 → ∀ x y z, post (zc_plan pa tb re f c im 4).1 (fl, cl, ms, fu, cnt, opn, tu, nI (zc_S c), nI (zc_D c), x, y, z, lr, us, dep, top, pc, tr, pa, lo, tb, re, sta, len, ops, imm, sT, sF, sM, zc_T c, zc_K c, zc_B c, zc_z (zc_H c), zc_U c, zc_z (zc_A c), fC, arg, glo, mem, aF, aA, aT, cel, loc)) (hO : (zc_plan pa tb re f c im 4).1 = 0 → post 0 (fl, cl, ms, fu, cnt, opn, tu, nI (zc_S c), nI (zc_D c), nI (zc_plan pa tb re f c im 4).2.1, (zc_plan pa tb re f c im 4).2.2.1, (zc_plan pa tb re f c im 4).2.2.2, lr, us, dep, top, pc, tr, pa, lo, tb, re, sta, len, ops, imm, sT, sF, sM, zc_T c, zc_K c, zc_B c, zc_z (zc_H c), zc_U c, zc_z (zc_A c), fC, arg, glo, mem, aF, aA, aT, cel, loc)) : wpX_planSpecial post (fl, cl, ms, fu, cnt, opn, tu, nI (zc_S c), nI (zc_D c), nI (zc_S c), 0, 0, lr, us, dep, top, pc, tr, pa, lo, tb, re, sta, len, ops, imm, sT, sF, sM, zc_T c, zc_K c, zc_B c, zc_z (zc_H c), zc_U c, zc_z (zc_A c), fC, arg, glo, mem, aF, aA, aT, cel, loc) (nI 4) i := by
  have hD := hok.1
  have hD8 := hok.2.1
  have ec : (nI (zc_D c - 1)).toNatClampNeg = zc_D c - 1 := nI_clamp (by omega)
  have hin : vp_in (nI (zc_D c - 1)) 8 := vp_in_nI (by omega) (by decide)
  refine nm_r (e' := nI (zc_D c - 1)) (pk_sub (b := 1) hD) ?_
  refine br_f (by decide) (br_f (by decide) (br_f (by decide) (br_f (by decide) (br_f (by decide) (br_f (by decide) (br_t (by decide) ?_))))))
  refine ⟨hin, by decide, ?_⟩
  rw [ec]
  exact zx_cls hok (fun e z => hE e z _ _) hO
theorem zx_p5 {i : Int32} (hok : zc_ok c) (hE : (zc_plan pa tb re f c im 5).1 ≠ 0 → ∀ x y z, post (zc_plan pa tb re f c im 5).1 (fl, cl, ms, fu, cnt, opn, tu, nI (zc_S c), nI (zc_D c), x, y, z, lr, us, dep, top, pc, tr, pa, lo, tb, re, sta, len, ops, imm, sT, sF, sM, zc_T c, zc_K c, zc_B c, zc_z (zc_H c), zc_U c, zc_z (zc_A c), fC, arg, glo, mem, aF, aA, aT, cel, loc)) (hO : (zc_plan pa tb re f c im 5).1 = 0 → post 0 (fl, cl, ms, fu, cnt, opn, tu, nI (zc_S c), nI (zc_D c), nI (zc_plan pa tb re f c im 5).2.1, (zc_plan pa tb re f c im 5).2.2.1, (zc_plan pa tb re f c im 5).2.2.2, lr, us, dep, top, pc, tr, pa, lo, tb, re, sta, len, ops, imm, sT, sF, sM, zc_T c, zc_K c, zc_B c, zc_z (zc_H c), zc_U c, zc_z (zc_A c), fC, arg, glo, mem, aF, aA, aT, cel, loc)) : wpX_planSpecial post (fl, cl, ms, fu, cnt, opn, tu, nI (zc_S c), nI (zc_D c), nI (zc_S c), 0, 0, lr, us, dep, top, pc, tr, pa, lo, tb, re, sta, len, ops, imm, sT, sF, sM, zc_T c, zc_K c, zc_B c, zc_z (zc_H c), zc_U c, zc_z (zc_A c), fC, arg, glo, mem, aF, aA, aT, cel, loc) (nI 5) i := by
  have hD := hok.1
  have hD8 := hok.2.1
  have ec : (nI (zc_D c - 1)).toNatClampNeg = zc_D c - 1 := nI_clamp (by omega)
  have hin : vp_in (nI (zc_D c - 1)) 8 := vp_in_nI (by omega) (by decide)
  simp only [zc_plan, zc_mk] at hE hO
  refine nm_r (e' := nI (zc_D c - 1)) (pk_sub (b := 1) hD) ?_
  refine br_f (by decide) (br_f (by decide) (br_f (by decide) (br_f (by decide) (br_f (by decide) (br_f (by decide) (br_f (by decide) (br_t (by decide) ?_)))))))
  refine ⟨hin, ?_⟩
  rw [ec]
  by_cases h1 : zc_D c = 1
  · have eK : zc_K c (zc_D c - 1) = 0 := by rw [h1]; exact hok.2.2.2.2.2.2.2.2.1
    rw [if_pos h1] at hO
    exact br_t eK (zx_cls hok (fun e z => hE e z _ _) hO)
  · have eK : zc_K c (zc_D c - 1) ≠ 0 := by
      rcases hok.2.2.2.2.2.2.2.2.2.1 (zc_D c - 1) (by omega) (by omega) with z | z | z | z <;> rw [z] <;> decide
    rw [if_neg h1] at hO
    exact br_f eK ⟨hin, by decide, zx_cls hok (fun e z => hE e z _ _) hO⟩
theorem zx_p6 {i : Int32} (hok : zc_ok c) (hi : i = im.toInt32) (hl : i.toNatClampNeg < zc_D c) (hx : nI i.toNatClampNeg = i) (hE : (zc_plan pa tb re f c im 6).1 ≠ 0 → ∀ x y z, post (zc_plan pa tb re f c im 6).1 (fl, cl, ms, fu, cnt, opn, tu, nI (zc_S c), nI (zc_D c), x, y, z, lr, us, dep, top, pc, tr, pa, lo, tb, re, sta, len, ops, imm, sT, sF, sM, zc_T c, zc_K c, zc_B c, zc_z (zc_H c), zc_U c, zc_z (zc_A c), fC, arg, glo, mem, aF, aA, aT, cel, loc)) (hO : (zc_plan pa tb re f c im 6).1 = 0 → post 0 (fl, cl, ms, fu, cnt, opn, tu, nI (zc_S c), nI (zc_D c), nI (zc_plan pa tb re f c im 6).2.1, (zc_plan pa tb re f c im 6).2.2.1, (zc_plan pa tb re f c im 6).2.2.2, lr, us, dep, top, pc, tr, pa, lo, tb, re, sta, len, ops, imm, sT, sF, sM, zc_T c, zc_K c, zc_B c, zc_z (zc_H c), zc_U c, zc_z (zc_A c), fC, arg, glo, mem, aF, aA, aT, cel, loc)) : wpX_planSpecial post (fl, cl, ms, fu, cnt, opn, tu, nI (zc_S c), nI (zc_D c), nI (zc_S c), 0, 0, lr, us, dep, top, pc, tr, pa, lo, tb, re, sta, len, ops, imm, sT, sF, sM, zc_T c, zc_K c, zc_B c, zc_z (zc_H c), zc_U c, zc_z (zc_A c), fC, arg, glo, mem, aF, aA, aT, cel, loc) (nI 6) i := by
  have n4 := zf_n4 (zp_lt3 hok hl)
  subst hi
  refine nm_e ?_
  refine br_f (by decide) (br_f (by decide) (br_f (by decide) (br_f (by decide) (br_f (by decide) (br_f (by decide) (br_f (by decide) (br_f (by decide) (br_t (by decide) ?_))))))))
  exact zx_ltx hok hl hx (zx_pop1 hok hok.2.2.2.2.2.1 (Nat.le_refl _) n4 (fun e z => hE e z _ _) hO)
theorem zx_p7 {i : Int32} (hok : zc_ok c) (hi : i = im.toInt32) (hl : i.toNatClampNeg < zc_D c) (hx : nI i.toNatClampNeg = i) (hE : (zc_plan pa tb re f c im 7).1 ≠ 0 → ∀ x y z, post (zc_plan pa tb re f c im 7).1 (fl, cl, ms, fu, cnt, opn, tu, nI (zc_S c), nI (zc_D c), x, y, z, lr, us, dep, top, pc, tr, pa, lo, tb, re, sta, len, ops, imm, sT, sF, sM, zc_T c, zc_K c, zc_B c, zc_z (zc_H c), zc_U c, zc_z (zc_A c), fC, arg, glo, mem, aF, aA, aT, cel, loc)) (hO : (zc_plan pa tb re f c im 7).1 = 0 → post 0 (fl, cl, ms, fu, cnt, opn, tu, nI (zc_S c), nI (zc_D c), nI (zc_plan pa tb re f c im 7).2.1, (zc_plan pa tb re f c im 7).2.2.1, (zc_plan pa tb re f c im 7).2.2.2, lr, us, dep, top, pc, tr, pa, lo, tb, re, sta, len, ops, imm, sT, sF, sM, zc_T c, zc_K c, zc_B c, zc_z (zc_H c), zc_U c, zc_z (zc_A c), fC, arg, glo, mem, aF, aA, aT, cel, loc)) : wpX_planSpecial post (fl, cl, ms, fu, cnt, opn, tu, nI (zc_S c), nI (zc_D c), nI (zc_S c), 0, 0, lr, us, dep, top, pc, tr, pa, lo, tb, re, sta, len, ops, imm, sT, sF, sM, zc_T c, zc_K c, zc_B c, zc_z (zc_H c), zc_U c, zc_z (zc_A c), fC, arg, glo, mem, aF, aA, aT, cel, loc) (nI 7) i := by
  have n4 := zf_n4 (zp_lt3 hok hl)
  subst hi
  refine nm_e ?_
  refine br_f (by decide) (br_f (by decide) (br_f (by decide) (br_f (by decide) (br_f (by decide) (br_f (by decide) (br_f (by decide) (br_f (by decide) (br_f (by decide) (br_t (by decide) ?_)))))))))
  exact zx_ltx hok hl hx (zx_pops hok hok.2.2.2.2.2.1 (Nat.le_refl _) (by decide) n4 (fun e z => hE e z _ _) hO)
theorem zx_p9 {i : Int32} (hok : zc_ok c) (hf : f < 4) (hr : zc_o3 (re f)) (ho : opn = nI f) (hE : (zc_plan pa tb re f c im 9).1 ≠ 0 → ∀ x y z, post (zc_plan pa tb re f c im 9).1 (fl, cl, ms, fu, cnt, opn, tu, nI (zc_S c), nI (zc_D c), x, y, z, lr, us, dep, top, pc, tr, pa, lo, tb, re, sta, len, ops, imm, sT, sF, sM, zc_T c, zc_K c, zc_B c, zc_z (zc_H c), zc_U c, zc_z (zc_A c), fC, arg, glo, mem, aF, aA, aT, cel, loc)) (hO : (zc_plan pa tb re f c im 9).1 = 0 → post 0 (fl, cl, ms, fu, cnt, opn, tu, nI (zc_S c), nI (zc_D c), nI (zc_plan pa tb re f c im 9).2.1, (zc_plan pa tb re f c im 9).2.2.1, (zc_plan pa tb re f c im 9).2.2.2, lr, us, dep, top, pc, tr, pa, lo, tb, re, sta, len, ops, imm, sT, sF, sM, zc_T c, zc_K c, zc_B c, zc_z (zc_H c), zc_U c, zc_z (zc_A c), fC, arg, glo, mem, aF, aA, aT, cel, loc)) : wpX_planSpecial post (fl, cl, ms, fu, cnt, opn, tu, nI (zc_S c), nI (zc_D c), nI (zc_S c), 0, 0, lr, us, dep, top, pc, tr, pa, lo, tb, re, sta, len, ops, imm, sT, sF, sM, zc_T c, zc_K c, zc_B c, zc_z (zc_H c), zc_U c, zc_z (zc_A c), fC, arg, glo, mem, aF, aA, aT, cel, loc) (nI 9) i := by
  have ec : (nI f).toNatClampNeg = f := nI_clamp (by omega)
  subst ho
  refine nm_e ?_
  refine br_f (by decide) (br_f (by decide) (br_f (by decide) (br_f (by decide) (br_f (by decide) (br_f (by decide) (br_f (by decide) (br_f (by decide) (br_f (by decide) (br_f (by decide) (br_f (by decide) (br_t (by decide) ?_)))))))))))
  refine ⟨vp_in_nI hf (by decide), ?_⟩
  rw [ec]
  exact zx_pop1 hok hok.2.2.2.2.2.1 (Nat.le_refl _) (zf_n4 hr) (fun e z => hE e z _ _) hO
theorem zx_p10 {i : Int32} (hok : zc_ok c) (hg : g < 4) {p : Nat} (hp : p ≤ 4) (ep : pa g = nI p) (hi : im.toInt32 = nI g) (hii : i = im.toInt32) (hE : (zc_plan pa tb re f c im 10).1 ≠ 0 → ∀ x y z, post (zc_plan pa tb re f c im 10).1 (fl, cl, ms, fu, cnt, opn, tu, nI (zc_S c), nI (zc_D c), x, y, z, lr, us, dep, top, pc, tr, pa, lo, tb, re, sta, len, ops, imm, sT, sF, sM, zc_T c, zc_K c, zc_B c, zc_z (zc_H c), zc_U c, zc_z (zc_A c), fC, arg, glo, mem, aF, aA, aT, cel, loc)) (hO : (zc_plan pa tb re f c im 10).1 = 0 → post 0 (fl, cl, ms, fu, cnt, opn, tu, nI (zc_S c), nI (zc_D c), nI (zc_plan pa tb re f c im 10).2.1, (zc_plan pa tb re f c im 10).2.2.1, (zc_plan pa tb re f c im 10).2.2.2, lr, us, dep, top, pc, tr, pa, lo, tb, re, sta, len, ops, imm, sT, sF, sM, zc_T c, zc_K c, zc_B c, zc_z (zc_H c), zc_U c, zc_z (zc_A c), fC, arg, glo, mem, aF, aA, aT, cel, loc)) : wpX_planSpecial post (fl, cl, ms, fu, cnt, opn, tu, nI (zc_S c), nI (zc_D c), nI (zc_S c), 0, 0, lr, us, dep, top, pc, tr, pa, lo, tb, re, sta, len, ops, imm, sT, sF, sM, zc_T c, zc_K c, zc_B c, zc_z (zc_H c), zc_U c, zc_z (zc_A c), fC, arg, glo, mem, aF, aA, aT, cel, loc) (nI 10) i := by
  have ec : (nI g).toNatClampNeg = g := nI_clamp (by omega)
  have ecp : (nI p).toNatClampNeg = p := nI_clamp (by omega)
  have eP : zc_plan pa tb re f c im 10 = zc_mk (zc_pl c (zc_cl tb g p) (0, zc_S c)) (re g) 0 := by
    show zc_mk (zc_pl c (zc_cl tb im.toInt32.toNatClampNeg (pa im.toInt32.toNatClampNeg).toNatClampNeg) (0, zc_S c)) (re im.toInt32.toNatClampNeg) 0 = _
    rw [hi, ec, ep, ecp]
  rw [eP] at hE hO
  rw [hi] at hii
  subst hii
  refine nm_e ?_
  refine br_f (by decide) (br_f (by decide) (br_f (by decide) (br_f (by decide) (br_f (by decide) (br_f (by decide) (br_f (by decide) (br_f (by decide) (br_f (by decide) (br_f (by decide) (br_f (by decide) (br_f (by decide) (br_t (by decide) ?_))))))))))))
  refine ⟨vp_in_nI hg (by decide), nm_r (e' := zy_ix p) (by rw [ec, ep]; exact zy_ixp) ⟨p + 1, ?_⟩⟩
  exact zx_call hok hg p (p + 1) (zc_S c) hp (by omega) hok.2.2.2.2.2.1 (Nat.le_refl _) (fun e z => hE e z _ _) hO
theorem zx_p11 {i : Int32} (hok : zc_ok c) (hE : (zc_plan pa tb re f c im 11).1 ≠ 0 → ∀ x y z, post (zc_plan pa tb re f c im 11).1 (fl, cl, ms, fu, cnt, opn, tu, nI (zc_S c), nI (zc_D c), x, y, z, lr, us, dep, top, pc, tr, pa, lo, tb, re, sta, len, ops, imm, sT, sF, sM, zc_T c, zc_K c, zc_B c, zc_z (zc_H c), zc_U c, zc_z (zc_A c), fC, arg, glo, mem, aF, aA, aT, cel, loc)) (hO : (zc_plan pa tb re f c im 11).1 = 0 → post 0 (fl, cl, ms, fu, cnt, opn, tu, nI (zc_S c), nI (zc_D c), nI (zc_plan pa tb re f c im 11).2.1, (zc_plan pa tb re f c im 11).2.2.1, (zc_plan pa tb re f c im 11).2.2.2, lr, us, dep, top, pc, tr, pa, lo, tb, re, sta, len, ops, imm, sT, sF, sM, zc_T c, zc_K c, zc_B c, zc_z (zc_H c), zc_U c, zc_z (zc_A c), fC, arg, glo, mem, aF, aA, aT, cel, loc)) : wpX_planSpecial post (fl, cl, ms, fu, cnt, opn, tu, nI (zc_S c), nI (zc_D c), nI (zc_S c), 0, 0, lr, us, dep, top, pc, tr, pa, lo, tb, re, sta, len, ops, imm, sT, sF, sM, zc_T c, zc_K c, zc_B c, zc_z (zc_H c), zc_U c, zc_z (zc_A c), fC, arg, glo, mem, aF, aA, aT, cel, loc) (nI 11) i := by
  have hs := hok.2.2.2.2.2.1
  refine nm_e ?_
  refine br_f (by decide) (br_f (by decide) (br_f (by decide) (br_f (by decide) (br_f (by decide) (br_f (by decide) (br_f (by decide) (br_f (by decide) (br_f (by decide) (br_f (by decide) (br_f (by decide) (br_f (by decide) (br_f (by decide) (br_t (by decide) ?_)))))))))))))
  refine zx_pa hok hs (Nat.le_refl _) (fun e => ?_) (fun e => ?_)
  · exact br_f (zp_neg c 4 _ e) (hE e _ _ _)
  · have xp : 0 ≤ (zc_p c 4 (0, zc_S c)).1 := by rcases zp_1 hok 4 (s := (0, zc_S c)) (Nat.le_refl _) hs with z | z | z <;> rw [z] <;> decide
    exact br_t xp (hO e)
theorem zx_p12s {i : Int32} (hok : zc_ok c) (hE : (zc_plan pa tb re f c im 12).1 ≠ 0 → ∀ x y z, post (zc_plan pa tb re f c im 12).1 (fl, cl, ms, fu, cnt, opn, tu, nI (zc_S c), nI (zc_D c), x, y, z, lr, us, dep, top, pc, tr, pa, lo, tb, re, sta, len, ops, imm, sT, sF, sM, zc_T c, zc_K c, zc_B c, zc_z (zc_H c), zc_U c, zc_z (zc_A c), fC, arg, glo, mem, aF, aA, aT, cel, loc)) (hO : (zc_plan pa tb re f c im 12).1 = 0 → post 0 (fl, cl, ms, fu, cnt, opn, tu, nI (zc_S c), nI (zc_D c), nI (zc_plan pa tb re f c im 12).2.1, (zc_plan pa tb re f c im 12).2.2.1, (zc_plan pa tb re f c im 12).2.2.2, lr, us, dep, top, pc, tr, pa, lo, tb, re, sta, len, ops, imm, sT, sF, sM, zc_T c, zc_K c, zc_B c, zc_z (zc_H c), zc_U c, zc_z (zc_A c), fC, arg, glo, mem, aF, aA, aT, cel, loc)) : wpX_planSpecial post (fl, cl, ms, fu, cnt, opn, tu, nI (zc_S c), nI (zc_D c), nI (zc_S c), 0, 0, lr, us, dep, top, pc, tr, pa, lo, tb, re, sta, len, ops, imm, sT, sF, sM, zc_T c, zc_K c, zc_B c, zc_z (zc_H c), zc_U c, zc_z (zc_A c), fC, arg, glo, mem, aF, aA, aT, cel, loc) (nI 12) i := by
  refine nm_e ?_
  refine br_f (by decide) (br_f (by decide) (br_f (by decide) (br_f (by decide) (br_f (by decide) (br_f (by decide) (br_f (by decide) (br_f (by decide) (br_f (by decide) (br_f (by decide) (br_f (by decide) (br_f (by decide) (br_f (by decide) (br_f (by decide) (br_t (by decide) ?_))))))))))))))
  exact zx_sel hok hE hO
theorem zx_p13 {i : Int32} (hf : f < 4) (ho : opn = nI f) (hi : i = im.toInt32) (hE : (zc_plan pa tb re f c im 13).1 ≠ 0 → ∀ x y z, post (zc_plan pa tb re f c im 13).1 (fl, cl, ms, fu, cnt, opn, tu, nI (zc_S c), nI (zc_D c), x, y, z, lr, us, dep, top, pc, tr, pa, lo, tb, re, sta, len, ops, imm, sT, sF, sM, zc_T c, zc_K c, zc_B c, zc_z (zc_H c), zc_U c, zc_z (zc_A c), fC, arg, glo, mem, aF, aA, aT, cel, loc)) (hO : (zc_plan pa tb re f c im 13).1 = 0 → post 0 (fl, cl, ms, fu, cnt, opn, tu, nI (zc_S c), nI (zc_D c), nI (zc_plan pa tb re f c im 13).2.1, (zc_plan pa tb re f c im 13).2.2.1, (zc_plan pa tb re f c im 13).2.2.2, lr, us, dep, top, pc, tr, pa, lo, tb, re, sta, len, ops, imm, sT, sF, sM, zc_T c, zc_K c, zc_B c, zc_z (zc_H c), zc_U c, zc_z (zc_A c), fC, arg, glo, mem, aF, aA, aT, cel, loc)) : wpX_planSpecial post (fl, cl, ms, fu, cnt, opn, tu, nI (zc_S c), nI (zc_D c), nI (zc_S c), 0, 0, lr, us, dep, top, pc, tr, pa, lo, tb, re, sta, len, ops, imm, sT, sF, sM, zc_T c, zc_K c, zc_B c, zc_z (zc_H c), zc_U c, zc_z (zc_A c), fC, arg, glo, mem, aF, aA, aT, cel, loc) (nI 13) i := by
  subst ho hi
  refine nm_e ?_
  refine br_f (by decide) (br_f (by decide) (br_f (by decide) (br_f (by decide) (br_f (by decide) (br_f (by decide) (br_f (by decide) (br_f (by decide) (br_f (by decide) (br_f (by decide) (br_f (by decide) (br_f (by decide) (br_f (by decide) (br_f (by decide) (br_f (by decide) (br_t (by decide) ?_)))))))))))))))
  exact zx_ly hf (hO rfl)
theorem zx_p14 {i : Int32} (hok : zc_ok c) (hf : f < 4) (ho : opn = nI f) (hi : i = im.toInt32) (hE : (zc_plan pa tb re f c im 14).1 ≠ 0 → ∀ x y z, post (zc_plan pa tb re f c im 14).1 (fl, cl, ms, fu, cnt, opn, tu, nI (zc_S c), nI (zc_D c), x, y, z, lr, us, dep, top, pc, tr, pa, lo, tb, re, sta, len, ops, imm, sT, sF, sM, zc_T c, zc_K c, zc_B c, zc_z (zc_H c), zc_U c, zc_z (zc_A c), fC, arg, glo, mem, aF, aA, aT, cel, loc)) (hO : (zc_plan pa tb re f c im 14).1 = 0 → post 0 (fl, cl, ms, fu, cnt, opn, tu, nI (zc_S c), nI (zc_D c), nI (zc_plan pa tb re f c im 14).2.1, (zc_plan pa tb re f c im 14).2.2.1, (zc_plan pa tb re f c im 14).2.2.2, lr, us, dep, top, pc, tr, pa, lo, tb, re, sta, len, ops, imm, sT, sF, sM, zc_T c, zc_K c, zc_B c, zc_z (zc_H c), zc_U c, zc_z (zc_A c), fC, arg, glo, mem, aF, aA, aT, cel, loc)) : wpX_planSpecial post (fl, cl, ms, fu, cnt, opn, tu, nI (zc_S c), nI (zc_D c), nI (zc_S c), 0, 0, lr, us, dep, top, pc, tr, pa, lo, tb, re, sta, len, ops, imm, sT, sF, sM, zc_T c, zc_K c, zc_B c, zc_z (zc_H c), zc_U c, zc_z (zc_A c), fC, arg, glo, mem, aF, aA, aT, cel, loc) (nI 14) i := by
  have n4 : zc_ly tb f i ≠ 4 := by rcases zp_ly3 tb f i with z | z <;> rw [z] <;> decide
  subst ho hi
  refine nm_e ?_
  refine br_f (by decide) (br_f (by decide) (br_f (by decide) (br_f (by decide) (br_f (by decide) (br_f (by decide) (br_f (by decide) (br_f (by decide) (br_f (by decide) (br_f (by decide) (br_f (by decide) (br_f (by decide) (br_f (by decide) (br_f (by decide) (br_f (by decide) (br_f (by decide) (br_t (by decide) ?_))))))))))))))))
  exact zx_ly hf (zx_pop1 hok hok.2.2.2.2.2.1 (Nat.le_refl _) n4 (fun e z => hE e z _ _) hO)
theorem zx_p15 {i : Int32} (hok : zc_ok c) (hf : f < 4) (ho : opn = nI f) (hi : i = im.toInt32) (hE : (zc_plan pa tb re f c im 15).1 ≠ 0 → ∀ x y z, post (zc_plan pa tb re f c im 15).1 (fl, cl, ms, fu, cnt, opn, tu, nI (zc_S c), nI (zc_D c), x, y, z, lr, us, dep, top, pc, tr, pa, lo, tb, re, sta, len, ops, imm, sT, sF, sM, zc_T c, zc_K c, zc_B c, zc_z (zc_H c), zc_U c, zc_z (zc_A c), fC, arg, glo, mem, aF, aA, aT, cel, loc)) (hO : (zc_plan pa tb re f c im 15).1 = 0 → post 0 (fl, cl, ms, fu, cnt, opn, tu, nI (zc_S c), nI (zc_D c), nI (zc_plan pa tb re f c im 15).2.1, (zc_plan pa tb re f c im 15).2.2.1, (zc_plan pa tb re f c im 15).2.2.2, lr, us, dep, top, pc, tr, pa, lo, tb, re, sta, len, ops, imm, sT, sF, sM, zc_T c, zc_K c, zc_B c, zc_z (zc_H c), zc_U c, zc_z (zc_A c), fC, arg, glo, mem, aF, aA, aT, cel, loc)) : wpX_planSpecial post (fl, cl, ms, fu, cnt, opn, tu, nI (zc_S c), nI (zc_D c), nI (zc_S c), 0, 0, lr, us, dep, top, pc, tr, pa, lo, tb, re, sta, len, ops, imm, sT, sF, sM, zc_T c, zc_K c, zc_B c, zc_z (zc_H c), zc_U c, zc_z (zc_A c), fC, arg, glo, mem, aF, aA, aT, cel, loc) (nI 15) i := by
  have n4 : zc_ly tb f i ≠ 4 := by rcases zp_ly3 tb f i with z | z <;> rw [z] <;> decide
  subst ho hi
  refine nm_e ?_
  refine br_f (by decide) (br_f (by decide) (br_f (by decide) (br_f (by decide) (br_f (by decide) (br_f (by decide) (br_f (by decide) (br_f (by decide) (br_f (by decide) (br_f (by decide) (br_f (by decide) (br_f (by decide) (br_f (by decide) (br_f (by decide) (br_f (by decide) (br_f (by decide) (br_f (by decide) (br_t (by decide) ?_)))))))))))))))))
  exact zx_ly hf (zx_pop1 hok hok.2.2.2.2.2.1 (Nat.le_refl _) n4 (fun e z => hE e z _ _) hO)
theorem zx_p16 {i : Int32} {j : Nat} (hj : j < 2) (hi : i = im.toInt32) (ej : im.toInt32 = nI j) (hE : (zc_plan pa tb re f c im 16).1 ≠ 0 → ∀ x y z, post (zc_plan pa tb re f c im 16).1 (fl, cl, ms, fu, cnt, opn, tu, nI (zc_S c), nI (zc_D c), x, y, z, lr, us, dep, top, pc, tr, pa, lo, tb, re, sta, len, ops, imm, sT, sF, sM, zc_T c, zc_K c, zc_B c, zc_z (zc_H c), zc_U c, zc_z (zc_A c), fC, arg, glo, mem, aF, aA, aT, cel, loc)) (hO : (zc_plan pa tb re f c im 16).1 = 0 → post 0 (fl, cl, ms, fu, cnt, opn, tu, nI (zc_S c), nI (zc_D c), nI (zc_plan pa tb re f c im 16).2.1, (zc_plan pa tb re f c im 16).2.2.1, (zc_plan pa tb re f c im 16).2.2.2, lr, us, dep, top, pc, tr, pa, lo, tb, re, sta, len, ops, imm, sT, sF, sM, zc_T c, zc_K c, zc_B c, zc_z (zc_H c), zc_U c, zc_z (zc_A c), fC, arg, glo, mem, aF, aA, aT, cel, loc)) : wpX_planSpecial post (fl, cl, ms, fu, cnt, opn, tu, nI (zc_S c), nI (zc_D c), nI (zc_S c), 0, 0, lr, us, dep, top, pc, tr, pa, lo, tb, re, sta, len, ops, imm, sT, sF, sM, zc_T c, zc_K c, zc_B c, zc_z (zc_H c), zc_U c, zc_z (zc_A c), fC, arg, glo, mem, aF, aA, aT, cel, loc) (nI 16) i := by
  have q := hO rfl
  simp only [zc_plan, zc_mk] at q
  rw [ej] at q hi
  subst hi
  refine nm_e ?_
  refine br_f (by decide) (br_f (by decide) (br_f (by decide) (br_f (by decide) (br_f (by decide) (br_f (by decide) (br_f (by decide) (br_f (by decide) (br_f (by decide) (br_f (by decide) (br_f (by decide) (br_f (by decide) (br_f (by decide) (br_f (by decide) (br_f (by decide) (br_f (by decide) (br_f (by decide) (br_f (by decide) (br_t (by decide) ?_))))))))))))))))))
  have hc : j = 0 ∨ j = 1 := by omega
  rcases hc with rfl | rfl
  · exact br_t rfl q
  · exact br_f (by decide) q
theorem zx_p17 {i : Int32} {j : Nat} (hok : zc_ok c) (hj : j < 2) (hi : i = im.toInt32) (ej : im.toInt32 = nI j) (hE : (zc_plan pa tb re f c im 17).1 ≠ 0 → ∀ x y z, post (zc_plan pa tb re f c im 17).1 (fl, cl, ms, fu, cnt, opn, tu, nI (zc_S c), nI (zc_D c), x, y, z, lr, us, dep, top, pc, tr, pa, lo, tb, re, sta, len, ops, imm, sT, sF, sM, zc_T c, zc_K c, zc_B c, zc_z (zc_H c), zc_U c, zc_z (zc_A c), fC, arg, glo, mem, aF, aA, aT, cel, loc)) (hO : (zc_plan pa tb re f c im 17).1 = 0 → post 0 (fl, cl, ms, fu, cnt, opn, tu, nI (zc_S c), nI (zc_D c), nI (zc_plan pa tb re f c im 17).2.1, (zc_plan pa tb re f c im 17).2.2.1, (zc_plan pa tb re f c im 17).2.2.2, lr, us, dep, top, pc, tr, pa, lo, tb, re, sta, len, ops, imm, sT, sF, sM, zc_T c, zc_K c, zc_B c, zc_z (zc_H c), zc_U c, zc_z (zc_A c), fC, arg, glo, mem, aF, aA, aT, cel, loc)) : wpX_planSpecial post (fl, cl, ms, fu, cnt, opn, tu, nI (zc_S c), nI (zc_D c), nI (zc_S c), 0, 0, lr, us, dep, top, pc, tr, pa, lo, tb, re, sta, len, ops, imm, sT, sF, sM, zc_T c, zc_K c, zc_B c, zc_z (zc_H c), zc_U c, zc_z (zc_A c), fC, arg, glo, mem, aF, aA, aT, cel, loc) (nI 17) i := by
  simp only [zc_plan, zc_mk] at hE hO
  rw [ej] at hE hO hi
  subst hi
  refine nm_e ?_
  refine br_f (by decide) (br_f (by decide) (br_f (by decide) (br_f (by decide) (br_f (by decide) (br_f (by decide) (br_f (by decide) (br_f (by decide) (br_f (by decide) (br_f (by decide) (br_f (by decide) (br_f (by decide) (br_f (by decide) (br_f (by decide) (br_f (by decide) (br_f (by decide) (br_f (by decide) (br_f (by decide) (br_f (by decide) (br_t (by decide) ?_)))))))))))))))))))
  have hc : j = 0 ∨ j = 1 := by omega
  rcases hc with rfl | rfl
  · exact br_t rfl (zx_pop1 (x := 1) hok hok.2.2.2.2.2.1 (Nat.le_refl _) (by decide) (fun e z => hE e z _ _) hO)
  · exact br_f (by decide) (zx_pop1 (x := 2) hok hok.2.2.2.2.2.1 (Nat.le_refl _) (by decide) (fun e z => hE e z _ _) hO)
theorem zx_p18 {i : Int32} (hE : (zc_plan pa tb re f c im 18).1 ≠ 0 → ∀ x y z, post (zc_plan pa tb re f c im 18).1 (fl, cl, ms, fu, cnt, opn, tu, nI (zc_S c), nI (zc_D c), x, y, z, lr, us, dep, top, pc, tr, pa, lo, tb, re, sta, len, ops, imm, sT, sF, sM, zc_T c, zc_K c, zc_B c, zc_z (zc_H c), zc_U c, zc_z (zc_A c), fC, arg, glo, mem, aF, aA, aT, cel, loc)) (hO : (zc_plan pa tb re f c im 18).1 = 0 → post 0 (fl, cl, ms, fu, cnt, opn, tu, nI (zc_S c), nI (zc_D c), nI (zc_plan pa tb re f c im 18).2.1, (zc_plan pa tb re f c im 18).2.2.1, (zc_plan pa tb re f c im 18).2.2.2, lr, us, dep, top, pc, tr, pa, lo, tb, re, sta, len, ops, imm, sT, sF, sM, zc_T c, zc_K c, zc_B c, zc_z (zc_H c), zc_U c, zc_z (zc_A c), fC, arg, glo, mem, aF, aA, aT, cel, loc)) : wpX_planSpecial post (fl, cl, ms, fu, cnt, opn, tu, nI (zc_S c), nI (zc_D c), nI (zc_S c), 0, 0, lr, us, dep, top, pc, tr, pa, lo, tb, re, sta, len, ops, imm, sT, sF, sM, zc_T c, zc_K c, zc_B c, zc_z (zc_H c), zc_U c, zc_z (zc_A c), fC, arg, glo, mem, aF, aA, aT, cel, loc) (nI 18) i := by
  refine nm_e ?_
  refine br_f (by decide) (br_f (by decide) (br_f (by decide) (br_f (by decide) (br_f (by decide) (br_f (by decide) (br_f (by decide) (br_f (by decide) (br_f (by decide) (br_f (by decide) (br_f (by decide) (br_f (by decide) (br_f (by decide) (br_f (by decide) (br_f (by decide) (br_f (by decide) (br_f (by decide) (br_f (by decide) (br_f (by decide) (br_f (by decide) (br_t (by decide) ?_))))))))))))))))))))
  exact hO rfl
theorem zx_p19 {i : Int32} (hE : (zc_plan pa tb re f c im 19).1 ≠ 0 → ∀ x y z, post (zc_plan pa tb re f c im 19).1 (fl, cl, ms, fu, cnt, opn, tu, nI (zc_S c), nI (zc_D c), x, y, z, lr, us, dep, top, pc, tr, pa, lo, tb, re, sta, len, ops, imm, sT, sF, sM, zc_T c, zc_K c, zc_B c, zc_z (zc_H c), zc_U c, zc_z (zc_A c), fC, arg, glo, mem, aF, aA, aT, cel, loc)) (hO : (zc_plan pa tb re f c im 19).1 = 0 → post 0 (fl, cl, ms, fu, cnt, opn, tu, nI (zc_S c), nI (zc_D c), nI (zc_plan pa tb re f c im 19).2.1, (zc_plan pa tb re f c im 19).2.2.1, (zc_plan pa tb re f c im 19).2.2.2, lr, us, dep, top, pc, tr, pa, lo, tb, re, sta, len, ops, imm, sT, sF, sM, zc_T c, zc_K c, zc_B c, zc_z (zc_H c), zc_U c, zc_z (zc_A c), fC, arg, glo, mem, aF, aA, aT, cel, loc)) : wpX_planSpecial post (fl, cl, ms, fu, cnt, opn, tu, nI (zc_S c), nI (zc_D c), nI (zc_S c), 0, 0, lr, us, dep, top, pc, tr, pa, lo, tb, re, sta, len, ops, imm, sT, sF, sM, zc_T c, zc_K c, zc_B c, zc_z (zc_H c), zc_U c, zc_z (zc_A c), fC, arg, glo, mem, aF, aA, aT, cel, loc) (nI 19) i := by
  refine nm_e ?_
  refine br_f (by decide) (br_t (by decide) ?_)
  exact hO rfl
end
end
section
/-! the component's planning of a table -/
def zc_lL (L : Int32) (j : Nat) : Nat := L.toBitVec.toNat / 16 ^ j % 16
theorem zb_lL (L : Int32) {j : Nat} (hj : j < 8) : ((L.toUInt32 >>> ((4 * nI j).toUInt32 &&& Int32.toUInt32 31)).toInt32) &&& 15 = nI (zc_lL L j) := by
  have e4 : 4 * nI j = nI (4 * j) := pk_mul 4 j
  rw [e4, pk_and _ 4 (by decide), pk_ushr L (nI (4 * j)) (4 * j) (s_u (4 * j) (by omega)), zb_16]
  rfl
theorem zp_tsE (c : zc_C) (im : Int64) (s : Int32 × Nat) {j : Nat} (h : (zc_ts c im j s).1 ≠ 0) : ∀ m, j ≤ m → (zc_ts c im m s).1 = (zc_ts c im j s).1
  | 0, hm => by rw [Nat.le_zero.mp hm]
  | m + 1, hm => by
    by_cases z : j = m + 1
    · rw [z]
    · have ih := zp_tsE c im s h m (by omega)
      have n : (zc_ts c im m s).1 ≠ 0 := by rw [ih]; exact h
      show (zc_t1 c im m (zc_ts c im m s)).1 = _
      unfold zc_t1
      rw [if_neg (fun w => n w.1), zp_err c _ _ n]
      exact ih
section
variable {fl cl ms fu cnt opn tu oc fc cu pu mk us dep top pc tr : Int32} {lr : Int64} {pa lo tb re sta len ops sT sF sM oT fK fT fH fU fS fC mem aF aA aT : Nat → Int32} {imm arg glo cel loc : Nat → Int64} {c : zc_C} {n : Nat} {im : Int64} {L : Int32} {post : Int32 → SX → Prop}
theorem zx_tabl (hok : zc_ok c) (hn : zc_n im = n) (hn7 : n ≤ 7) (hlab : ∀ j, j ≤ n → zc_lL L j = zc_lb im j) (hl : ∀ j, j ≤ n → zc_lb im j < zc_D c) {s0 : Int32 × Nat} (h1 : zc_h c ≤ s0.2) (h2 : s0.2 ≤ zc_S c)
    (hE : (zc_ts c im (n + 1) s0).1 ≠ 0 → ∀ z, post (zc_ts c im (n + 1) s0).1 (fl, cl, ms, fu, cnt, opn, tu, nI (zc_S c), nI (zc_D c), z, pu, mk, lr, us, dep, top, pc, tr, pa, lo, tb, re, sta, len, ops, imm, sT, sF, sM, zc_T c, zc_K c, zc_B c, zc_z (zc_H c), zc_U c, zc_z (zc_A c), fC, arg, glo, mem, aF, aA, aT, cel, loc))
    (hO : (zc_ts c im (n + 1) s0).1 = 0 → post 0 (fl, cl, ms, fu, cnt, opn, tu, nI (zc_S c), nI (zc_D c), nI s0.2, pu, 1, lr, us, dep, top, pc, tr, pa, lo, tb, re, sta, len, ops, imm, sT, sF, sM, zc_T c, zc_K c, zc_B c, zc_z (zc_H c), zc_U c, zc_z (zc_A c), fC, arg, glo, mem, aF, aA, aT, cel, loc)) : ∀ (m j fuel : Nat), j + m = n + 1 → m < fuel → (zc_ts c im j s0).1 = 0 →
    wX_planTable_39 post (nI n) L (nI s0.2) (zc_lt c (zc_lb im n)) fuel (nI j) fl cl ms fu cnt opn tu (nI (zc_S c)) (nI (zc_D c)) (nI s0.2) pu mk lr us dep top pc tr pa lo tb re sta len ops imm sT sF sM (zc_T c) (zc_K c) (zc_B c) (zc_z (zc_H c)) (zc_U c) (zc_z (zc_A c)) fC arg glo mem aF aA aT cel loc
  | 0, j, fuel + 1, hj, _, h0 => by
    have e : j = n + 1 := by omega
    subst e
    exact pk_lt n (n + 1) (fun _ => hO h0) (fun _ => by omega)
  | m + 1, j, fuel + 1, hj, hf, h0 => by
    have eL : zc_lb im j < zc_D c := hl j (by omega)
    refine pk_lt n j (fun _ => by omega) (fun _ => nm_r (e' := nI (zc_lb im j)) (by rw [zb_lL L (by omega), hlab j (by omega)]) (zx_lt hok eL ?_))
    have IH := zx_tabl hok hn hn7 hlab hl h1 h2 hE hO m (j + 1) fuel (by omega) (by omega)
    have es : (zc_ts c im j s0).2 = s0.2 := zp_ts c im j s0
    have eT : (zc_ts c im (j + 1) s0).1 = (zc_p c (zc_lt c (zc_lb im j)) (if (zc_ts c im j s0).1 = 0 ∧ ¬ (zc_lt c (zc_lb im j) = 0 ↔ zc_lt c (zc_lb im (zc_n im)) = 0) then -8 else (zc_ts c im j s0).1, (zc_ts c im j s0).2)).2.1 := rfl
    rw [es, h0, hn] at eT
    have hX : (zc_ts c im (j + 1) s0).1 ≠ 0 → ∀ z, post (zc_ts c im (j + 1) s0).1 (fl, cl, ms, fu, cnt, opn, tu, nI (zc_S c), nI (zc_D c), z, pu, mk, lr, us, dep, top, pc, tr, pa, lo, tb, re, sta, len, ops, imm, sT, sF, sM, zc_T c, zc_K c, zc_B c, zc_z (zc_H c), zc_U c, zc_z (zc_A c), fC, arg, glo, mem, aF, aA, aT, cel, loc) := by
      intro w
      have q := zp_tsE c im s0 w (n + 1) (by omega)
      rw [q] at hE
      exact hE w
    have n4 := zf_n4 (zp_lt3 hok eL)
    have A : (zc_lt c (zc_lb im j) = 0 ↔ zc_lt c (zc_lb im n) = 0) →
        wpX_pop (fun r u => match u with | (fl, cl, ms, fu, cnt, opn, tu, oc, fc, cu, pu, mk, lr, us, dep, top, pc, tr, pa, lo, tb, re, sta, len, ops, imm, sT, sF, sM, oT, fK, fT, fH, fU, fS, fC, arg, glo, mem, aF, aA, aT, cel, loc) => ((0 ≤ r → (∀ x : Int32, x = nI j + 1 → (wX_planTable_39 post (nI n) L (nI s0.2) (zc_lt c (zc_lb im n)) fuel x fl cl ms fu cnt opn tu oc fc (nI s0.2) pu mk lr us dep top pc tr pa lo tb re sta len ops imm sT sF sM oT fK fT fH fU fS fC arg glo mem aF aA aT cel loc))) ∧ (¬ 0 ≤ r → (post r (fl, cl, ms, fu, cnt, opn, tu, oc, fc, cu, pu, mk, lr, us, dep, top, pc, tr, pa, lo, tb, re, sta, len, ops, imm, sT, sF, sM, oT, fK, fT, fH, fU, fS, fC, arg, glo, mem, aF, aA, aT, cel, loc))))) (fl, cl, ms, fu, cnt, opn, tu, nI (zc_S c), nI (zc_D c), nI s0.2, pu, mk, lr, us, dep, top, pc, tr, pa, lo, tb, re, sta, len, ops, imm, sT, sF, sM, zc_T c, zc_K c, zc_B c, zc_z (zc_H c), zc_U c, zc_z (zc_A c), fC, arg, glo, mem, aF, aA, aT, cel, loc) (zc_lt c (zc_lb im j)) := by
      intro w
      rw [if_neg (fun z => z.2 w)] at eT
      refine zx_pop hok h1 h2 n4 (fun e z => ?_) (fun e r hr => ?_)
      · rw [← eT] at e ⊢
        have q := hX e z
        refine br_f ?_ q
        rw [eT] at e ⊢
        exact zp_neg c _ _ e
      · exact br_t hr (nm_r (nI_1 j) (IH (by rw [eT]; exact e)))
    have Bd : ¬ (zc_lt c (zc_lb im j) = 0 ↔ zc_lt c (zc_lb im n) = 0) → post (-8) (fl, cl, ms, fu, cnt, opn, tu, nI (zc_S c), nI (zc_D c), nI s0.2, pu, mk, lr, us, dep, top, pc, tr, pa, lo, tb, re, sta, len, ops, imm, sT, sF, sM, zc_T c, zc_K c, zc_B c, zc_z (zc_H c), zc_U c, zc_z (zc_A c), fC, arg, glo, mem, aF, aA, aT, cel, loc) := by
      intro w
      rw [if_pos ⟨rfl, w⟩, zp_err c _ _ (by show (-8 : Int32) ≠ 0; decide)] at eT
      have q := hX (by rw [eT]; show (-8 : Int32) ≠ 0; decide) (nI s0.2)
      rw [eT] at q
      exact q
    by_cases a0 : zc_lt c (zc_lb im j) = 0
    · refine br_t a0 ?_
      by_cases b0 : zc_lt c (zc_lb im n) = 0
      · exact br_t b0 (br_t rfl (A ⟨fun _ => b0, fun _ => a0⟩))
      · exact br_f b0 (br_f (by decide) (Bd fun z => b0 (z.mp a0)))
    · refine br_f a0 ?_
      by_cases b0 : zc_lt c (zc_lb im n) = 0
      · exact br_t b0 (br_f (by decide) (Bd fun z => a0 (z.mpr b0)))
      · exact br_f b0 (br_t rfl (A ⟨fun w => absurd w a0, fun w => absurd w b0⟩))
theorem zx_tab {pa tb re : Nat → Int32} {f : Nat} (hok : zc_ok c) (hn : zc_n im = n) (hn7 : n ≤ 7) (hlab : ∀ j, j ≤ n → zc_lL L j = zc_lb im j) (hl : ∀ j, j ≤ n → zc_lb im j < zc_D c) (hE : (zc_plan pa tb re f c im 8).1 ≠ 0 → ∀ x y z, post (zc_plan pa tb re f c im 8).1 (fl, cl, ms, fu, cnt, opn, tu, nI (zc_S c), nI (zc_D c), x, y, z, lr, us, dep, top, pc, tr, pa, lo, tb, re, sta, len, ops, imm, sT, sF, sM, zc_T c, zc_K c, zc_B c, zc_z (zc_H c), zc_U c, zc_z (zc_A c), fC, arg, glo, mem, aF, aA, aT, cel, loc)) (hO : (zc_plan pa tb re f c im 8).1 = 0 → post 0 (fl, cl, ms, fu, cnt, opn, tu, nI (zc_S c), nI (zc_D c), nI (zc_plan pa tb re f c im 8).2.1, (zc_plan pa tb re f c im 8).2.2.1, (zc_plan pa tb re f c im 8).2.2.2, lr, us, dep, top, pc, tr, pa, lo, tb, re, sta, len, ops, imm, sT, sF, sM, zc_T c, zc_K c, zc_B c, zc_z (zc_H c), zc_U c, zc_z (zc_A c), fC, arg, glo, mem, aF, aA, aT, cel, loc)) :
    wpX_planTable post (fl, cl, ms, fu, cnt, opn, tu, nI (zc_S c), nI (zc_D c), nI (zc_S c), 0, 0, lr, us, dep, top, pc, tr, pa, lo, tb, re, sta, len, ops, imm, sT, sF, sM, zc_T c, zc_K c, zc_B c, zc_z (zc_H c), zc_U c, zc_z (zc_A c), fC, arg, glo, mem, aF, aA, aT, cel, loc) (nI n) L := by
  have hs := hok.2.2.2.2.2.1
  simp only [zc_plan, zc_mk] at hE hO
  rw [hn] at hE hO
  have e1 : zc_pl c [1] (0, zc_S c) = (zc_p c 1 (0, zc_S c)).2 := rfl
  have es := zp_ts c im (n + 1) (zc_pl c [1] (0, zc_S c))
  rw [es] at hO
  unfold wpX_planTable
  refine zx_pop hok hs (Nat.le_refl _) (by decide) (fun e z => ?_) (fun e r hr => ?_)
  · have q := zp_tsE c im (zc_pl c [1] (0, zc_S c)) (j := 0) e (n + 1) (by omega)
    rw [q] at hE
    exact br_f (zp_neg c 1 _ e) (hE e z _ _)
  · refine br_t hr (nm_r (e' := nI (zc_lb im n)) (by rw [zb_lL L (by omega), hlab n (by omega)]) (zx_lt hok (hl n (by omega)) ⟨n + 2, ?_⟩))
    exact zx_tabl hok hn hn7 hlab hl (s0 := zc_pl c [1] (0, zc_S c)) (zp_lge c _ (0, zc_S c) hs) (zp_lle c _ (0, zc_S c)) (fun e z => hE e z _ _) hO (n + 1) 0 (n + 2) (by omega) (by omega) e
end
end
section
/-! the component's sites: what each jump holds -/
def zw_sum (op : Nat → Int32) (im : Nat → Int64) : Nat → Nat
  | 0 => 0
  | i + 1 => zw_sum op im i + (if op i = 8 then zc_n (im i) + 1 else 0)
def zw_used (op : Nat → Int32) (im : Nat → Int64) (n s : Nat) : Prop := (s < n ∧ (op s = 4 ∨ op s = 6 ∨ op s = 7)) ∨ (64 ≤ s ∧ s < 64 + zw_sum op im n)
def zw_ld (c : zc_C) (d : Nat) : Int32 := if zc_K c d = 2 then zc_B c d / 3 else zc_r (zc_B c d)
def zw_f0 (c : zc_C) (d : Nat) : Int32 := if zw_ld c d = 0 then 0 else 1
def zw_fm (c : zc_C) (d : Nat) : Int32 := if zc_K c d = 2 then zw_f0 c d + 2 else zw_f0 c d
def zw_lk (st : Nat → Int32) : Int32 → List Nat → Prop
  | h, [] => h = -1
  | h, s :: L => h = nI s ∧ zw_lk st (st s) L
def zw_own (op : Nat → Int32) (im : Nat → Int64) (T : Nat → zc_C) (n : Nat) (sI sD : Nat → Nat) : Prop :=
  (∀ i, i < n → (op i = 6 ∨ op i = 7) → sI i = i ∧ sD i = zc_D (T i) - 1 - (im i).toInt32.toNatClampNeg) ∧
  (∀ i, i < n → op i = 4 → sI i = i ∧ sD i = zc_D (T i) - 1) ∧
  (∀ i, i < n → op i = 8 → ∀ j, j ≤ zc_n (im i) → sI (64 + zw_sum op im i + j) = i ∧ sD (64 + zw_sum op im i + j) = zc_D (T i) - 1 - zc_lb (im i) j)
def zw_st (op : Nat → Int32) (T : Nat → zc_C) (n : Nat) (st : Nat → Int32) (L : Nat → List Nat) (s i d : Nat) : Prop :=
  (zc_K (T i) d = 2 ∧ st s = nI (zc_A (T i) d + 1)) ∨
  (zc_K (T i) d ≠ 2 ∧ ∃ e, zt_E op T n d i e ∧ st s = nI (if d = 0 then e else e + 1)) ∨
  (zc_K (T i) d ≠ 2 ∧ s ∈ L d ∧ zt_st T d i n)
def zw_site (op : Nat → Int32) (im : Nat → Int64) (T : Nat → zc_C) (n : Nat) (st sf sm : Nat → Int32) (sI sD : Nat → Nat) (L : Nat → List Nat) : Prop :=
  ∀ s, zw_used op im n s → sI s < n ∧ sD s < zc_D (T (sI s)) ∧ zw_st op T n st L s (sI s) (sD s) ∧ (op (sI s) ≠ 4 → sf s = nI (zc_H (T (sI s)) (sD s)) ∧ sm s = zw_fm (T (sI s)) (sD s))
def zw_ch1 (op : Nat → Int32) (im : Nat → Int64) (T : Nat → zc_C) (n : Nat) (st fC : Nat → Int32) (sI sD : Nat → Nat) (L : Nat → List Nat) (d : Nat) : Prop :=
  zw_lk st (fC d) (L d) ∧ (L d).Nodup ∧ ∀ s, s ∈ L d → zw_used op im n s ∧ sD s = d ∧ zc_K (T (sI s)) d ≠ 2 ∧ zt_st T d (sI s) n
def zw_ch (op : Nat → Int32) (im : Nat → Int64) (T : Nat → zc_C) (n : Nat) (st fC : Nat → Int32) (sI sD : Nat → Nat) (L : Nat → List Nat) : Prop :=
  ∀ d, d < zc_D (T n) → zw_ch1 op im T n st fC sI sD L d
/-- no ELSE of the frame that i opens, between i and m -/
def zw_ne (op : Nat → Int32) (T : Nat → zc_C) (i m : Nat) : Prop := ∀ x, i < x → x < m → ¬ (op x = 4 ∧ zc_D (T x) = zc_D (T i) + 1)
def zw_i1 (op : Nat → Int32) (T : Nat → zc_C) (n : Nat) (st : Nat → Int32) (i : Nat) : Prop :=
  ∃ j, i < j ∧ j < n ∧ op j = 4 ∧ zc_D (T j) = zc_D (T i) + 1 ∧ zt_st T (zc_D (T i)) (i + 1) j ∧ zw_ne op T i j ∧ st i = nI (j + 1)
def zw_i2 (op : Nat → Int32) (T : Nat → zc_C) (n : Nat) (st : Nat → Int32) (i : Nat) : Prop :=
  ∃ e, zt_E op T n (zc_D (T i)) (i + 1) e ∧ zw_ne op T i e ∧ st i = nI (e + 1)
def zw_if (op : Nat → Int32) (T : Nat → zc_C) (n : Nat) (st : Nat → Int32) : Prop :=
  ∀ i, i < n → op i = 3 → zw_i1 op T n st i ∨ zw_i2 op T n st i ∨ (zt_st T (zc_D (T i)) (i + 1) n ∧ zw_ne op T i n)
def zw_tb (op : Nat → Int32) (im : Nat → Int64) (n : Nat) (st : Nat → Int32) : Prop := ∀ i, i < n → op i = 8 → st i = nI (zw_sum op im i)
def zw_X (op : Nat → Int32) (im : Nat → Int64) (T : Nat → zc_C) (n : Nat) (st sf sm fC : Nat → Int32) (sI sD : Nat → Nat) (L : Nat → List Nat) : Prop :=
  zw_own op im T n sI sD ∧ zw_site op im T n st sf sm sI sD L ∧ zw_ch op im T n st fC sI sD L ∧ zw_if op T n st ∧ zw_tb op im n st
/-- a resolved jump -/
def zw_t (op : Nat → Int32) (T : Nat → zc_C) (n : Nat) (st sf sm : Nat → Int32) (s i d : Nat) : Prop :=
  d < zc_D (T i) ∧ ((zc_K (T i) d = 2 ∧ st s = nI (zc_A (T i) d + 1)) ∨ (zc_K (T i) d ≠ 2 ∧ ∃ e, zt_E op T n d i e ∧ st s = nI (if d = 0 then e else e + 1))) ∧
  sf s = nI (zc_H (T i) d) ∧ sm s = zw_fm (T i) d
/-- the sites of a complete body -/
def zw_R (op : Nat → Int32) (im : Nat → Int64) (T : Nat → zc_C) (n : Nat) (st sf sm : Nat → Int32) : Prop :=
  (∀ i, i < n → (op i = 6 ∨ op i = 7) → zw_t op T n st sf sm i i (zc_D (T i) - 1 - (im i).toInt32.toNatClampNeg)) ∧
  (∀ i, i < n → op i = 4 → ∃ e, zt_E op T n (zc_D (T i) - 1) i e ∧ st i = nI (if zc_D (T i) - 1 = 0 then e else e + 1)) ∧
  (∀ i, i < n → op i = 8 → st i = nI (zw_sum op im i) ∧ zw_sum op im i + zc_n (im i) < 32 ∧ ∀ j, j ≤ zc_n (im i) → zw_t op T n st sf sm (64 + zw_sum op im i + j) i (zc_D (T i) - 1 - zc_lb (im i) j)) ∧
  (∀ i, i < n → op i = 3 → zw_i1 op T n st i ∨ zw_i2 op T n st i)
theorem zw_sum_le (op : Nat → Int32) (im : Nat → Int64) {i : Nat} : ∀ n, i ≤ n → zw_sum op im i ≤ zw_sum op im n
  | 0, h => by rw [Nat.le_zero.mp h]; exact Nat.le_refl _
  | n + 1, h => by
    by_cases z : i = n + 1
    · rw [z]; exact Nat.le_refl _
    · exact Nat.le_trans (zw_sum_le op im n (by omega)) (Nat.le_add_right _ _)
theorem zw_sum8 {op : Nat → Int32} {im : Nat → Int64} {i n : Nat} (h : i < n) (h8 : op i = 8) : zw_sum op im i + zc_n (im i) + 1 ≤ zw_sum op im n := by
  have e : zw_sum op im (i + 1) = zw_sum op im i + (zc_n (im i) + 1) := by
    show zw_sum op im i + (if op i = 8 then zc_n (im i) + 1 else 0) = _
    rw [if_pos h8]
  have := zw_sum_le op im (i := i + 1) n h
  omega
theorem zw_lkc {st st' : Nat → Int32} : ∀ {L : List Nat} {h : Int32}, (∀ s, s ∈ L → st' s = st s) → zw_lk st h L → zw_lk st' h L
  | [], _, _, q => q
  | s :: L, h, e, q => by
    refine ⟨q.1, ?_⟩
    rw [e s (List.mem_cons_self ..)]
    exact zw_lkc (fun x hx => e x (List.mem_cons_of_mem _ hx)) q.2
theorem zt_Em {op : Nat → Int32} {T : Nat → zc_C} {n m d i e : Nat} (h : zt_E op T n d i e) (hm : n ≤ m) : zt_E op T m d i e :=
  ⟨h.1, Nat.lt_of_lt_of_le h.2.1 hm, h.2.2⟩
theorem zt_stS {T : Nat → zc_C} {d i n : Nat} (h : zt_st T d i n) (h2 : d + 1 ≤ zc_D (T (n + 1))) : zt_st T d i (n + 1) := fun j a b => by
  by_cases z : j = n + 1
  · rw [z]; exact h2
  · exact h j a (by omega)
theorem zw_um {op : Nat → Int32} {im : Nat → Int64} {n s : Nat} (h : zw_used op im n s) : zw_used op im (n + 1) s := by
  have l : zw_sum op im n ≤ zw_sum op im (n + 1) := zw_sum_le op im (n + 1) (by omega)
  rcases h with h | h
  · exact Or.inl ⟨by omega, h.2⟩
  · exact Or.inr ⟨h.1, by omega⟩
/-- a complete body's sites are resolved -/
theorem zw_fin {op : Nat → Int32} {im : Nat → Int64} {T : Nat → zc_C} {n : Nat} {st sf sm fC : Nat → Int32} {sI sD : Nat → Nat} {L : Nat → List Nat} (X : zw_X op im T n st sf sm fC sI sD L) (h0 : zc_D (T n) = 0) (h32 : zw_sum op im n ≤ 32) (h4 : ∀ i, i < n → op i = 4 → zc_K (T i) (zc_D (T i) - 1) ≠ 2) : zw_R op im T n st sf sm := by
  obtain ⟨⟨o1, o2, o3⟩, X2, X3, X4, X5⟩ := X
  have key : ∀ s, zw_used op im n s → sI s < n ∧ sD s < zc_D (T (sI s)) ∧ ((zc_K (T (sI s)) (sD s) = 2 ∧ st s = nI (zc_A (T (sI s)) (sD s) + 1)) ∨ (zc_K (T (sI s)) (sD s) ≠ 2 ∧ ∃ e, zt_E op T n (sD s) (sI s) e ∧ st s = nI (if sD s = 0 then e else e + 1))) ∧ (op (sI s) ≠ 4 → sf s = nI (zc_H (T (sI s)) (sD s)) ∧ sm s = zw_fm (T (sI s)) (sD s)) := by
    intro s hs
    obtain ⟨a, b, c, d⟩ := X2 s hs
    refine ⟨a, b, ?_, d⟩
    rcases c with c | c | c
    · exact Or.inl c
    · exact Or.inr c
    · have := c.2.2 n (by omega) (Nat.le_refl _)
      omega
  refine ⟨fun i hi h => ?_, fun i hi h => ?_, fun i hi h => ⟨X5 i hi h, ?_, fun j hj => ?_⟩, fun i hi h => ?_⟩
  · obtain ⟨e1, e2⟩ := o1 i hi h
    obtain ⟨a, b, c, d⟩ := key i (Or.inl ⟨hi, Or.inr h⟩)
    rw [e1] at b c d
    rw [e2] at b c d
    exact ⟨b, c, d (by rcases h with h | h <;> rw [h] <;> decide)⟩
  · obtain ⟨e1, e2⟩ := o2 i hi h
    obtain ⟨a, b, c, d⟩ := key i (Or.inl ⟨hi, Or.inl h⟩)
    rw [e1] at b c d
    rw [e2] at b c d
    rcases c with c | c
    · exact absurd c.1 (h4 i hi h)
    · exact c.2
  · have := zw_sum8 (im := im) hi h
    omega
  · have l := zw_sum8 (im := im) hi h
    obtain ⟨e1, e2⟩ := o3 i hi h j hj
    obtain ⟨a, b, c, d⟩ := key (64 + zw_sum op im i + j) (Or.inr ⟨by omega, by omega⟩)
    rw [e1] at b c d
    rw [e2] at b c d
    exact ⟨b, c, d (by rw [h]; decide)⟩
  · rcases X4 i hi h with z | z | z
    · exact Or.inl z
    · exact Or.inr z
    · have := z.1 n (by omega) (Nat.le_refl _)
      omega
/-! congruence: what the sites depend on -/
section
variable {op op' : Nat → Int32} {im im' : Nat → Int64} {T T' : Nat → zc_C} {n : Nat}
theorem zw_sumc (h : ∀ i, i < n → op' i = op i ∧ im' i = im i) : ∀ i, i ≤ n → zw_sum op' im' i = zw_sum op im i
  | 0, _ => rfl
  | i + 1, hi => by
    show zw_sum op' im' i + (if op' i = 8 then zc_n (im' i) + 1 else 0) = zw_sum op im i + (if op i = 8 then zc_n (im i) + 1 else 0)
    rw [zw_sumc h i (by omega), (h i (by omega)).1, (h i (by omega)).2]
theorem zt_stc (hT : ∀ i, i ≤ n → T' i = T i) {d i m : Nat} (hm : m ≤ n) (h : zt_st T d i m) : zt_st T' d i m := fun j a b => by rw [hT j (by omega)]; exact h j a b
theorem zt_Ec (h : ∀ i, i < n → op' i = op i) (hT : ∀ i, i ≤ n → T' i = T i) {d i e : Nat} (E : zt_E op T n d i e) : zt_E op' T' n d i e :=
  ⟨E.1, E.2.1, by rw [h e E.2.1]; exact E.2.2.1, by rw [hT e (by have := E.2.1; omega)]; exact E.2.2.2.1, zt_stc hT (by have := E.2.1; omega) E.2.2.2.2⟩
theorem zw_usc (h : ∀ i, i < n → op' i = op i ∧ im' i = im i) {s : Nat} (u : zw_used op' im' n s) : zw_used op im n s := by
  rcases u with u | u
  · exact Or.inl ⟨u.1, by rw [(h s u.1).1] at u; exact u.2⟩
  · rw [zw_sumc h n (Nat.le_refl _)] at u; exact Or.inr u
theorem zw_nec (h : ∀ i, i < n → op' i = op i) (hT : ∀ i, i ≤ n → T' i = T i) {i m : Nat} (hm : m ≤ n) (hi : i ≤ n) (q : zw_ne op T i m) : zw_ne op' T' i m := fun x a b => by
  rw [h x (by omega), hT x (by omega), hT i hi]; exact q x a b
theorem zw_i1c (h : ∀ i, i < n → op' i = op i) (hT : ∀ i, i ≤ n → T' i = T i) {st st' : Nat → Int32} {i : Nat} (e : st' i = st i) (q : zw_i1 op T n st i) : zw_i1 op' T' n st' i := by
  obtain ⟨j, q1, q2, q3, q4, q5, q6, q7⟩ := q
  refine ⟨j, q1, q2, by rw [h j q2]; exact q3, by rw [hT j (by omega), hT i (by omega)]; exact q4, ?_, zw_nec h hT (by omega) (by omega) q6, by rw [e]; exact q7⟩
  rw [hT i (by omega)]
  exact zt_stc hT (by omega) q5
theorem zw_i2c (h : ∀ i, i < n → op' i = op i) (hT : ∀ i, i ≤ n → T' i = T i) {st st' : Nat → Int32} {i : Nat} (hi : i < n) (e : st' i = st i) (q : zw_i2 op T n st i) : zw_i2 op' T' n st' i := by
  obtain ⟨j, q1, q2, q3⟩ := q
  have := q1.2.1
  refine ⟨j, ?_, zw_nec h hT (by omega) (by omega) q2, by rw [e]; exact q3⟩
  rw [hT i (by omega)]
  exact zt_Ec h hT q1
theorem zw_Xc (h : ∀ i, i < n → op' i = op i ∧ im' i = im i) (hT : ∀ i, i ≤ n → T' i = T i) {st sf sm fC : Nat → Int32} {sI sD : Nat → Nat} {L : Nat → List Nat}
    (X : zw_X op im T n st sf sm fC sI sD L) : zw_X op' im' T' n st sf sm fC sI sD L := by
  obtain ⟨⟨o1, o2, o3⟩, X2, X3, X4, X5⟩ := X
  have ho := fun i hi => (h i hi).1
  refine ⟨⟨fun i hi q => ?_, fun i hi q => ?_, fun i hi q j hj => ?_⟩, fun s u => ?_, fun d hd => ?_, fun i hi q => ?_, fun i hi q => ?_⟩
  · rw [ho i hi] at q; rw [hT i (by omega), (h i hi).2]; exact o1 i hi q
  · rw [ho i hi] at q; rw [hT i (by omega)]; exact o2 i hi q
  · rw [ho i hi] at q; rw [(h i hi).2] at hj ⊢; rw [hT i (by omega), zw_sumc h i (by omega)]; exact o3 i hi q j hj
  · obtain ⟨a, b, c, d⟩ := X2 s (zw_usc h u)
    rw [ho _ a]
    refine ⟨a, by rw [hT _ (by omega)]; exact b, ?_, by rw [hT _ (by omega)]; exact d⟩
    unfold zw_st at c ⊢
    rw [hT _ (by omega)]
    rcases c with c | ⟨c1, e, c2, c3⟩ | ⟨c1, c2, c3⟩
    · exact Or.inl c
    · exact Or.inr (Or.inl ⟨c1, e, zt_Ec ho hT c2, c3⟩)
    · exact Or.inr (Or.inr ⟨c1, c2, zt_stc hT (Nat.le_refl _) c3⟩)
  · rw [hT n (Nat.le_refl _)] at hd
    obtain ⟨a, b, c⟩ := X3 d hd
    refine ⟨a, b, fun s hs => ?_⟩
    obtain ⟨c1, c2, c3, c4⟩ := c s hs
    have u : zw_used op' im' n s := by
      refine zw_usc (op := op') (im := im') (op' := op) (im' := im) (fun i hi => ⟨(h i hi).1.symm, (h i hi).2.symm⟩) c1
    have l := (X2 s c1).1
    exact ⟨u, c2, by rw [hT _ (by omega)]; exact c3, zt_stc hT (Nat.le_refl _) c4⟩
  · rw [ho i hi] at q
    rcases X4 i hi q with z | z | z
    · exact Or.inl (zw_i1c ho hT rfl z)
    · exact Or.inr (Or.inl (zw_i2c ho hT hi rfl z))
    · refine Or.inr (Or.inr ⟨?_, zw_nec ho hT (Nat.le_refl _) (by omega) z.2⟩)
      rw [hT i (by omega)]
      exact zt_stc hT (Nat.le_refl _) z.1
  · rw [ho i hi] at q; rw [zw_sumc h i (by omega)]; exact X5 i hi q
theorem zw_Rc (h : ∀ i, i < n → op' i = op i ∧ im' i = im i) (hn : n ≤ 64) {st sf sm st' sf' sm' : Nat → Int32} (hs : ∀ s, s < 96 → st' s = st s ∧ sf' s = sf s ∧ sm' s = sm s)
    (X : zw_R op im T n st sf sm) : zw_R op' im' T n st' sf' sm' := by
  have ho := fun i hi => (h i hi).1
  have hT : ∀ i, i ≤ n → T i = T i := fun _ _ => rfl
  have ht : ∀ s i d, s < 96 → zw_t op T n st sf sm s i d → zw_t op' T n st' sf' sm' s i d := by
    intro s i d hs' q
    obtain ⟨q1, q2, q3⟩ := q
    obtain ⟨e1, e2, e3⟩ := hs s hs'
    refine ⟨q1, ?_, by rw [e2, e3]; exact q3⟩
    rw [e1]
    rcases q2 with c | ⟨c1, e, c2, c3⟩
    · exact Or.inl c
    · exact Or.inr ⟨c1, e, zt_Ec ho hT c2, c3⟩
  obtain ⟨r1, r2, r3, r4⟩ := X
  refine ⟨fun i hi q => ?_, fun i hi q => ?_, fun i hi q => ?_, fun i hi q => ?_⟩
  · rw [ho i hi] at q; rw [(h i hi).2]; exact ht _ _ _ (by omega) (r1 i hi q)
  · rw [ho i hi] at q
    obtain ⟨e, a, b⟩ := r2 i hi q
    exact ⟨e, zt_Ec ho hT a, by rw [(hs i (by omega)).1]; exact b⟩
  · rw [ho i hi] at q
    obtain ⟨a, b, c⟩ := r3 i hi q
    rw [zw_sumc h i (by omega), (h i hi).2, (hs i (by omega)).1]
    exact ⟨a, b, fun j hj => ht _ _ _ (by omega) (c j hj)⟩
  · rw [ho i hi] at q
    rcases r4 i hi q with z | z
    · exact Or.inl (zw_i1c ho hT (hs i (by omega)).1 z)
    · exact Or.inr (zw_i2c ho hT hi (hs i (by omega)).1 z)
/-- the trace, over other code beyond n and other signatures beyond cnt -/
theorem zp_ext {pa tb re pa' tb' re' : Nat → Int32} {cnt f : Nat} {c : zc_C} {im : Int64} {k : Nat} (hc : cnt ≤ 4) (hf : f < cnt) (hs : ∀ g, g < cnt → pa' g = pa g ∧ tb' g = tb g ∧ re' g = re g) (him : zc_im cnt c k im) :
    zc_plan pa' tb' re' f c im k = zc_plan pa tb re f c im k := by
  obtain ⟨h1, h2, h3⟩ := hs f hf
  have ly : ∀ g, g < cnt → ∀ i, zc_ly tb' g i = zc_ly tb g i := fun g hg i => by unfold zc_ly; rw [(hs g hg).2.1]
  have cl : ∀ g, g < cnt → ∀ j, zc_cl tb' g j = zc_cl tb g j := fun g hg j => by
    induction j with
    | zero => rfl
    | succ j ih => show zc_ly tb' g (nI j) :: zc_cl tb' g j = zc_ly tb g (nI j) :: zc_cl tb g j; rw [ih, ly g hg]
  match k with
  | 0 => rfl
  | 1 => rfl
  | 2 => rfl
  | 3 => rfl
  | 4 => rfl
  | 5 => rfl
  | 6 => rfl
  | 7 => rfl
  | 8 => rfl
  | 9 => simp only [zc_plan, h3]
  | 10 =>
    obtain ⟨g, hg, e⟩ := him.2.2.1 rfl
    have eg : im.toInt32.toNatClampNeg = g := by rw [e, lN_i, nI_clamp (by omega)]
    simp only [zc_plan]
    rw [eg, (hs g hg).1, (hs g hg).2.2, cl g hg]
  | 11 => rfl
  | 12 => rfl
  | 13 => simp only [zc_plan, ly f hf]
  | 14 => simp only [zc_plan, ly f hf]
  | 15 => simp only [zc_plan, ly f hf]
  | 16 => rfl
  | 17 => rfl
  | 18 => rfl
  | 19 => rfl
  | m + 20 => rfl
theorem zt_Fc {pa tb re pa' tb' re' : Nat → Int32} {cnt cnt' f : Nat} (hc : cnt ≤ 4) (hcc : cnt ≤ cnt') (hf : f < cnt) (hs : ∀ g, g < cnt → pa' g = pa g ∧ tb' g = tb g ∧ re' g = re g)
    (h : ∀ i, i < n → op' i = op i ∧ im' i = im i) (hT : ∀ i, i ≤ n → T' i = T i) (F : zt_F pa tb re cnt f op im T n) : zt_F pa' tb' re' cnt' f op' im' T' n := by
  refine ⟨?_, fun i hi => ?_⟩
  · rw [(hs f hf).2.2, hT 0 (by omega)]; exact F.1
  · obtain ⟨k, a1, a2, a3, a4, a5, a6⟩ := F.2 i hi
    rw [(h i hi).1, (h i hi).2, hT i (by omega), hT (i + 1) (by omega)]
    have e := zp_ext hc hf hs a4
    refine ⟨k, a1, a2, a3, ?_, by rw [e]; exact a5, by rw [e]; exact a6⟩
    exact ⟨a4.1, a4.2.1, fun z => by obtain ⟨g, q1, q2⟩ := a4.2.2.1 z; exact ⟨g, by omega, q2⟩, a4.2.2.2⟩
end
end
section
/-! one more instruction: the sites -/
def zw_uL (L : Nat → List Nat) (d : Nat) (x : List Nat) : Nat → List Nat := fun j => if j = d then x else L j
section
variable {pa tb re : Nat → Int32} {cnt f : Nat} {op : Nat → Int32} {im : Nat → Int64} {T : Nat → zc_C} {n k : Nat} {st sf sm fC st' sf' sm' fC' : Nat → Int32} {sI sD sI' sD' : Nat → Nat} {L L' : Nat → List Nat}
theorem zw_site_ext (X2 : zw_site op im T n st sf sm sI sD L) (hD : zc_D (T n) ≤ zc_D (T (n + 1)))
    (hold : ∀ s, zw_used op im n s → st' s = st s ∧ sf' s = sf s ∧ sm' s = sm s ∧ sI' s = sI s ∧ sD' s = sD s)
    (hL : ∀ d, d < zc_D (T n) → ∀ s, s ∈ L d → s ∈ L' d)
    (hnew : ∀ s, zw_used op im (n + 1) s → ¬ zw_used op im n s → sI' s = n ∧ sD' s < zc_D (T n) ∧ ((zc_K (T n) (sD' s) = 2 ∧ st' s = nI (zc_A (T n) (sD' s) + 1)) ∨ (zc_K (T n) (sD' s) ≠ 2 ∧ s ∈ L' (sD' s))) ∧ (op n ≠ 4 → sf' s = nI (zc_H (T n) (sD' s)) ∧ sm' s = zw_fm (T n) (sD' s))) :
    zw_site op im T (n + 1) st' sf' sm' sI' sD' L' := by
  intro s u
  by_cases v : zw_used op im n s
  · obtain ⟨a, b, c, d⟩ := X2 s v
    obtain ⟨e1, e2, e3, e4, e5⟩ := hold s v
    rw [e4, e5, e2, e3]
    refine ⟨by omega, b, ?_, d⟩
    unfold zw_st at c ⊢
    rw [e1]
    rcases c with c | ⟨c1, e, c2, c3⟩ | ⟨c1, c2, c3⟩
    · exact Or.inl c
    · exact Or.inr (Or.inl ⟨c1, e, zt_Em c2 (by omega), c3⟩)
    · have w := c3 n (by omega) (Nat.le_refl _)
      exact Or.inr (Or.inr ⟨c1, hL _ (by omega) s c2, zt_stS c3 (by omega)⟩)
  · obtain ⟨a, b, c, d⟩ := hnew s u v
    rw [a]
    refine ⟨by omega, b, ?_, d⟩
    rcases c with c | c
    · exact Or.inl c
    · refine Or.inr (Or.inr ⟨c.1, c.2, fun j h1 h2 => ?_⟩)
      have : j = n ∨ j = n + 1 := by omega
      rcases this with z | z <;> rw [z] <;> omega
theorem zw_own_ext (o : zw_own op im T n sI sD) (hold : ∀ s, zw_used op im n s → sI' s = sI s ∧ sD' s = sD s)
    (h67 : (op n = 6 ∨ op n = 7) → sI' n = n ∧ sD' n = zc_D (T n) - 1 - (im n).toInt32.toNatClampNeg)
    (h4 : op n = 4 → sI' n = n ∧ sD' n = zc_D (T n) - 1)
    (h8 : op n = 8 → ∀ j, j ≤ zc_n (im n) → sI' (64 + zw_sum op im n + j) = n ∧ sD' (64 + zw_sum op im n + j) = zc_D (T n) - 1 - zc_lb (im n) j) : zw_own op im T (n + 1) sI' sD' := by
  obtain ⟨o1, o2, o3⟩ := o
  refine ⟨fun i hi q => ?_, fun i hi q => ?_, fun i hi q j hj => ?_⟩
  · by_cases z : i = n
    · subst z; exact h67 q
    · obtain ⟨a, b⟩ := hold i (Or.inl ⟨by omega, Or.inr q⟩)
      rw [a, b]; exact o1 i (by omega) q
  · by_cases z : i = n
    · subst z; exact h4 q
    · obtain ⟨a, b⟩ := hold i (Or.inl ⟨by omega, Or.inl q⟩)
      rw [a, b]; exact o2 i (by omega) q
  · by_cases z : i = n
    · subst z; exact h8 q j hj
    · have l := zw_sum8 (im := im) (n := n) (i := i) (by omega) q
      obtain ⟨a, b⟩ := hold (64 + zw_sum op im i + j) (Or.inr ⟨by omega, by omega⟩)
      rw [a, b]; exact o3 i (by omega) q j hj
theorem zw_tb_ext (t : zw_tb op im n st) (hs : ∀ i, i < n → op i = 8 → st' i = st i) (h8 : op n = 8 → st' n = nI (zw_sum op im n)) : zw_tb op im (n + 1) st' := fun i hi q => by
  by_cases z : i = n
  · subst z; exact h8 q
  · rw [hs i (by omega) q]; exact t i (by omega) q
theorem zw_i1m {i : Nat} (e : st' i = st i) (q : zw_i1 op T n st i) : zw_i1 op T (n + 1) st' i := by
  obtain ⟨j, q1, q2, q3, q4, q5, q6, q7⟩ := q
  exact ⟨j, q1, by omega, q3, q4, q5, q6, by rw [e]; exact q7⟩
theorem zw_i2m {i : Nat} (e : st' i = st i) (q : zw_i2 op T n st i) : zw_i2 op T (n + 1) st' i := by
  obtain ⟨j, q1, q2, q3⟩ := q
  exact ⟨j, zt_Em q1 (by omega), q2, by rw [e]; exact q3⟩
theorem zw_nem {i : Nat} (h : op n ≠ 4 ∨ zc_D (T n) ≠ zc_D (T i) + 1) (q : zw_ne op T i n) : zw_ne op T i (n + 1) := fun x a b => by
  by_cases z : x = n
  · subst z; exact fun w => h.elim (fun y => y w.1) (fun y => y w.2)
  · exact q x a (by omega)
theorem zw_if_ext (X4 : zw_if op T n st) (hD : zc_D (T n) ≤ zc_D (T (n + 1))) (hs : ∀ i, i < n → op i = 3 → st' i = st i) (n4 : op n ≠ 4) (h3 : op n = 3 → zc_D (T (n + 1)) = zc_D (T n) + 1) : zw_if op T (n + 1) st' := by
  intro i hi q
  by_cases z : i = n
  · subst z
    refine Or.inr (Or.inr ⟨fun j a b => ?_, fun x a b => by omega⟩)
    have : j = i + 1 := by omega
    rw [this, h3 q]; exact Nat.le_refl _
  · rcases X4 i (by omega) q with w | w | w
    · exact Or.inl (zw_i1m (hs i (by omega) q) w)
    · exact Or.inr (Or.inl (zw_i2m (hs i (by omega) q) w))
    · have := w.1 n (by omega) (Nat.le_refl _)
      exact Or.inr (Or.inr ⟨zt_stS w.1 (by omega), zw_nem (Or.inl n4) w.2⟩)
theorem zw_ch_keep {d : Nat} (h2 : d + 1 ≤ zc_D (T (n + 1))) (C : zw_ch1 op im T n st fC sI sD L d) (hst : ∀ s, s ∈ L d → st' s = st s) (hfc : fC' d = fC d) (hL : L' d = L d) (hI : ∀ s, s ∈ L d → sI' s = sI s ∧ sD' s = sD s) :
    zw_ch1 op im T (n + 1) st' fC' sI' sD' L' d := by
  obtain ⟨a, b, c⟩ := C
  refine ⟨by rw [hfc, hL]; exact zw_lkc hst a, by rw [hL]; exact b, fun s hs => ?_⟩
  rw [hL] at hs
  obtain ⟨c1, c2, c3, c4⟩ := c s hs
  obtain ⟨i1, i2⟩ := hI s hs
  rw [i1, i2]
  exact ⟨zw_um c1, c2, c3, zt_stS c4 h2⟩
/-- no new site -/
theorem zw_no {o : Nat} (h : op n = nI o) (ho : o < 42) (hn : o ≠ 4 ∧ o ≠ 6 ∧ o ≠ 7 ∧ o ≠ 8) {s : Nat} (u : zw_used op im (n + 1) s) : zw_used op im n s := by
  have ne : ∀ m, m < 42 → o ≠ m → op n ≠ nI m := fun m hm q w => q (zt_k h ho hm w)
  rcases u with ⟨u1, u2⟩ | ⟨u1, u2⟩
  · by_cases z : s = n
    · subst z
      rcases u2 with w | w | w
      · exact absurd w (ne 4 (by omega) (by omega))
      · exact absurd w (ne 6 (by omega) (by omega))
      · exact absurd w (ne 7 (by omega) (by omega))
    · exact Or.inl ⟨by omega, u2⟩
  · have e : zw_sum op im (n + 1) = zw_sum op im n := by
      show zw_sum op im n + (if op n = 8 then zc_n (im n) + 1 else 0) = _
      rw [if_neg (show ¬ op n = 8 from ne 8 (by omega) (by omega))]; rfl
    rw [e] at u2
    exact Or.inr ⟨u1, u2⟩
/-- instructions that open no frame, close none, and jump nowhere -/
theorem zw_plain (H : zt_1 pa tb re cnt f (op n) (im n) (T n) (T (n + 1)) n k) (hk : ¬ (1 ≤ k ∧ k ≤ 8)) (X : zw_X op im T n st sf sm fC sI sD L) : zw_X op im T (n + 1) st sf sm fC sI sD L := by
  obtain ⟨X1, X2, X3, X4, X5⟩ := X
  have hk42 := H.1
  have eD : zc_D (T (n + 1)) = zc_D (T n) := by rw [zn_D H, if_neg (by omega), if_neg (by omega)]
  have ne : ∀ m, m < 42 → k ≠ m → op n ≠ nI m := fun m hm q w => q (zt_k H.2.1 H.1 hm w)
  refine ⟨zw_own_ext X1 (fun s _ => ⟨rfl, rfl⟩) (fun z => ?_) (fun z => absurd z (ne 4 (by omega) (by omega))) (fun z => absurd z (ne 8 (by omega) (by omega))),
    zw_site_ext X2 (by omega) (fun s _ => ⟨rfl, rfl, rfl, rfl, rfl⟩) (fun _ _ _ z => z) (fun s u v => absurd (zw_no H.2.1 H.1 (by omega) u) v), fun d hd => ?_,
    zw_if_ext X4 (by omega) (fun _ _ _ => rfl) (ne 4 (by omega) (by omega)) (fun z => absurd z (ne 3 (by omega) (by omega))),
    zw_tb_ext X5 (fun _ _ _ => rfl) (fun z => absurd z (ne 8 (by omega) (by omega)))⟩
  · rcases z with z | z
    · exact absurd z (ne 6 (by omega) (by omega))
    · exact absurd z (ne 7 (by omega) (by omega))
  · rw [eD] at hd
    exact zw_ch_keep (by omega) (X3 d hd) (fun _ _ => rfl) rfl rfl (fun _ _ => ⟨rfl, rfl⟩)
/-- a frame opened -/
theorem zw_open (H : zt_1 pa tb re cnt f (op n) (im n) (T n) (T (n + 1)) n k) (hk : 1 ≤ k ∧ k ≤ 3) (X : zw_X op im T n st sf sm fC sI sD L) :
    zw_X op im T (n + 1) st sf sm (upd fC (zc_D (T n)) (-1)) sI sD (zw_uL L (zc_D (T n)) []) := by
  obtain ⟨X1, X2, X3, X4, X5⟩ := X
  have hk42 := H.1
  have eD : zc_D (T (n + 1)) = zc_D (T n) + 1 := by rw [zn_D H, if_pos hk]
  have ne : ∀ m, m < 42 → k ≠ m → op n ≠ nI m := fun m hm q w => q (zt_k H.2.1 H.1 hm w)
  refine ⟨zw_own_ext X1 (fun s _ => ⟨rfl, rfl⟩) (fun z => ?_) (fun z => absurd z (ne 4 (by omega) (by omega))) (fun z => absurd z (ne 8 (by omega) (by omega))),
    zw_site_ext X2 (by omega) (fun s _ => ⟨rfl, rfl, rfl, rfl, rfl⟩) (fun d hd s z => by unfold zw_uL; rw [if_neg (by omega)]; exact z) (fun s u v => absurd (zw_no H.2.1 H.1 (by omega) u) v), fun d hd => ?_,
    zw_if_ext X4 (by omega) (fun _ _ _ => rfl) (ne 4 (by omega) (by omega)) (fun _ => eD),
    zw_tb_ext X5 (fun _ _ _ => rfl) (fun z => absurd z (ne 8 (by omega) (by omega)))⟩
  · rcases z with z | z
    · exact absurd z (ne 6 (by omega) (by omega))
    · exact absurd z (ne 7 (by omega) (by omega))
  · by_cases z : d = zc_D (T n)
    · subst z
      have e : zw_uL L (zc_D (T n)) [] (zc_D (T n)) = [] := if_pos rfl
      unfold zw_ch1
      rw [e, pk_us]
      exact ⟨rfl, List.nodup_nil, fun s hs => by cases hs⟩
    · exact zw_ch_keep (by omega) (X3 d (by omega)) (fun _ _ => rfl) (pk_un z) (if_neg z) (fun _ _ => ⟨rfl, rfl⟩)
/-- new links, j of them from site b on -/
def zw_lks (c : zc_C) (b j : Nat) (dx : Nat → Nat) (st fC : Nat → Int32) (L : Nat → List Nat) (st' fC' : Nat → Int32) (L' : Nat → List Nat) : Prop :=
  (∀ s, (s < b ∨ b + j ≤ s) → st' s = st s) ∧
  (∀ d, d < zc_D c → zw_lk st' (fC' d) (L' d) ∧ (L' d).Nodup ∧ (∀ s, s ∈ L d → s ∈ L' d) ∧ (∀ s, s ∈ L' d → s ∈ L d ∨ ∃ x, x < j ∧ s = b + x ∧ dx x = d ∧ zc_K c d ≠ 2)) ∧
  (∀ x, x < j → (zc_K c (dx x) = 2 ∧ st' (b + x) = nI (zc_A c (dx x) + 1)) ∨ (zc_K c (dx x) ≠ 2 ∧ b + x ∈ L' (dx x)))
def zw_lst (c : zc_C) (d s : Nat) (st fC : Nat → Int32) : Nat → Int32 := upd st s (if zc_K c d = 2 then nI (zc_A c d + 1) else fC d)
def zw_lfC (c : zc_C) (d s : Nat) (fC : Nat → Int32) : Nat → Int32 := if zc_K c d = 2 then fC else upd fC d (nI s)
def zw_lL (c : zc_C) (d s : Nat) (L : Nat → List Nat) : Nat → List Nat := if zc_K c d = 2 then L else zw_uL L d (s :: L d)
theorem zw_lks0 {c : zc_C} {b : Nat} {dx : Nat → Nat} (h : ∀ d, d < zc_D c → zw_lk st (fC d) (L d) ∧ (L d).Nodup) : zw_lks c b 0 dx st fC L st fC L :=
  ⟨fun _ _ => rfl, fun d hd => ⟨(h d hd).1, (h d hd).2, fun _ z => z, fun _ z => Or.inl z⟩, fun x hx => by omega⟩
theorem zw_lks1 {c : zc_C} {b j : Nat} {dx : Nat → Nat} (h : zw_lks c b j dx st fC L st' fC' L') (hd : dx j < zc_D c) (hb : ∀ d, d < zc_D c → ∀ s, s ∈ L d → s < b ∨ b + j < s) :
    zw_lks c b (j + 1) dx st fC L (zw_lst c (dx j) (b + j) st' fC') (zw_lfC c (dx j) (b + j) fC') (zw_lL c (dx j) (b + j) L') := by
  obtain ⟨h1, h2, h3⟩ := h
  have fresh : ∀ d, d < zc_D c → ∀ s, s ∈ L' d → s ≠ b + j := by
    intro d hd' s hs e
    rcases (h2 d hd').2.2.2 s hs with w | ⟨x, w1, w2, _⟩
    · have := hb d hd' s w; omega
    · omega
  refine ⟨fun s hs => ?_, fun d hd' => ?_, fun x hx => ?_⟩
  · unfold zw_lst
    rw [pk_un (by omega)]
    exact h1 s (by omega)
  · obtain ⟨a1, a2, a3, a4⟩ := h2 d hd'
    have hst : ∀ s, s ∈ L' d → zw_lst c (dx j) (b + j) st' fC' s = st' s := fun s hs => pk_un (fresh d hd' s hs)
    by_cases K2 : zc_K c (dx j) = 2
    · have e1 : zw_lfC c (dx j) (b + j) fC' = fC' := if_pos K2
      have e2 : zw_lL c (dx j) (b + j) L' = L' := if_pos K2
      rw [e1, e2]
      refine ⟨zw_lkc hst a1, a2, a3, fun s hs => ?_⟩
      rcases a4 s hs with w | ⟨x, w1, w2⟩
      · exact Or.inl w
      · exact Or.inr ⟨x, by omega, w2⟩
    · have e1 : zw_lfC c (dx j) (b + j) fC' = upd fC' (dx j) (nI (b + j)) := if_neg K2
      have e2 : zw_lL c (dx j) (b + j) L' = zw_uL L' (dx j) ((b + j) :: L' (dx j)) := if_neg K2
      rw [e1, e2]
      by_cases z : d = dx j
      · subst z
        have e3 : zw_uL L' (dx j) ((b + j) :: L' (dx j)) (dx j) = (b + j) :: L' (dx j) := if_pos rfl
        rw [e3, pk_us]
        refine ⟨⟨rfl, ?_⟩, List.nodup_cons.mpr ⟨fun w => fresh _ hd' _ w rfl, a2⟩, fun s hs => List.mem_cons_of_mem _ (a3 s hs), fun s hs => ?_⟩
        · have e4 : zw_lst c (dx j) (b + j) st' fC' (b + j) = fC' (dx j) := by unfold zw_lst; rw [pk_us, if_neg K2]
          rw [e4]; exact zw_lkc hst a1
        · rcases List.mem_cons.mp hs with w | w
          · exact Or.inr ⟨j, by omega, w, rfl, K2⟩
          · rcases a4 s w with y | ⟨x, y1, y2⟩
            · exact Or.inl y
            · exact Or.inr ⟨x, by omega, y2⟩
      · have e3 : zw_uL L' (dx j) ((b + j) :: L' (dx j)) d = L' d := if_neg z
        rw [e3, pk_un z]
        refine ⟨zw_lkc hst a1, a2, a3, fun s hs => ?_⟩
        rcases a4 s hs with w | ⟨x, w1, w2⟩
        · exact Or.inl w
        · exact Or.inr ⟨x, by omega, w2⟩
  · by_cases z : x = j
    · subst z
      by_cases K2 : zc_K c (dx x) = 2
      · refine Or.inl ⟨K2, ?_⟩
        unfold zw_lst; rw [pk_us, if_pos K2]
      · refine Or.inr ⟨K2, ?_⟩
        have e2 : zw_lL c (dx x) (b + x) L' = zw_uL L' (dx x) ((b + x) :: L' (dx x)) := if_neg K2
        have e3 : zw_uL L' (dx x) ((b + x) :: L' (dx x)) (dx x) = (b + x) :: L' (dx x) := if_pos rfl
        rw [e2, e3]; exact List.mem_cons_self ..
    · rcases h3 x (by omega) with w | w
      · refine Or.inl ⟨w.1, ?_⟩
        unfold zw_lst; rw [pk_un (by omega)]; exact w.2
      · refine Or.inr ⟨w.1, ?_⟩
        unfold zw_lL
        split
        · exact w.2
        · unfold zw_uL
          split
          · rename_i e; rw [← e]; exact List.mem_cons_of_mem _ w.2
          · exact w.2
/-- the forms of new links -/
def zw_fms (c : zc_C) (b j : Nat) (dx : Nat → Nat) (sf sm sf' sm' : Nat → Int32) : Prop :=
  (∀ s, (s < b ∨ b + j ≤ s) → sf' s = sf s ∧ sm' s = sm s) ∧ ∀ x, x < j → sf' (b + x) = nI (zc_H c (dx x)) ∧ sm' (b + x) = zw_fm c (dx x)
theorem zw_fms1 {c : zc_C} {b j : Nat} {dx : Nat → Nat} (h : zw_fms c b j dx sf sm sf' sm') : zw_fms c b (j + 1) dx sf sm (upd sf' (b + j) (nI (zc_H c (dx j)))) (upd sm' (b + j) (zw_fm c (dx j))) := by
  refine ⟨fun s hs => ?_, fun x hx => ?_⟩
  · rw [pk_un (by omega), pk_un (by omega)]; exact h.1 s (by omega)
  · by_cases z : x = j
    · subst z; rw [pk_us, pk_us]; exact ⟨rfl, rfl⟩
    · rw [pk_un (by omega), pk_un (by omega)]; exact h.2 x (by omega)
/-- new links of one instruction -/
theorem zw_link {st1 : Nat → Int32} {b j : Nat} {dx : Nat → Nat} (X : zw_X op im T n st sf sm fC sI sD L) (eD : zc_D (T (n + 1)) = zc_D (T n))
    (hu : ∀ s, zw_used op im (n + 1) s → zw_used op im n s ∨ (b ≤ s ∧ s < b + j)) (hu2 : ∀ s, b ≤ s → s < b + j → zw_used op im (n + 1) s) (hv : ∀ s, zw_used op im n s → s < b ∨ b + j ≤ s)
    (h1 : ∀ s, zw_used op im n s → st1 s = st s) (hdx : ∀ x, x < j → dx x < zc_D (T n)) (K : zw_lks (T n) b j dx st1 fC L st' fC' L') (F : op n ≠ 4 → zw_fms (T n) b j dx sf sm sf' sm') (F4 : op n = 4 → sf' = sf ∧ sm' = sm)
    (hI : ∀ s, zw_used op im n s → sI' s = sI s ∧ sD' s = sD s) (hI2 : ∀ x, x < j → sI' (b + x) = n ∧ sD' (b + x) = dx x)
    (hown : zw_own op im T (n + 1) sI' sD') (hif : zw_if op T (n + 1) st') (htb : zw_tb op im (n + 1) st') : zw_X op im T (n + 1) st' sf' sm' fC' sI' sD' L' := by
  obtain ⟨X1, X2, X3, X4, X5⟩ := X
  obtain ⟨k1, k2, k3⟩ := K
  refine ⟨hown, zw_site_ext X2 (by omega) (fun s u => ?_) (fun d hd s hs => (k2 d hd).2.2.1 s hs) (fun s u v => ?_), fun d hd => ?_, hif, htb⟩
  · have w := hv s u
    have wf : sf' s = sf s ∧ sm' s = sm s := by
      by_cases z : op n = 4
      · rw [(F4 z).1, (F4 z).2]; exact ⟨rfl, rfl⟩
      · exact (F z).1 s w
    exact ⟨(k1 s w).trans (h1 s u), wf.1, wf.2, (hI s u).1, (hI s u).2⟩
  · rcases hu s u with w | w
    · exact absurd w v
    · obtain ⟨x, rfl⟩ : ∃ x, s = b + x := ⟨s - b, by omega⟩
      have hx : x < j := by omega
      rw [(hI2 x hx).2]
      exact ⟨(hI2 x hx).1, hdx x hx, k3 x hx, fun z => (F z).2 x hx⟩
  · rw [eD] at hd
    obtain ⟨a1, a2, a3, a4⟩ := k2 d hd
    refine ⟨a1, a2, fun s hs => ?_⟩
    rcases a4 s hs with w | ⟨x, w1, w2, w3, w4⟩
    · obtain ⟨c1, c2, c3, c4⟩ := (X3 d hd).2.2 s w
      rw [(hI s c1).1, (hI s c1).2]
      exact ⟨zw_um c1, c2, c3, zt_stS c4 (by omega)⟩
    · rw [w2, (hI2 x w1).1, (hI2 x w1).2]
      refine ⟨hu2 _ (by omega) (by omega), w3, w4, fun i h1 h2 => ?_⟩
      have : i = n ∨ i = n + 1 := by omega
      rcases this with z | z <;> rw [z] <;> omega
end
end
section
/-! one more instruction: branches, tables, ELSE, END -/
section
variable {pa tb re : Nat → Int32} {cnt f : Nat} {op : Nat → Int32} {im : Nat → Int64} {T : Nat → zc_C} {n k : Nat} {st sf sm fC st' sf' sm' fC' : Nat → Int32} {sI sD sI' sD' : Nat → Nat} {L L' : Nat → List Nat}
theorem zw_us (hn : n ≤ 64) {s : Nat} (u : zw_used op im n s) : s < n ∨ (64 ≤ s ∧ s < 64 + zw_sum op im n) := u.imp (fun z => z.1) id
theorem zw_br (H : zt_1 pa tb re cnt f (op n) (im n) (T n) (T (n + 1)) n k) (hk : k = 6 ∨ k = 7) (hn : n < 64) (X : zw_X op im T n st sf sm fC sI sD L) (hl : (im n).toInt32.toNatClampNeg < zc_D (T n)) :
    zw_X op im T (n + 1) (zw_lst (T n) (zc_D (T n) - 1 - (im n).toInt32.toNatClampNeg) n st fC) (upd sf n (nI (zc_H (T n) (zc_D (T n) - 1 - (im n).toInt32.toNatClampNeg)))) (upd sm n (zw_fm (T n) (zc_D (T n) - 1 - (im n).toInt32.toNatClampNeg)))
      (zw_lfC (T n) (zc_D (T n) - 1 - (im n).toInt32.toNatClampNeg) n fC) (zc_u sI n n) (zc_u sD n (zc_D (T n) - 1 - (im n).toInt32.toNatClampNeg)) (zw_lL (T n) (zc_D (T n) - 1 - (im n).toInt32.toNatClampNeg) n L) := by
  have eD : zc_D (T (n + 1)) = zc_D (T n) := by rw [zn_D H, if_neg (by omega), if_neg (by omega)]
  have ne : ∀ m, m < 42 → k ≠ m → op n ≠ nI m := fun m hm q w => q (zt_k H.2.1 H.1 hm w)
  have eS : zw_sum op im (n + 1) = zw_sum op im n := by
    show zw_sum op im n + (if op n = 8 then zc_n (im n) + 1 else 0) = _
    rw [if_neg (show ¬ op n = 8 from ne 8 (by omega) (by omega))]; rfl
  have X' := X
  obtain ⟨X1, X2, X3, X4, X5⟩ := X
  have hI : ∀ s, zw_used op im n s → zc_u sI n n s = sI s ∧ zc_u sD n (zc_D (T n) - 1 - (im n).toInt32.toNatClampNeg) s = sD s := fun s u => by
    have := zw_us (by omega) u
    rw [zc_un (by omega), zc_un (by omega)]; exact ⟨rfl, rfl⟩
  refine zw_link (b := n) (j := 1) (dx := fun _ => zc_D (T n) - 1 - (im n).toInt32.toNatClampNeg) (st1 := st) X' eD (fun s u => ?_) (fun s h1 h2 => ?_) (fun s u => ?_) (fun s _ => rfl) (fun _ _ => by omega) ?_ (fun _ => ?_) (fun z => absurd z (ne 4 (by omega) (by omega))) hI (fun x hx => ?_) (zw_own_ext X1 hI (fun _ => ⟨zc_us, zc_us⟩) (fun z => absurd z (ne 4 (by omega) (by omega))) (fun z => absurd z (ne 8 (by omega) (by omega)))) (zw_if_ext X4 (by omega) (fun i hi _ => ?_) (ne 4 (by omega) (by omega)) (fun z => absurd z (ne 3 (by omega) (by omega)))) (zw_tb_ext X5 (fun i hi _ => ?_) (fun z => absurd z (ne 8 (by omega) (by omega))))
  · rcases u with ⟨u1, u2⟩ | u
    · by_cases z : s = n
      · exact Or.inr (by omega)
      · exact Or.inl (Or.inl ⟨by omega, u2⟩)
    · rw [eS] at u; exact Or.inl (Or.inr u)
  · have e : s = n := by omega
    subst e
    refine Or.inl ⟨by omega, ?_⟩
    rcases hk with rfl | rfl
    · exact Or.inr (Or.inl H.2.1)
    · exact Or.inr (Or.inr H.2.1)
  · have := zw_us (by omega) u; omega
  · exact zw_lks1 (j := 0) (dx := fun _ => zc_D (T n) - 1 - (im n).toInt32.toNatClampNeg) (zw_lks0 (fun d hd => ⟨(X3 d hd).1, (X3 d hd).2.1⟩)) (by show zc_D (T n) - 1 - _ < _; omega) (fun d hd s hs => by
      have := zw_us (by omega) ((X3 d hd).2.2 s hs).1; omega)
  · exact zw_fms1 (j := 0) (dx := fun _ => zc_D (T n) - 1 - (im n).toInt32.toNatClampNeg) ⟨fun _ _ => ⟨rfl, rfl⟩, fun x hx => by omega⟩
  · have e : x = 0 := by omega
    subst e
    exact ⟨zc_us, zc_us⟩
  · exact pk_un (by omega)
  · exact pk_un (by omega)
theorem zw_table (H : zt_1 pa tb re cnt f (op n) (im n) (T n) (T (n + 1)) n 8) (hn : n < 64) (X : zw_X op im T n st sf sm fC sI sD L)
    (hl : ∀ j, j ≤ zc_n (im n) → zc_lb (im n) j < zc_D (T n))
    (K : zw_lks (T n) (64 + zw_sum op im n) (zc_n (im n) + 1) (fun x => zc_D (T n) - 1 - zc_lb (im n) x) (upd st n (nI (zw_sum op im n))) fC L st' fC' L')
    (F : zw_fms (T n) (64 + zw_sum op im n) (zc_n (im n) + 1) (fun x => zc_D (T n) - 1 - zc_lb (im n) x) sf sm sf' sm') :
    zw_X op im T (n + 1) st' sf' sm' fC' (fun s => if 64 + zw_sum op im n ≤ s ∧ s < 64 + zw_sum op im n + (zc_n (im n) + 1) then n else sI s)
      (fun s => if 64 + zw_sum op im n ≤ s ∧ s < 64 + zw_sum op im n + (zc_n (im n) + 1) then zc_D (T n) - 1 - zc_lb (im n) (s - (64 + zw_sum op im n)) else sD s) L' := by
  have eD : zc_D (T (n + 1)) = zc_D (T n) := by rw [zn_D H, if_neg (by omega), if_neg (by omega)]
  have e8 : op n = 8 := H.2.1
  have ne : ∀ m, m < 42 → 8 ≠ m → op n ≠ nI m := fun m hm q w => q (zt_k H.2.1 H.1 hm w)
  have eS : zw_sum op im (n + 1) = zw_sum op im n + (zc_n (im n) + 1) := by
    show zw_sum op im n + (if op n = 8 then zc_n (im n) + 1 else 0) = _
    rw [if_pos e8]
  have hD1 := H.2.2.1.1
  have X' := X
  obtain ⟨X1, X2, X3, X4, X5⟩ := X
  have hst : ∀ i, i < n → st' i = st i := fun i hi => by rw [K.1 i (by omega), pk_un (by omega)]
  have hI : ∀ s, zw_used op im n s → (fun s => if 64 + zw_sum op im n ≤ s ∧ s < 64 + zw_sum op im n + (zc_n (im n) + 1) then n else sI s) s = sI s ∧ (fun s => if 64 + zw_sum op im n ≤ s ∧ s < 64 + zw_sum op im n + (zc_n (im n) + 1) then zc_D (T n) - 1 - zc_lb (im n) (s - (64 + zw_sum op im n)) else sD s) s = sD s := fun s u => by
    have := zw_us (by omega) u
    exact ⟨if_neg (by omega), if_neg (by omega)⟩
  have hI2 : ∀ x, x < zc_n (im n) + 1 → (fun s => if 64 + zw_sum op im n ≤ s ∧ s < 64 + zw_sum op im n + (zc_n (im n) + 1) then n else sI s) (64 + zw_sum op im n + x) = n ∧ (fun s => if 64 + zw_sum op im n ≤ s ∧ s < 64 + zw_sum op im n + (zc_n (im n) + 1) then zc_D (T n) - 1 - zc_lb (im n) (s - (64 + zw_sum op im n)) else sD s) (64 + zw_sum op im n + x) = zc_D (T n) - 1 - zc_lb (im n) x := fun x hx => by
    refine ⟨if_pos (by omega), ?_⟩
    show (if _ then zc_D (T n) - 1 - zc_lb (im n) (64 + zw_sum op im n + x - (64 + zw_sum op im n)) else _) = _
    rw [if_pos (by omega), Nat.add_sub_cancel_left]
  refine zw_link (b := 64 + zw_sum op im n) (j := zc_n (im n) + 1) (st1 := upd st n (nI (zw_sum op im n))) X' eD (fun s u => ?_) (fun s h1 h2 => ?_) (fun s u => ?_) (fun s u => ?_) (fun x hx => ?_) K (fun _ => F) (fun z => absurd z (ne 4 (by omega) (by omega))) hI hI2
    (zw_own_ext X1 hI (fun z => ?_) (fun z => absurd z (ne 4 (by omega) (by omega))) (fun _ j hj => hI2 j (by omega))) (zw_if_ext X4 (by omega) (fun i hi _ => hst i hi) (ne 4 (by omega) (by omega)) (fun z => absurd z (ne 3 (by omega) (by omega)))) (zw_tb_ext X5 (fun i hi _ => hst i hi) (fun _ => by rw [K.1 n (by omega), pk_us]))
  · rcases u with ⟨u1, u2⟩ | u
    · by_cases z : s = n
      · subst z
        rcases u2 with w | w | w
        · exact absurd w (ne 4 (by omega) (by omega))
        · exact absurd w (ne 6 (by omega) (by omega))
        · exact absurd w (ne 7 (by omega) (by omega))
      · exact Or.inl (Or.inl ⟨by omega, u2⟩)
    · rw [eS] at u
      by_cases z : s < 64 + zw_sum op im n
      · exact Or.inl (Or.inr ⟨u.1, z⟩)
      · exact Or.inr (by omega)
  · exact Or.inr ⟨by omega, by rw [eS]; omega⟩
  · have := zw_us (by omega) u; omega
  · have := zw_us (by omega) u
    exact pk_un (by omega)
  · have := hl x (by omega)
    show zc_D (T n) - 1 - zc_lb (im n) x < zc_D (T n)
    omega
  · rcases z with z | z
    · exact absurd z (ne 6 (by omega) (by omega))
    · exact absurd z (ne 7 (by omega) (by omega))
/-- the start of the innermost frame -/
theorem zw_top (HF : zt_F pa tb re cnt f op im T n) (h2 : 2 ≤ zc_D (T n)) :
    ∃ k, zc_A (T n) (zc_D (T n) - 1) < n ∧ zt_1 pa tb re cnt f (op (zc_A (T n) (zc_D (T n) - 1))) (im (zc_A (T n) (zc_D (T n) - 1))) (T (zc_A (T n) (zc_D (T n) - 1))) (T (zc_A (T n) (zc_D (T n) - 1) + 1)) (zc_A (T n) (zc_D (T n) - 1)) k ∧ (1 ≤ k ∧ k ≤ 3) ∧
      zc_D (T (zc_A (T n) (zc_D (T n) - 1))) = zc_D (T n) - 1 ∧ zt_st T (zc_D (T n) - 1) (zc_A (T n) (zc_D (T n) - 1) + 1) n := by
  obtain ⟨i, k, h1, h2, h3, h4, h5, h6⟩ := zt_orig HF n (Nat.le_refl _) (zc_D (T n) - 1) (by omega) (by omega)
  rw [h2]
  exact ⟨k, h1, h3, h4, h5, h6⟩
theorem zw_nus {k' i : Nat} (H : zt_1 pa tb re cnt f (op i) (im i) (T i) (T (i + 1)) i k') (hk : 1 ≤ k' ∧ k' ≤ 3) (hi : i < 64) {s : Nat} (u : zw_used op im n s) : s ≠ i := by
  intro e
  subst e
  rcases u with u | u
  · rcases u.2 with w | w | w
    · have := zt_k (m := 4) H.2.1 H.1 (by omega) w; omega
    · have := zt_k (m := 6) H.2.1 H.1 (by omega) w; omega
    · have := zt_k (m := 7) H.2.1 H.1 (by omega) w; omega
  · omega
/-- an IF that is settled isn't the innermost open frame of kind IF -/
theorem zw_set1 (HF : zt_F pa tb re cnt f op im T n) (h2 : 2 ≤ zc_D (T n)) (hK : zc_K (T n) (zc_D (T n) - 1) = 3) {i : Nat} (hi : i < n) (q : zw_i1 op T n st i ∨ zw_i2 op T n st i) : i ≠ zc_A (T n) (zc_D (T n) - 1) := by
  obtain ⟨k, t1, t2, t3, t4, t5⟩ := zw_top HF h2
  intro e
  rw [← e] at t1 t2 t4 t5
  have w := zt_if HF t2 t3 n t1 (Nat.le_refl _) (by rw [t4]; exact t5)
  rw [t4] at w
  obtain ⟨w1, w2⟩ := w.mp hK
  rcases q with ⟨j, q1, q2, q3, q4, q5, q6, q7⟩ | ⟨e', q1, q2, q3⟩
  · rw [t4] at q4
    exact w2 j q1 q2 ⟨q3, q4⟩
  · obtain ⟨r1, r2, r3, r4, r5⟩ := q1
    obtain ⟨k', H'⟩ := HF.2 e' r2
    have k5 : k' = 5 := zt_k H'.2.1 H'.1 (by omega) r3
    subst k5
    have d1 := (zn_5 H').1
    have d2 := t5 (e' + 1) (by omega) (by omega)
    rw [t4] at r4
    omega
theorem zw_else (HF : zt_F pa tb re cnt f op im T n) (H : zt_1 pa tb re cnt f (op n) (im n) (T n) (T (n + 1)) n 4) (hn : n < 64) (X : zw_X op im T n st sf sm fC sI sD L) :
    zw_X op im T (n + 1) (upd (upd st (zc_A (T n) (zc_D (T n) - 1)) (nI (n + 1))) n (fC (zc_D (T n) - 1))) sf sm (upd fC (zc_D (T n) - 1) (nI n)) (zc_u sI n n) (zc_u sD n (zc_D (T n) - 1)) (zw_uL L (zc_D (T n) - 1) (n :: L (zc_D (T n) - 1))) := by
  have hK := (zn_4 H).2.2.2.2.2.2.2.2.2
  have hok := H.2.2.1
  have h2 : 2 ≤ zc_D (T n) := by
    rcases Nat.lt_or_ge 1 (zc_D (T n)) with y | y
    · exact y
    · have e : zc_D (T n) - 1 = 0 := by omega
      rw [e, hok.2.2.2.2.2.2.2.2.1] at hK; exact absurd hK (by decide)
  have K2 : zc_K (T n) (zc_D (T n) - 1) ≠ 2 := by rw [hK]; decide
  obtain ⟨kk, t1, t2, t3, t4, t5⟩ := zw_top HF h2
  have hset := fun i hi q => zw_set1 (st := st) HF h2 hK (i := i) hi q
  have hfr := fun {i k'} (Hi : zt_1 pa tb re cnt f (op i) (im i) (T i) (T (i + 1)) i k') hk' (hi : i < n) hs => (zt_fr HF Hi hk' hi (Nat.le_refl _) hs).1
  have eD : zc_D (T (n + 1)) = zc_D (T n) := (zn_4 H).1
  have ne : ∀ m, m < 42 → 4 ≠ m → op n ≠ nI m := fun m hm q w => q (zt_k H.2.1 H.1 hm w)
  have eS : zw_sum op im (n + 1) = zw_sum op im n := by
    show zw_sum op im n + (if op n = 8 then zc_n (im n) + 1 else 0) = _
    rw [if_neg (show ¬ op n = 8 from ne 8 (by omega) (by omega))]; rfl
  have X' := X
  obtain ⟨X1, X2, X3, X4, X5⟩ := X
  have hI : ∀ s, zw_used op im n s → zc_u sI n n s = sI s ∧ zc_u sD n (zc_D (T n) - 1) s = sD s := fun s u => by
    have := zw_us (by omega) u
    rw [zc_un (by omega), zc_un (by omega)]; exact ⟨rfl, rfl⟩
  have hu1 : ∀ s, zw_used op im n s → upd st (zc_A (T n) (zc_D (T n) - 1)) (nI (n + 1)) s = st s := fun s u => pk_un (zw_nus t2 t3 (by omega) u)
  have K : zw_lks (T n) n 1 (fun _ => zc_D (T n) - 1) (upd st (zc_A (T n) (zc_D (T n) - 1)) (nI (n + 1))) fC L (upd (upd st (zc_A (T n) (zc_D (T n) - 1)) (nI (n + 1))) n (fC (zc_D (T n) - 1))) (upd fC (zc_D (T n) - 1) (nI n)) (zw_uL L (zc_D (T n) - 1) (n :: L (zc_D (T n) - 1))) := by
    have q := zw_lks1 (c := T n) (b := n) (j := 0) (dx := fun _ => zc_D (T n) - 1) (zw_lks0 (st := upd st (zc_A (T n) (zc_D (T n) - 1)) (nI (n + 1))) (fC := fC) (L := L) (fun d hd => ⟨zw_lkc (fun s hs => hu1 s ((X3 d hd).2.2 s hs).1) (X3 d hd).1, (X3 d hd).2.1⟩)) (by show zc_D (T n) - 1 < _; omega) (fun d hd s hs => by
      have := zw_us (by omega) ((X3 d hd).2.2 s hs).1; omega)
    unfold zw_lst zw_lfC zw_lL at q
    rw [if_neg K2, if_neg K2, if_neg K2] at q
    exact q
  refine zw_link (b := n) (j := 1) (dx := fun _ => zc_D (T n) - 1) X' eD (fun s u => ?_) (fun s h1 h2 => ?_) (fun s u => ?_) hu1 (fun _ _ => by omega) K (fun z => absurd H.2.1 z) (fun _ => ⟨rfl, rfl⟩) hI (fun x hx => ?_)
    (zw_own_ext X1 hI (fun z => ?_) (fun _ => ⟨zc_us, zc_us⟩) (fun z => absurd z (ne 8 (by omega) (by omega)))) (fun i hi q => ?_) (zw_tb_ext X5 (fun i hi q => ?_) (fun z => absurd z (ne 8 (by omega) (by omega))))
  · rcases u with ⟨u1, u2⟩ | u
    · by_cases z : s = n
      · exact Or.inr (by omega)
      · exact Or.inl (Or.inl ⟨by omega, u2⟩)
    · rw [eS] at u; exact Or.inl (Or.inr u)
  · have e : s = n := by omega
    subst e
    exact Or.inl ⟨by omega, Or.inl H.2.1⟩
  · have := zw_us (by omega) u; omega
  · have e : x = 0 := by omega
    subst e
    exact ⟨zc_us, zc_us⟩
  · rcases z with z | z
    · exact absurd z (ne 6 (by omega) (by omega))
    · exact absurd z (ne 7 (by omega) (by omega))
  · have hin : i ≠ n := fun z => by rw [z] at q; exact absurd q (ne 3 (by omega) (by omega))
    have hi' : i < n := by omega
    rcases X4 i hi' q with w | w | w
    · exact Or.inl (zw_i1m (by rw [pk_un hin, pk_un (hset i hi' (Or.inl w))]) w)
    · exact Or.inr (Or.inl (zw_i2m (by rw [pk_un hin, pk_un (hset i hi' (Or.inr w))]) w))
    · obtain ⟨w1, w2⟩ := w
      have g := w1 n (by omega) (Nat.le_refl _)
      by_cases z : zc_D (T n) = zc_D (T i) + 1
      · refine Or.inl ⟨n, hi', by omega, H.2.1, z, w1, w2, ?_⟩
        obtain ⟨k', Hi⟩ := HF.2 i hi'
        have k3 : k' = 3 := zt_k Hi.2.1 Hi.1 (by omega) q
        have eA := hfr Hi (by omega) hi' w1
        have e1 : zc_D (T n) - 1 = zc_D (T i) := by omega
        rw [pk_un hin, e1, eA, pk_us]
      · exact Or.inr (Or.inr ⟨zt_stS w1 (by omega), zw_nem (Or.inr z) w2⟩)
  · have h8 : i ≠ zc_A (T n) (zc_D (T n) - 1) := fun e => by
      rw [← e] at t2
      have := zt_k (m := 8) t2.2.1 t2.1 (by omega) q; omega
    rw [pk_un (by omega), pk_un h8]
theorem zw_end {g : Int32} (HF : zt_F pa tb re cnt f op im T n) (H : zt_1 pa tb re cnt f (op n) (im n) (T n) (T (n + 1)) n 5) (hn : n < 64) (X : zw_X op im T n st sf sm fC sI sD L)
    (hg : g = nI (if zc_D (T n) - 1 = 0 then n else n + 1))
    (h1 : ∀ s, s ∈ L (zc_D (T n) - 1) → st' s = g)
    (h2 : ∀ s, s ∉ L (zc_D (T n) - 1) → ¬ (zc_K (T n) (zc_D (T n) - 1) = 3 ∧ s = zc_A (T n) (zc_D (T n) - 1)) → st' s = st s)
    (h3 : zc_K (T n) (zc_D (T n) - 1) = 3 → zc_A (T n) (zc_D (T n) - 1) ∉ L (zc_D (T n) - 1) → st' (zc_A (T n) (zc_D (T n) - 1)) = g) :
    zw_X op im T (n + 1) st' sf sm fC sI sD L := by
  have hok := H.2.2.1
  have hD1 := hok.1
  obtain ⟨X1, X2, X3, X4, X5⟩ := X
  have eD : zc_D (T (n + 1)) = zc_D (T n) - 1 := (zn_5 H).1
  have ne : ∀ m, m < 42 → 5 ≠ m → op n ≠ nI m := fun m hm q w => q (zt_k H.2.1 H.1 hm w)
  have h2D : zc_K (T n) (zc_D (T n) - 1) = 3 → 2 ≤ zc_D (T n) := fun hK => by
    rcases Nat.lt_or_ge 1 (zc_D (T n)) with y | y
    · exact y
    · have e : zc_D (T n) - 1 = 0 := by omega
      rw [e, hok.2.2.2.2.2.2.2.2.1] at hK; exact absurd hK (by decide)
  have hC := X3 (zc_D (T n) - 1) (by omega)
  have hA : ∀ s, zw_used op im n s → zc_K (T n) (zc_D (T n) - 1) = 3 → s ≠ zc_A (T n) (zc_D (T n) - 1) := fun s u hK => by
    obtain ⟨kk, t1, t2, t3, t4, t5⟩ := zw_top HF (h2D hK)
    exact zw_nus t2 t3 (by omega) u
  have hst : ∀ s, zw_used op im n s → s ∉ L (zc_D (T n) - 1) → st' s = st s := fun s u v => h2 s v (fun z => hA s u z.1 z.2)
  have hE : ∀ s, s ∈ L (zc_D (T n) - 1) → zc_K (T (sI s)) (sD s) ≠ 2 ∧ ∃ e, zt_E op T (n + 1) (sD s) (sI s) e ∧ st' s = nI (if sD s = 0 then e else e + 1) := fun s hs => by
    obtain ⟨c1, c2, c3, c4⟩ := hC.2.2 s hs
    rw [c2]
    have l := (X2 s c1).1
    refine ⟨c3, n, ⟨by omega, by omega, H.2.1, by omega, c4⟩, ?_⟩
    rw [h1 s hs, hg]
  refine ⟨zw_own_ext X1 (fun s _ => ⟨rfl, rfl⟩) (fun z => ?_) (fun z => absurd z (ne 4 (by omega) (by omega))) (fun z => absurd z (ne 8 (by omega) (by omega))), fun s u => ?_, fun d hd => ?_, fun i hi q => ?_, zw_tb_ext X5 (fun i hi q => ?_) (fun z => absurd z (ne 8 (by omega) (by omega)))⟩
  · rcases z with z | z
    · exact absurd z (ne 6 (by omega) (by omega))
    · exact absurd z (ne 7 (by omega) (by omega))
  · have u' := zw_no H.2.1 H.1 (by omega) u
    obtain ⟨a, b, c, d⟩ := X2 s u'
    refine ⟨by omega, b, ?_, d⟩
    by_cases hs : s ∈ L (zc_D (T n) - 1)
    · exact Or.inr (Or.inl (hE s hs))
    · have e := hst s u' hs
      unfold zw_st
      rw [e]
      rcases c with c | ⟨c1, e', c2, c3⟩ | ⟨c1, c2, c3⟩
      · exact Or.inl c
      · exact Or.inr (Or.inl ⟨c1, e', zt_Em c2 (by omega), c3⟩)
      · have w := c3 n (by omega) (Nat.le_refl _)
        have nd : sD s ≠ zc_D (T n) - 1 := fun z => by rw [z] at c2; exact hs c2
        exact Or.inr (Or.inr ⟨c1, c2, zt_stS c3 (by omega)⟩)
  · rw [eD] at hd
    have C := X3 d (by omega)
    refine zw_ch_keep (by omega) C (fun s hs => ?_) rfl rfl (fun _ _ => ⟨rfl, rfl⟩)
    obtain ⟨c1, c2, c3, c4⟩ := C.2.2 s hs
    refine hst s c1 (fun w => ?_)
    have := (hC.2.2 s w).2.1
    omega
  · have hin : i ≠ n := fun z => by rw [z] at q; exact absurd q (ne 3 (by omega) (by omega))
    have hi' : i < n := by omega
    obtain ⟨k', Hi⟩ := HF.2 i hi'
    have k3 : k' = 3 := zt_k Hi.2.1 Hi.1 (by omega) q
    subst k3
    have niL : ∀ d, d < zc_D (T n) → i ∉ L d := fun d hd w => zw_nus Hi (by omega) (by omega) ((X3 d hd).2.2 i w).1 rfl
    have hsame : (zw_i1 op T n st i ∨ zw_i2 op T n st i) → st' i = st i := fun w => h2 i (niL _ (by omega)) (fun z => zw_set1 HF (h2D z.1) z.1 hi' w z.2)
    rcases X4 i hi' q with w | w | w
    · exact Or.inl (zw_i1m (hsame (Or.inl w)) w)
    · exact Or.inr (Or.inl (zw_i2m (hsame (Or.inr w)) w))
    · obtain ⟨w1, w2⟩ := w
      have g1 := w1 n (by omega) (Nat.le_refl _)
      by_cases z : zc_D (T n) = zc_D (T i) + 1
      · have e1 : zc_D (T n) - 1 = zc_D (T i) := by omega
        have hDi : 1 ≤ zc_D (T i) := Hi.2.2.1.1
        have eA := (zt_fr HF Hi (by omega) hi' (Nat.le_refl _) w1).1
        have eK := (zt_if HF Hi (by omega) n hi' (Nat.le_refl _) w1).mpr ⟨rfl, w2⟩
        refine Or.inr (Or.inl ⟨n, ⟨by omega, by omega, H.2.1, z, w1⟩, w2, ?_⟩)
        rw [← e1] at eA eK
        have y := h3 eK (by rw [eA]; exact niL _ (by omega))
        rw [eA] at y
        rw [y, hg, if_neg (by omega)]
      · exact Or.inr (Or.inr ⟨zt_stS w1 (by omega), zw_nem (Or.inr z) w2⟩)
  · have h8 : ∀ kk, zt_1 pa tb re cnt f (op i) (im i) (T i) (T (i + 1)) i kk → kk = 8 := fun kk Hi => zt_k Hi.2.1 Hi.1 (by omega) q
    refine h2 i (fun w => ?_) (fun w => ?_)
    · have c1 := (hC.2.2 i w).1
      rcases c1 with c1 | c1
      · rw [q] at c1
        rcases c1.2 with y | y | y <;> exact absurd y (by decide)
      · omega
    · obtain ⟨kk, t1, t2, t3, t4, t5⟩ := zw_top HF (h2D w.1)
      rw [← w.2] at t2
      have := h8 kk t2; omega
end
end
section
/-! the component commits a rule -/
theorem zk_b0 : vp_nar .boolean 0 = 0 := rfl
theorem zk_b1 : vp_nar .boolean 1 = 1 := rfl
section
variable {fl cl ms fu cnt opn tu oc fc cu pu mk us dep top pc tr : Int32} {lr : Int64} {pa lo tb re sta len ops sT sF sM oT fK fT fH fU fS fC mem aF aA aT : Nat → Int32} {imm arg glo cel loc : Nat → Int64} {c c1 : zc_C} {k s f a g n cur : Nat} {im : Int64} {t o m i : Int32}
theorem zx_append {post : Int32 → SX → Prop} (hf : f < 4) (hn : n < 64) (ho : opn = nI f) (hl : len f = nI n)
    (hp : post (nI n) (fl, cl, ms, fu, cnt, opn, tu, oc, fc, cu, pu, mk, lr, us, dep, top, pc, tr, pa, lo, tb, re, sta, upd len f (nI (n + 1)), upd ops (64 * f + n) o, vp_updL imm (64 * f + n) im, sT, sF, sM, oT, fK, fT, fH, fU, fS, fC, arg, glo, mem, aF, aA, aT, cel, loc)) : wpX_append post (fl, cl, ms, fu, cnt, opn, tu, oc, fc, cu, pu, mk, lr, us, dep, top, pc, tr, pa, lo, tb, re, sta, len, ops, imm, sT, sF, sM, oT, fK, fT, fH, fU, fS, fC, arg, glo, mem, aF, aA, aT, cel, loc) o im := by
  subst ho
  have ec : (nI f).toNatClampNeg = f := nI_clamp (by omega)
  have hin : vp_in (nI f) 4 := vp_in_nI hf (by decide)
  have ea : nI f * 64 + nI n = nI (64 * f + n) := by
    rw [show nI f * 64 = nI (f * 64) from pk_mul f 64, nI_add, Nat.mul_comm f 64]
  have hin2 : vp_in (nI (64 * f + n)) 256 := vp_in_nI (by omega) (by decide)
  have ec2 : (nI (64 * f + n)).toNatClampNeg = 64 * f + n := nI_clamp (by omega)
  refine ⟨hin, nm_r (e' := nI n) (by rw [ec, hl]) (nm_r (e' := nI (64 * f + n)) ea ⟨hin2, nm_r (e' := upd ops (64 * f + n) o) (by rw [ec2]) ⟨hin2, nm_r (e' := vp_updL imm (64 * f + n) im) (by rw [ec2]) ⟨hin, nm_r (e' := upd len f (nI (n + 1))) (by rw [ec, nI_1]) hp⟩⟩⟩)⟩
theorem zx_settle {post : SX → Prop} (hok : zc_ok c) (h12 : m = 0 → cur + zc_o o ≤ 12) (e : c1 = zc_set c cur o m) (hp : post (fl, cl, ms, fu, cnt, opn, tu, nI (zc_S c1), nI (zc_D c1), nI cur, o, m, lr, us, dep, top, pc, tr, pa, lo, tb, re, sta, len, ops, imm, sT, sF, sM, zc_T c1, zc_K c1, zc_B c1, zc_z (zc_H c1), zc_U c1, zc_z (zc_A c1), fC, arg, glo, mem, aF, aA, aT, cel, loc)) : wpX_settleOperands post (fl, cl, ms, fu, cnt, opn, tu, nI (zc_S c), nI (zc_D c), nI cur, o, m, lr, us, dep, top, pc, tr, pa, lo, tb, re, sta, len, ops, imm, sT, sF, sM, zc_T c, zc_K c, zc_B c, zc_z (zc_H c), zc_U c, zc_z (zc_A c), fC, arg, glo, mem, aF, aA, aT, cel, loc) := by
  have hD := hok.1
  have hD8 := hok.2.1
  have ec : (nI (zc_D c - 1)).toNatClampNeg = zc_D c - 1 := nI_clamp (by omega)
  have hin : vp_in (nI (zc_D c - 1)) 8 := vp_in_nI (by omega) (by decide)
  by_cases hm : m = 0
  · have e1 : c1 = (cur + zc_o o, zc_w (zc_T c) cur o, zc_D c, zc_K c, zc_B c, zc_H c, zc_U c, zc_A c) := by rw [e]; unfold zc_set; rw [if_pos hm]
    subst e1
    refine br_t hm ?_
    by_cases ho : o = 0
    · have q : zc_S (cur + zc_o o, zc_w (zc_T c) cur o, zc_D c, zc_K c, zc_B c, zc_H c, zc_U c, zc_A c) = cur := by show cur + zc_o o = cur; rw [zc_o0 ho]; rfl
      have q2 : zc_T (cur + zc_o o, zc_w (zc_T c) cur o, zc_D c, zc_K c, zc_B c, zc_H c, zc_U c, zc_A c) = zc_T c := zc_w0 ho
      rw [q, q2] at hp
      exact br_t ho hp
    · have q : zc_S (cur + zc_o o, zc_w (zc_T c) cur o, zc_D c, zc_K c, zc_B c, zc_H c, zc_U c, zc_A c) = cur + 1 := by show cur + zc_o o = cur + 1; rw [zc_o1 ho]
      have q2 : zc_T (cur + zc_o o, zc_w (zc_T c) cur o, zc_D c, zc_K c, zc_B c, zc_H c, zc_U c, zc_A c) = upd (zc_T c) cur o := zc_w1 ho
      have l := h12 hm
      rw [zc_o1 ho] at l
      rw [q, q2] at hp
      refine br_f ho (br_f (nI_ge (b := 12) (by omega) (by decide)) ⟨vp_in_nI (by omega) (by decide), nm_r (e' := upd (zc_T c) cur o) (by rw [nI_clamp (by omega)]) (nm_r (nI_1 cur) hp)⟩)
  · have e1 : c1 = (zc_h c, zc_T c, zc_D c, zc_K c, zc_B c, zc_H c, upd (zc_U c) (zc_D c - 1) 1, zc_A c) := by rw [e]; unfold zc_set; rw [if_neg hm]
    subst e1
    refine br_f hm (nm_r (e' := nI (zc_D c - 1)) (pk_sub (b := 1) hD) ⟨hin, nm_r (e' := nI (zc_h c)) (by rw [ec]; rfl) ⟨hin, nm_r (e' := upd (zc_U c) (zc_D c - 1) 1) (by rw [ec]; rfl) hp⟩⟩)
theorem zx_add {post : SX → Prop} (hD8 : zc_D c < 8) (hk : 1 ≤ k ∧ k ≤ 3) (e : c1 = zc_ctl k cur a i c)
    (hp : post (fl, cl, ms, fu, cnt, opn, tu, nI (zc_S c1), nI (zc_D c1), nI cur, pu, mk, lr, us, dep, top, pc, tr, pa, lo, tb, re, sta, len, ops, imm, sT, sF, sM, zc_T c1, zc_K c1, zc_B c1, zc_z (zc_H c1), zc_U c1, zc_z (zc_A c1), upd fC (zc_D c) (-1), arg, glo, mem, aF, aA, aT, cel, loc)) : wpX_addFrame post (fl, cl, ms, fu, cnt, opn, tu, nI (zc_S c), nI (zc_D c), nI cur, pu, mk, lr, us, dep, top, pc, tr, pa, lo, tb, re, sta, len, ops, imm, sT, sF, sM, zc_T c, zc_K c, zc_B c, zc_z (zc_H c), zc_U c, zc_z (zc_A c), fC, arg, glo, mem, aF, aA, aT, cel, loc) (nI k) i (nI cur) (nI a) := by
  have ec : (nI (zc_D c)).toNatClampNeg = zc_D c := nI_clamp (by omega)
  have hin : vp_in (nI (zc_D c)) 8 := vp_in_nI (by omega) (by decide)
  have e1 : c1 = (zc_S c, zc_T c, zc_D c + 1, upd (zc_K c) (zc_D c) (nI k), upd (zc_B c) (zc_D c) i, zc_u (zc_H c) (zc_D c) cur, upd (zc_U c) (zc_D c) 0, zc_u (zc_A c) (zc_D c) a) := by rw [e]; unfold zc_ctl; rw [if_pos hk]
  subst e1
  refine br_t (nI_lt (b := 8) hD8 (by decide)) ⟨hin, nm_r (e' := upd (zc_K c) (zc_D c) (nI k)) (by rw [ec]) ⟨hin, nm_r (e' := upd (zc_B c) (zc_D c) i) (by rw [ec]) ⟨hin, nm_r (e' := zc_z (zc_u (zc_H c) (zc_D c) cur)) (by rw [ec]; exact zc_zu _ _ _) ⟨hin, nm_r (e' := upd (zc_U c) (zc_D c) 0) (by rw [ec]; rfl) ⟨hin, nm_r (e' := zc_z (zc_u (zc_A c) (zc_D c) a)) (by rw [ec]; exact zc_zu _ _ _) ⟨hin, nm_r (e' := upd fC (zc_D c) (-1)) (by rw [ec]) (nm_r (nI_1 (zc_D c)) hp)⟩⟩⟩⟩⟩⟩
/-- the address of a site -/
theorem zx_sa (hf : f < 4) (hs : s < 96) : nI f * 96 + nI s = nI (96 * f + s) ∧ vp_in (nI (96 * f + s)) 384 ∧ (nI (96 * f + s)).toNatClampNeg = 96 * f + s := by
  refine ⟨?_, vp_in_nI (by omega) (by decide), nI_clamp (by omega)⟩
  rw [show nI f * 96 = nI (f * 96) from pk_mul f 96, nI_add, Nat.mul_comm f 96]
theorem zx_lbr {post : SX → Prop} {l : Nat} (hok : zc_ok c) (hf : f < 4) (ho : opn = nI f) (hs : s < 96) (hl : l < zc_D c)
    (hp : post (fl, cl, ms, fu, cnt, opn, tu, nI (zc_S c), nI (zc_D c), cu, pu, mk, lr, us, dep, top, pc, tr, pa, lo, tb, re, sta, len, ops, imm, upd sT (96 * f + s) (if zc_K c (zc_D c - 1 - l) = 2 then nI (zc_A c (zc_D c - 1 - l) + 1) else fC (zc_D c - 1 - l)), upd sF (96 * f + s) (nI (zc_H c (zc_D c - 1 - l))), upd sM (96 * f + s) (zw_fm c (zc_D c - 1 - l)), zc_T c, zc_K c, zc_B c, zc_z (zc_H c), zc_U c, zc_z (zc_A c), zw_lfC c (zc_D c - 1 - l) s fC, arg, glo, mem, aF, aA, aT, cel, loc)) :
    wpX_linkBranch post (fl, cl, ms, fu, cnt, opn, tu, nI (zc_S c), nI (zc_D c), cu, pu, mk, lr, us, dep, top, pc, tr, pa, lo, tb, re, sta, len, ops, imm, sT, sF, sM, zc_T c, zc_K c, zc_B c, zc_z (zc_H c), zc_U c, zc_z (zc_A c), fC, arg, glo, mem, aF, aA, aT, cel, loc) (nI s) (nI l) := by
  subst ho
  have hD8 := hok.2.1
  obtain ⟨ea, hin4, ec4⟩ := zx_sa (f := f) (s := s) hf hs
  have ed : nI (zc_D c) - 1 - nI l = nI (zc_D c - 1 - l) := by
    rw [show nI (zc_D c) - 1 = nI (zc_D c - 1) from pk_sub (b := 1) (by omega)]
    exact pk_sub (by omega)
  have ec : (nI (zc_D c - 1 - l)).toNatClampNeg = zc_D c - 1 - l := nI_clamp (by omega)
  have hin : vp_in (nI (zc_D c - 1 - l)) 8 := vp_in_nI (by omega) (by decide)
  have A : ∀ z0 : Int32, (if zw_ld c (zc_D c - 1 - l) = 0 then 0 else 1) = z0 → wX_linkBranch_37 post (nI s) (nI (zc_D c - 1 - l)) (nI (96 * f + s)) z0 fl cl ms fu cnt (nI f) tu (nI (zc_S c)) (nI (zc_D c)) cu pu mk lr us dep top pc tr pa lo tb re sta len ops imm sT sF sM (zc_T c) (zc_K c) (zc_B c) (zc_z (zc_H c)) (zc_U c) (zc_z (zc_A c)) fC arg glo mem aF aA aT cel loc := by
    intro z0 hz
    refine ⟨hin, ?_⟩
    by_cases K2 : zc_K c (zc_D c - 1 - l) = 2
    · rw [if_pos K2] at hp
      have e1 : zw_lfC c (zc_D c - 1 - l) s fC = fC := if_pos K2
      have e2 : zw_fm c (zc_D c - 1 - l) = z0 + 2 := by unfold zw_fm zw_f0; rw [if_pos K2, hz]
      rw [e1, e2] at hp
      refine br_t (by rw [ec]; exact K2) (nm_e ⟨hin, hin4, nm_r (e' := upd sT (96 * f + s) (nI (zc_A c (zc_D c - 1 - l) + 1))) (by rw [ec, ec4]; exact congrArg (upd sT (96 * f + s)) (nI_1 _)) ?_⟩)
      exact ⟨hin4, nm_r (e' := upd sM (96 * f + s) (z0 + 2)) (by rw [ec4]) ⟨hin, hin4, nm_r (e' := upd sF (96 * f + s) (nI (zc_H c (zc_D c - 1 - l)))) (by rw [ec, ec4]; rfl) hp⟩⟩
    · rw [if_neg K2] at hp
      have e1 : zw_lfC c (zc_D c - 1 - l) s fC = upd fC (zc_D c - 1 - l) (nI s) := if_neg K2
      have e2 : zw_fm c (zc_D c - 1 - l) = z0 := by unfold zw_fm zw_f0; rw [if_neg K2, hz]
      rw [e1, e2] at hp
      refine br_f (by rw [ec]; exact K2) ⟨hin, hin4, nm_r (e' := upd sT (96 * f + s) (fC (zc_D c - 1 - l))) (by rw [ec, ec4]) ⟨hin, nm_r (e' := upd fC (zc_D c - 1 - l) (nI s)) (by rw [ec]) ?_⟩⟩
      exact ⟨hin4, nm_r (e' := upd sM (96 * f + s) z0) (by rw [ec4]) ⟨hin, hin4, nm_r (e' := upd sF (96 * f + s) (nI (zc_H c (zc_D c - 1 - l)))) (by rw [ec, ec4]; rfl) hp⟩⟩
  refine nm_r ed (nm_r ea (zx_lt hok hl ?_))
  have el : zc_lt c l = zw_ld c (zc_D c - 1 - l) := rfl
  rw [el]
  by_cases z : zw_ld c (zc_D c - 1 - l) = 0
  · exact br_t z (A 0 (if_pos z))
  · exact br_f z (A 1 (if_neg z))
theorem zx_else {post : SX → Prop} (hok : zc_ok c) (hf : f < 4) (ho : opn = nI f) (hn : n < 64) (hA : zc_A c (zc_D c - 1) < 64) (e : c1 = zc_ctl 4 cur a i c)
    (hp : post (fl, cl, ms, fu, cnt, opn, tu, nI (zc_S c1), nI (zc_D c1), cu, pu, mk, lr, us, dep, top, pc, tr, pa, lo, tb, re, sta, len, ops, imm, upd (upd sT (96 * f + zc_A c (zc_D c - 1)) (nI (n + 1))) (96 * f + n) (fC (zc_D c - 1)), sF, sM, zc_T c1, zc_K c1, zc_B c1, zc_z (zc_H c1), zc_U c1, zc_z (zc_A c1), upd fC (zc_D c - 1) (nI n), arg, glo, mem, aF, aA, aT, cel, loc)) : wpX_turnToElse post (fl, cl, ms, fu, cnt, opn, tu, nI (zc_S c), nI (zc_D c), cu, pu, mk, lr, us, dep, top, pc, tr, pa, lo, tb, re, sta, len, ops, imm, sT, sF, sM, zc_T c, zc_K c, zc_B c, zc_z (zc_H c), zc_U c, zc_z (zc_A c), fC, arg, glo, mem, aF, aA, aT, cel, loc) (nI n) := by
  subst ho
  have hD := hok.1
  have hD8 := hok.2.1
  obtain ⟨ea, hin4, ec4⟩ := zx_sa (f := f) (s := n) hf (by omega)
  obtain ⟨eb, hin5, ec5⟩ := zx_sa (f := f) (s := zc_A c (zc_D c - 1)) hf (by omega)
  have ec : (nI (zc_D c - 1)).toNatClampNeg = zc_D c - 1 := nI_clamp (by omega)
  have hin : vp_in (nI (zc_D c - 1)) 8 := vp_in_nI (by omega) (by decide)
  have eS : nI f * 96 + zc_z (zc_A c) (nI (zc_D c - 1)).toNatClampNeg = nI (96 * f + zc_A c (zc_D c - 1)) := by rw [ec]; exact eb
  have e1 : c1 = (zc_S c, zc_T c, zc_D c, upd (zc_K c) (zc_D c - 1) 4, zc_B c, zc_H c, upd (zc_U c) (zc_D c - 1) 0, zc_A c) := by rw [e]; unfold zc_ctl; rw [if_neg (by omega), if_pos rfl]
  subst e1
  refine nm_r (e' := nI (zc_D c - 1)) (pk_sub (b := 1) hD) (nm_e ⟨hin, ?_, ?_⟩)
  · rw [eS]; exact hin5
  · refine nm_r (e' := upd sT (96 * f + zc_A c (zc_D c - 1)) (nI (n + 1))) (by rw [eS, ec5, nI_1]) ⟨hin, nm_r (e' := upd (zc_K c) (zc_D c - 1) 4) (by rw [ec]) ⟨hin, nm_r (e' := upd (zc_U c) (zc_D c - 1) 0) (by rw [ec]; rfl) ⟨hin, ?_, ?_⟩⟩⟩
    · rw [ea]; exact hin4
    · exact nm_r (e' := upd (upd sT (96 * f + zc_A c (zc_D c - 1)) (nI (n + 1))) (96 * f + n) (fC (zc_D c - 1))) (by rw [ea, ec4, ec]) ⟨hin, nm_r (e' := upd fC (zc_D c - 1) (nI n)) (by rw [ec]) hp⟩
/-- the loop that settles a chain -/
theorem zx_endl {post : SX → Prop} {x2 x4 x5 : Int32} (hf : f < 4) : ∀ (L : List Nat) (fuel j : Nat) (h : Int32) (sT : Nat → Int32), L.length < fuel → j + L.length ≤ 96 → L.Nodup → (∀ s, s ∈ L → s < 96) → zw_lk (fun s => sT (96 * f + s)) h L →
    (∀ sT' : Nat → Int32, (∀ s, s ∈ L → sT' (96 * f + s) = x5) → (∀ y, (∀ s, s ∈ L → y ≠ 96 * f + s) → sT' y = sT y) → wX_endFrame_125 post x2 x4 fl cl ms fu cnt opn tu oc fc cu pu mk lr us dep top pc tr pa lo tb re sta len ops imm sT' sF sM oT fK fT fH fU fS fC arg glo mem aF aA aT cel loc) →
    wX_endFrame_81 post x2 (nI f * 96) x4 x5 fl cl ms fu cnt opn tu oc fc cu pu mk lr us dep top pc tr fuel h (nI j) pa lo tb re sta len ops imm sT sF sM oT fK fT fH fU fS fC arg glo mem aF aA aT cel loc
  | [], fuel + 1, j, h, sT, _, hj, _, _, hk, hp => by
    have e : h = -1 := hk
    have q := hp sT (fun s hs => by cases hs) (fun _ _ => rfl)
    subst e
    by_cases z : 96 ≤ j
    · exact br_t (nI_le z (by have : j ≤ 96 := hj; omega)) q
    · exact br_f (nI_ge (b := 96) (by omega) (by decide)) (br_t (by decide) q)
  | s :: L, fuel + 1, j, h, sT, hl, hj, hn, hb, hk, hp => by
    have e : h = nI s := hk.1
    subst e
    have hs : s < 96 := hb s (List.mem_cons_self ..)
    obtain ⟨ea, hin, ec⟩ := zx_sa (f := f) (s := s) hf hs
    have hl' : L.length + 1 < fuel + 1 := hl
    have hj' : j + (L.length + 1) ≤ 96 := hj
    obtain ⟨n1, n2⟩ := List.nodup_cons.mp hn
    refine br_f (nI_ge (b := 96) (by omega) (by decide)) (br_f (nI_pos (by omega)) ⟨by rw [ea]; exact hin, nm_r (e' := sT (96 * f + s)) (by rw [ea, ec]) ⟨by rw [ea]; exact hin, nm_r (e' := upd sT (96 * f + s) x5) (by rw [ea, ec]) (nm_r (nI_1 j) ?_)⟩⟩)
    have hne : ∀ x, x ∈ L → 96 * f + x ≠ 96 * f + s := fun x hx w => by
      have w' : x = s := by omega
      rw [w'] at hx; exact n1 hx
    have hk' : zw_lk (fun y => upd sT (96 * f + s) x5 (96 * f + y)) (sT (96 * f + s)) L := zw_lkc (fun x hx => pk_un (hne x hx)) hk.2
    refine zx_endl hf L fuel (j + 1) (sT (96 * f + s)) (upd sT (96 * f + s) x5) (by omega) (by omega) n2 (fun x hx => hb x (List.mem_cons_of_mem _ hx)) hk' (fun sT' h1 h2 => hp sT' (fun x hx => ?_) (fun y hy => ?_))
    · rcases List.mem_cons.mp hx with w | w
      · subst w
        rw [h2 (96 * f + x) (fun y hy w => hne y hy w.symm), pk_us]
      · exact h1 x w
    · rw [h2 y (fun x hx => hy x (List.mem_cons_of_mem _ hx)), pk_un (hy s (List.mem_cons_self ..))]
theorem zw_len : ∀ (N : Nat) (L : List Nat), L.Nodup → (∀ s, s ∈ L → s < N) → L.length ≤ N
  | 0, L, _, h => by
    cases L with
    | nil => exact Nat.le_refl _
    | cons x L => exact absurd (h x (List.mem_cons_self ..)) (by omega)
  | N + 1, L, hn, h => by
    have q := zw_len N (L.erase N) (hn.erase N) (fun s hs => by
      have h1 := h s (List.mem_of_mem_erase hs)
      have h2 : s ≠ N := fun e => by
        subst e
        exact (List.Nodup.not_mem_erase hn) hs
      omega)
    have l := List.length_erase (a := N) (l := L)
    split at l <;> omega
end
end
section
/-! the relation -/
/-- a complete function -/
def zr_CO (pa tb re len ops sT sF sM : Nat → Int32) (imm : Nat → Int64) (nc g : Nat) : Prop :=
  ∃ (T : Nat → zc_C) (n : Nat), n ≤ 64 ∧ len g = nI n ∧ zt_F pa tb re nc g (fun i => ops (64 * g + i)) (fun i => imm (64 * g + i)) T n ∧ zc_D (T n) = 0 ∧
    zw_R (fun i => ops (64 * g + i)) (fun i => imm (64 * g + i)) T n (fun s => sT (96 * g + s)) (fun s => sF (96 * g + s)) (fun s => sM (96 * g + s))
/-- the open body -/
def zr_OB (pa tb re len ops sT sF sM fC : Nat → Int32) (imm : Nat → Int64) (nc f : Nat) (c : zc_C) (n : Nat) (tu : Int32) : Prop :=
  n ≤ 64 ∧ len f = nI n ∧ zc_ok c ∧ ∃ (T : Nat → zc_C) (sI sD : Nat → Nat) (L : Nat → List Nat), T n = c ∧
    zt_F pa tb re nc f (fun i => ops (64 * f + i)) (fun i => imm (64 * f + i)) T n ∧ tu = nI (zw_sum (fun i => ops (64 * f + i)) (fun i => imm (64 * f + i)) n) ∧ zw_sum (fun i => ops (64 * f + i)) (fun i => imm (64 * f + i)) n ≤ 32 ∧
    zw_X (fun i => ops (64 * f + i)) (fun i => imm (64 * f + i)) T n (fun s => sT (96 * f + s)) (fun s => sF (96 * f + s)) (fun s => sM (96 * f + s)) fC sI sD L
def zr_op (pa tb re sta len ops sT sF sM fC oT fK fT fH fU fS : Nat → Int32) (imm : Nat → Int64) (nc ncl : Nat) (opn tu oc fc : Int32) : Prop :=
  (opn = -1 ∧ tu = 0 ∧ oc = 0 ∧ fc = 0 ∧ (∃ H, fH = zc_z H) ∧ ∃ A, fS = zc_z A) ∨ ∃ (f : Nat) (c : zc_C) (n : Nat), f < nc ∧ opn = nI f ∧ sta f = 1 ∧ n ≤ ncl ∧
    (oc = nI (zc_S c) ∧ fc = nI (zc_D c) ∧ oT = zc_T c ∧ fK = zc_K c ∧ fT = zc_B c ∧ fH = zc_z (zc_H c) ∧ fU = zc_U c ∧ fS = zc_z (zc_A c)) ∧ zr_OB pa tb re len ops sT sF sM fC imm nc f c n tu
def zr_fn (pa tb re sta len ops sT sF sM : Nat → Int32) (imm : Nat → Int64) (nc : Nat) : Prop :=
  (∀ g, nc ≤ g → sta g = 0 ∧ len g = 0) ∧ (∀ g, g < nc → (sta g = 2 → zr_CO pa tb re len ops sT sF sM imm nc g) ∧ ∃ n, n ≤ 64 ∧ len g = nI n)
def zr_nm (fl cl ms fu cnt : Int32) (nc nl ncl nms nfu : Nat) : Prop :=
  cnt = nI nc ∧ fl = nI nl ∧ nc ≤ nl ∧ nl ≤ 4 ∧ cl = nI ncl ∧ ncl ≤ 64 ∧ ms = nI nms ∧ nms ≤ 64 ∧ 8 ≤ nms ∧ fu = nI nfu ∧ nfu ≤ 100
def zr_I (fl cl ms fu cnt opn tu oc fc dep : Int32) (pa lo tb re sta len ops sT sF sM oT fK fT fH fU fS fC mem aA byt aP : Nat → Int32) (imm glo : Nat → Int64) : Prop :=
  ∃ nc nl ncl nms nfu nd : Nat, zr_nm fl cl ms fu cnt nc nl ncl nms nfu ∧ (dep = nI nd ∧ nd ≤ 8 ∧ ∀ b, b < nd → aA b = aP b) ∧ zc_sg pa lo re nc ∧
    (byt = fun j => mem j &&& 255) ∧ glo 0 = (glo 0).toInt32.toInt64 ∧ zr_fn pa tb re sta len ops sT sF sM imm nc ∧ zr_op pa tb re sta len ops sT sF sM fC oT fK fT fH fU fS imm nc ncl opn tu oc fc
def i_Rel (k : Nat) (u : SX) (v : SY) : Prop :=
  zr_I (u.1) (u.2.1) (u.2.2.1) (u.2.2.2.1) (u.2.2.2.2.1) (u.2.2.2.2.2.1) (u.2.2.2.2.2.2.1) (u.2.2.2.2.2.2.2.1) (u.2.2.2.2.2.2.2.2.1) (u.2.2.2.2.2.2.2.2.2.2.2.2.2.2.1) (u.2.2.2.2.2.2.2.2.2.2.2.2.2.2.2.2.2.2.1) (u.2.2.2.2.2.2.2.2.2.2.2.2.2.2.2.2.2.2.2.1) (u.2.2.2.2.2.2.2.2.2.2.2.2.2.2.2.2.2.2.2.2.1) (u.2.2.2.2.2.2.2.2.2.2.2.2.2.2.2.2.2.2.2.2.2.1) (u.2.2.2.2.2.2.2.2.2.2.2.2.2.2.2.2.2.2.2.2.2.2.1) (u.2.2.2.2.2.2.2.2.2.2.2.2.2.2.2.2.2.2.2.2.2.2.2.1) (u.2.2.2.2.2.2.2.2.2.2.2.2.2.2.2.2.2.2.2.2.2.2.2.2.1) (u.2.2.2.2.2.2.2.2.2.2.2.2.2.2.2.2.2.2.2.2.2.2.2.2.2.2.1) (u.2.2.2.2.2.2.2.2.2.2.2.2.2.2.2.2.2.2.2.2.2.2.2.2.2.2.2.1) (u.2.2.2.2.2.2.2.2.2.2.2.2.2.2.2.2.2.2.2.2.2.2.2.2.2.2.2.2.1) (u.2.2.2.2.2.2.2.2.2.2.2.2.2.2.2.2.2.2.2.2.2.2.2.2.2.2.2.2.2.1) (u.2.2.2.2.2.2.2.2.2.2.2.2.2.2.2.2.2.2.2.2.2.2.2.2.2.2.2.2.2.2.1) (u.2.2.2.2.2.2.2.2.2.2.2.2.2.2.2.2.2.2.2.2.2.2.2.2.2.2.2.2.2.2.2.1) (u.2.2.2.2.2.2.2.2.2.2.2.2.2.2.2.2.2.2.2.2.2.2.2.2.2.2.2.2.2.2.2.2.1) (u.2.2.2.2.2.2.2.2.2.2.2.2.2.2.2.2.2.2.2.2.2.2.2.2.2.2.2.2.2.2.2.2.2.1) (u.2.2.2.2.2.2.2.2.2.2.2.2.2.2.2.2.2.2.2.2.2.2.2.2.2.2.2.2.2.2.2.2.2.2.1) (u.2.2.2.2.2.2.2.2.2.2.2.2.2.2.2.2.2.2.2.2.2.2.2.2.2.2.2.2.2.2.2.2.2.2.2.1) (u.2.2.2.2.2.2.2.2.2.2.2.2.2.2.2.2.2.2.2.2.2.2.2.2.2.2.2.2.2.2.2.2.2.2.2.2.2.2.1) (u.2.2.2.2.2.2.2.2.2.2.2.2.2.2.2.2.2.2.2.2.2.2.2.2.2.2.2.2.2.2.2.2.2.2.2.2.2.2.2.2.1) (v.2.2.2.2.2.2.2.2.2.2.2.2.2.2.2.2.2.2.2.2.2.2.2.2.2.2.2.2.2.2.2.2.2.2.1) (v.2.2.2.2.2.2.2.2.2.2.2.2.2.2.2.2.2.2.2.2.2.2.2.2.2.2.2.2.1) (u.2.2.2.2.2.2.2.2.2.2.2.2.2.2.2.2.2.2.2.2.2.2.2.2.2.1) (u.2.2.2.2.2.2.2.2.2.2.2.2.2.2.2.2.2.2.2.2.2.2.2.2.2.2.2.2.2.2.2.2.2.2.2.2.2.1) ∧ v.1 = u.1 ∧ v.2.1 = u.2.1 ∧ v.2.2.1 = u.2.2.1 ∧ v.2.2.2.1 = u.2.2.2.1 ∧ v.2.2.2.2.1 = u.2.2.2.2.1 ∧ v.2.2.2.2.2.1 = u.2.2.2.2.2.1 ∧ v.2.2.2.2.2.2.2.2.2.1 = u.2.2.2.2.2.2.2.2.2.2.2.2.2.2.1 ∧ v.2.2.2.2.2.2.2.2.2.2.2.2.1 = u.2.2.2.2.2.2.2.2.2.2.2.2.2.1 ∧ v.2.2.2.2.2.2.2.2.2.2.2.2.2.2.1 = u.2.2.2.2.2.2.2.2.2.2.2.2.1 ∧ v.2.2.2.2.2.2.2.2.2.2.2.2.2.2.2.1 = u.2.2.2.2.2.2.2.2.2.2.2.2.2.2.2.2.2.2.1 ∧ v.2.2.2.2.2.2.2.2.2.2.2.2.2.2.2.2.1 = u.2.2.2.2.2.2.2.2.2.2.2.2.2.2.2.2.2.2.2.1 ∧ v.2.2.2.2.2.2.2.2.2.2.2.2.2.2.2.2.2.1 = u.2.2.2.2.2.2.2.2.2.2.2.2.2.2.2.2.2.2.2.2.1 ∧ v.2.2.2.2.2.2.2.2.2.2.2.2.2.2.2.2.2.2.1 = u.2.2.2.2.2.2.2.2.2.2.2.2.2.2.2.2.2.2.2.2.2.1 ∧ v.2.2.2.2.2.2.2.2.2.2.2.2.2.2.2.2.2.2.2.1 = u.2.2.2.2.2.2.2.2.2.2.2.2.2.2.2.2.2.2.2.2.2.2.1 ∧ v.2.2.2.2.2.2.2.2.2.2.2.2.2.2.2.2.2.2.2.2.1 = u.2.2.2.2.2.2.2.2.2.2.2.2.2.2.2.2.2.2.2.2.2.2.2.1 ∧ v.2.2.2.2.2.2.2.2.2.2.2.2.2.2.2.2.2.2.2.2.2.1 = u.2.2.2.2.2.2.2.2.2.2.2.2.2.2.2.2.2.2.2.2.2.2.2.2.1 ∧ v.2.2.2.2.2.2.2.2.2.2.2.2.2.2.2.2.2.2.2.2.2.2.2.2.2.2.2.1 = u.2.2.2.2.2.2.2.2.2.2.2.2.2.2.2.2.2.2.2.2.2.2.2.2.2.2.2.2.2.2.2.2.2.2.2.2.2.2.2.1 ∧ v.2.2.2.2.2.2.2.2.2.2.2.2.2.2.2.2.2.2.2.2.2.2.2.2.2.2.2.2.2.2.2.2.2.2.2.1 = u.2.2.2.2.2.2.2.2.2.2.2.2.2.2.2.2.2.2.2.2.2.2.2.2.2.1 ∧ v.2.2.2.2.2.2.2.2.2.2.2.2.2.2.2.2.2.2.2.2.2.2.2.2.2.2.2.2.2.2.2.2.2.2.2.2.2.1 = u.2.2.2.2.2.2.2.2.2.2.2.2.2.2.2.2.2.2.2.2.2.2.2.2.2.2.2.2.2.2.2.2.2.2.2.2.2.2.2.2.2.2.2 ∧ v.2.2.2.2.2.2.2.2.2.2.2.2.2.2.2.2.2.2.2.2.2.2.2.2.2.2.2.2.2.2.2.2.2.2.2.2.2.2.1 = u.2.2.2.2.2.2.2.2.2.2.2.2.2.2.2.2.2.2.2.2.2.2.2.2.2.2.2.2.2.2.2.2.2.2.2.2.2.1 ∧ v.2.2.2.2.2.2.2.2.2.2.2.2.2.2.2.2.2.2.2.2.2.2.2.2.2.2.2.2.2.2.2.2.2.2.2.2.2.2.2 = u.2.2.2.2.2.2.2.2.2.2.2.2.2.2.2.2.2.2.2.2.2.2.2.2.2.2.2.2.2.2.2.2.2.2.2.2.1
theorem i_up {k : Nat} {u : SX} {v : SY} (h : i_Rel k u v) : i_Rel (k + 5) u v := h
theorem zz_in {fl cl ms fu cnt opn tu oc fc cu pu mk us dep top pc tr er sz dp ytr nx tk : Int32} {lr : Int64} {pa lo tb re sta len ops sT sF sM oT fK fT fH fU fS fC mem aF aA aT ty kd bk hh dd aP aZ aL lP lF vt byt : Nat → Int32} {imm arg glo cel loc val : Nat → Int64} {k : Nat} (h : zr_I fl cl ms fu cnt opn tu oc fc dep pa lo tb re sta len ops sT sF sM oT fK fT fH fU fS fC mem aA byt aP imm glo) : i_Rel k (fl, cl, ms, fu, cnt, opn, tu, oc, fc, cu, pu, mk, lr, us, dep, top, pc, tr, pa, lo, tb, re, sta, len, ops, imm, sT, sF, sM, oT, fK, fT, fH, fU, fS, fC, arg, glo, mem, aF, aA, aT, cel, loc) (fl, cl, ms, fu, cnt, opn, er, sz, dp, dep, ytr, nx, us, tk, lr, pa, lo, tb, re, sta, len, ops, ty, kd, bk, hh, dd, aF, aP, aZ, aL, lP, lF, vt, byt, imm, val, loc, glo, arg) :=
  ⟨h, rfl, rfl, rfl, rfl, rfl, rfl, rfl, rfl, rfl, rfl, rfl, rfl, rfl, rfl, rfl, rfl, rfl, rfl, rfl, rfl, rfl⟩
theorem zz_el {P : SX → SY → Prop} (h : ∀ (fl cl ms fu cnt opn tu oc fc cu pu mk us dep top pc tr er sz dp ytr nx tk : Int32) (lr : Int64) (pa lo tb re sta len ops sT sF sM oT fK fT fH fU fS fC mem aF aA aT ty kd bk hh dd aP aZ aL lP lF vt byt : Nat → Int32) (imm arg glo cel loc val : Nat → Int64), zr_I fl cl ms fu cnt opn tu oc fc dep pa lo tb re sta len ops sT sF sM oT fK fT fH fU fS fC mem aA byt aP imm glo → P (fl, cl, ms, fu, cnt, opn, tu, oc, fc, cu, pu, mk, lr, us, dep, top, pc, tr, pa, lo, tb, re, sta, len, ops, imm, sT, sF, sM, oT, fK, fT, fH, fU, fS, fC, arg, glo, mem, aF, aA, aT, cel, loc) (fl, cl, ms, fu, cnt, opn, er, sz, dp, dep, ytr, nx, us, tk, lr, pa, lo, tb, re, sta, len, ops, ty, kd, bk, hh, dd, aF, aP, aZ, aL, lP, lF, vt, byt, imm, val, loc, glo, arg)) {k : Nat} {u : SX} {v : SY} (I : i_Rel k u v) : P u v := by
  obtain ⟨z, e_fl, e_cl, e_ms, e_fu, e_cnt, e_opn, e_dep, e_us, e_lr, e_pa, e_lo, e_tb, e_re, e_sta, e_len, e_ops, e_aF, e_imm, e_loc, e_glo, e_arg⟩ := I
  have ev : v = (u.1, u.2.1, u.2.2.1, u.2.2.2.1, u.2.2.2.2.1, u.2.2.2.2.2.1, v.2.2.2.2.2.2.1, v.2.2.2.2.2.2.2.1, v.2.2.2.2.2.2.2.2.1, u.2.2.2.2.2.2.2.2.2.2.2.2.2.2.1, v.2.2.2.2.2.2.2.2.2.2.1, v.2.2.2.2.2.2.2.2.2.2.2.1, u.2.2.2.2.2.2.2.2.2.2.2.2.2.1, v.2.2.2.2.2.2.2.2.2.2.2.2.2.1, u.2.2.2.2.2.2.2.2.2.2.2.2.1, u.2.2.2.2.2.2.2.2.2.2.2.2.2.2.2.2.2.2.1, u.2.2.2.2.2.2.2.2.2.2.2.2.2.2.2.2.2.2.2.1, u.2.2.2.2.2.2.2.2.2.2.2.2.2.2.2.2.2.2.2.2.1, u.2.2.2.2.2.2.2.2.2.2.2.2.2.2.2.2.2.2.2.2.2.1, u.2.2.2.2.2.2.2.2.2.2.2.2.2.2.2.2.2.2.2.2.2.2.1, u.2.2.2.2.2.2.2.2.2.2.2.2.2.2.2.2.2.2.2.2.2.2.2.1, u.2.2.2.2.2.2.2.2.2.2.2.2.2.2.2.2.2.2.2.2.2.2.2.2.1, v.2.2.2.2.2.2.2.2.2.2.2.2.2.2.2.2.2.2.2.2.2.2.1, v.2.2.2.2.2.2.2.2.2.2.2.2.2.2.2.2.2.2.2.2.2.2.2.1, v.2.2.2.2.2.2.2.2.2.2.2.2.2.2.2.2.2.2.2.2.2.2.2.2.1, v.2.2.2.2.2.2.2.2.2.2.2.2.2.2.2.2.2.2.2.2.2.2.2.2.2.1, v.2.2.2.2.2.2.2.2.2.2.2.2.2.2.2.2.2.2.2.2.2.2.2.2.2.2.1, u.2.2.2.2.2.2.2.2.2.2.2.2.2.2.2.2.2.2.2.2.2.2.2.2.2.2.2.2.2.2.2.2.2.2.2.2.2.2.2.1, v.2.2.2.2.2.2.2.2.2.2.2.2.2.2.2.2.2.2.2.2.2.2.2.2.2.2.2.2.1, v.2.2.2.2.2.2.2.2.2.2.2.2.2.2.2.2.2.2.2.2.2.2.2.2.2.2.2.2.2.1, v.2.2.2.2.2.2.2.2.2.2.2.2.2.2.2.2.2.2.2.2.2.2.2.2.2.2.2.2.2.2.1, v.2.2.2.2.2.2.2.2.2.2.2.2.2.2.2.2.2.2.2.2.2.2.2.2.2.2.2.2.2.2.2.1, v.2.2.2.2.2.2.2.2.2.2.2.2.2.2.2.2.2.2.2.2.2.2.2.2.2.2.2.2.2.2.2.2.1, v.2.2.2.2.2.2.2.2.2.2.2.2.2.2.2.2.2.2.2.2.2.2.2.2.2.2.2.2.2.2.2.2.2.1, v.2.2.2.2.2.2.2.2.2.2.2.2.2.2.2.2.2.2.2.2.2.2.2.2.2.2.2.2.2.2.2.2.2.2.1, u.2.2.2.2.2.2.2.2.2.2.2.2.2.2.2.2.2.2.2.2.2.2.2.2.2.1, v.2.2.2.2.2.2.2.2.2.2.2.2.2.2.2.2.2.2.2.2.2.2.2.2.2.2.2.2.2.2.2.2.2.2.2.2.1, u.2.2.2.2.2.2.2.2.2.2.2.2.2.2.2.2.2.2.2.2.2.2.2.2.2.2.2.2.2.2.2.2.2.2.2.2.2.2.2.2.2.2.2, u.2.2.2.2.2.2.2.2.2.2.2.2.2.2.2.2.2.2.2.2.2.2.2.2.2.2.2.2.2.2.2.2.2.2.2.2.2.1, u.2.2.2.2.2.2.2.2.2.2.2.2.2.2.2.2.2.2.2.2.2.2.2.2.2.2.2.2.2.2.2.2.2.2.2.2.1) := Prod.ext e_fl (Prod.ext e_cl (Prod.ext e_ms (Prod.ext e_fu (Prod.ext e_cnt (Prod.ext e_opn (Prod.ext rfl (Prod.ext rfl (Prod.ext rfl (Prod.ext e_dep (Prod.ext rfl (Prod.ext rfl (Prod.ext e_us (Prod.ext rfl (Prod.ext e_lr (Prod.ext e_pa (Prod.ext e_lo (Prod.ext e_tb (Prod.ext e_re (Prod.ext e_sta (Prod.ext e_len (Prod.ext e_ops (Prod.ext rfl (Prod.ext rfl (Prod.ext rfl (Prod.ext rfl (Prod.ext rfl (Prod.ext e_aF (Prod.ext rfl (Prod.ext rfl (Prod.ext rfl (Prod.ext rfl (Prod.ext rfl (Prod.ext rfl (Prod.ext rfl (Prod.ext e_imm (Prod.ext rfl (Prod.ext e_loc (Prod.ext e_glo (e_arg)))))))))))))))))))))))))))))))))))))))
  rw [ev]
  exact h (u.1) (u.2.1) (u.2.2.1) (u.2.2.2.1) (u.2.2.2.2.1) (u.2.2.2.2.2.1) (u.2.2.2.2.2.2.1) (u.2.2.2.2.2.2.2.1) (u.2.2.2.2.2.2.2.2.1) (u.2.2.2.2.2.2.2.2.2.1) (u.2.2.2.2.2.2.2.2.2.2.1) (u.2.2.2.2.2.2.2.2.2.2.2.1) (u.2.2.2.2.2.2.2.2.2.2.2.2.2.1) (u.2.2.2.2.2.2.2.2.2.2.2.2.2.2.1) (u.2.2.2.2.2.2.2.2.2.2.2.2.2.2.2.1) (u.2.2.2.2.2.2.2.2.2.2.2.2.2.2.2.2.1) (u.2.2.2.2.2.2.2.2.2.2.2.2.2.2.2.2.2.1) (v.2.2.2.2.2.2.1) (v.2.2.2.2.2.2.2.1) (v.2.2.2.2.2.2.2.2.1) (v.2.2.2.2.2.2.2.2.2.2.1) (v.2.2.2.2.2.2.2.2.2.2.2.1) (v.2.2.2.2.2.2.2.2.2.2.2.2.2.1) (u.2.2.2.2.2.2.2.2.2.2.2.2.1) (u.2.2.2.2.2.2.2.2.2.2.2.2.2.2.2.2.2.2.1) (u.2.2.2.2.2.2.2.2.2.2.2.2.2.2.2.2.2.2.2.1) (u.2.2.2.2.2.2.2.2.2.2.2.2.2.2.2.2.2.2.2.2.1) (u.2.2.2.2.2.2.2.2.2.2.2.2.2.2.2.2.2.2.2.2.2.1) (u.2.2.2.2.2.2.2.2.2.2.2.2.2.2.2.2.2.2.2.2.2.2.1) (u.2.2.2.2.2.2.2.2.2.2.2.2.2.2.2.2.2.2.2.2.2.2.2.1) (u.2.2.2.2.2.2.2.2.2.2.2.2.2.2.2.2.2.2.2.2.2.2.2.2.1) (u.2.2.2.2.2.2.2.2.2.2.2.2.2.2.2.2.2.2.2.2.2.2.2.2.2.2.1) (u.2.2.2.2.2.2.2.2.2.2.2.2.2.2.2.2.2.2.2.2.2.2.2.2.2.2.2.1) (u.2.2.2.2.2.2.2.2.2.2.2.2.2.2.2.2.2.2.2.2.2.2.2.2.2.2.2.2.1) (u.2.2.2.2.2.2.2.2.2.2.2.2.2.2.2.2.2.2.2.2.2.2.2.2.2.2.2.2.2.1) (u.2.2.2.2.2.2.2.2.2.2.2.2.2.2.2.2.2.2.2.2.2.2.2.2.2.2.2.2.2.2.1) (u.2.2.2.2.2.2.2.2.2.2.2.2.2.2.2.2.2.2.2.2.2.2.2.2.2.2.2.2.2.2.2.1) (u.2.2.2.2.2.2.2.2.2.2.2.2.2.2.2.2.2.2.2.2.2.2.2.2.2.2.2.2.2.2.2.2.1) (u.2.2.2.2.2.2.2.2.2.2.2.2.2.2.2.2.2.2.2.2.2.2.2.2.2.2.2.2.2.2.2.2.2.1) (u.2.2.2.2.2.2.2.2.2.2.2.2.2.2.2.2.2.2.2.2.2.2.2.2.2.2.2.2.2.2.2.2.2.2.1) (u.2.2.2.2.2.2.2.2.2.2.2.2.2.2.2.2.2.2.2.2.2.2.2.2.2.2.2.2.2.2.2.2.2.2.2.1) (u.2.2.2.2.2.2.2.2.2.2.2.2.2.2.2.2.2.2.2.2.2.2.2.2.2.2.2.2.2.2.2.2.2.2.2.2.2.2.1) (u.2.2.2.2.2.2.2.2.2.2.2.2.2.2.2.2.2.2.2.2.2.2.2.2.2.2.2.2.2.2.2.2.2.2.2.2.2.2.2.1) (u.2.2.2.2.2.2.2.2.2.2.2.2.2.2.2.2.2.2.2.2.2.2.2.2.2.2.2.2.2.2.2.2.2.2.2.2.2.2.2.2.1) (u.2.2.2.2.2.2.2.2.2.2.2.2.2.2.2.2.2.2.2.2.2.2.2.2.2.2.2.2.2.2.2.2.2.2.2.2.2.2.2.2.2.1) (v.2.2.2.2.2.2.2.2.2.2.2.2.2.2.2.2.2.2.2.2.2.2.1) (v.2.2.2.2.2.2.2.2.2.2.2.2.2.2.2.2.2.2.2.2.2.2.2.1) (v.2.2.2.2.2.2.2.2.2.2.2.2.2.2.2.2.2.2.2.2.2.2.2.2.1) (v.2.2.2.2.2.2.2.2.2.2.2.2.2.2.2.2.2.2.2.2.2.2.2.2.2.1) (v.2.2.2.2.2.2.2.2.2.2.2.2.2.2.2.2.2.2.2.2.2.2.2.2.2.2.1) (v.2.2.2.2.2.2.2.2.2.2.2.2.2.2.2.2.2.2.2.2.2.2.2.2.2.2.2.2.1) (v.2.2.2.2.2.2.2.2.2.2.2.2.2.2.2.2.2.2.2.2.2.2.2.2.2.2.2.2.2.1) (v.2.2.2.2.2.2.2.2.2.2.2.2.2.2.2.2.2.2.2.2.2.2.2.2.2.2.2.2.2.2.1) (v.2.2.2.2.2.2.2.2.2.2.2.2.2.2.2.2.2.2.2.2.2.2.2.2.2.2.2.2.2.2.2.1) (v.2.2.2.2.2.2.2.2.2.2.2.2.2.2.2.2.2.2.2.2.2.2.2.2.2.2.2.2.2.2.2.2.1) (v.2.2.2.2.2.2.2.2.2.2.2.2.2.2.2.2.2.2.2.2.2.2.2.2.2.2.2.2.2.2.2.2.2.1) (v.2.2.2.2.2.2.2.2.2.2.2.2.2.2.2.2.2.2.2.2.2.2.2.2.2.2.2.2.2.2.2.2.2.2.1) (u.2.2.2.2.2.2.2.2.2.2.2.2.2.2.2.2.2.2.2.2.2.2.2.2.2.1) (u.2.2.2.2.2.2.2.2.2.2.2.2.2.2.2.2.2.2.2.2.2.2.2.2.2.2.2.2.2.2.2.2.2.2.2.2.1) (u.2.2.2.2.2.2.2.2.2.2.2.2.2.2.2.2.2.2.2.2.2.2.2.2.2.2.2.2.2.2.2.2.2.2.2.2.2.1) (u.2.2.2.2.2.2.2.2.2.2.2.2.2.2.2.2.2.2.2.2.2.2.2.2.2.2.2.2.2.2.2.2.2.2.2.2.2.2.2.2.2.2.1) (u.2.2.2.2.2.2.2.2.2.2.2.2.2.2.2.2.2.2.2.2.2.2.2.2.2.2.2.2.2.2.2.2.2.2.2.2.2.2.2.2.2.2.2) (v.2.2.2.2.2.2.2.2.2.2.2.2.2.2.2.2.2.2.2.2.2.2.2.2.2.2.2.2.2.2.2.2.2.2.2.2.1) z
end
section
/-! the methods that look and those that are short -/
section
variable {fl cl ms fu cnt opn tu oc fc cu pu mk us dep top pc tr er sz dp ytr nx tk : Int32} {lr : Int64} {pa lo tb re sta len ops sT sF sM oT fK fT fH fU fS fC mem aF aA aT ty kd bk hh dd aP aZ aL lP lF vt byt : Nat → Int32} {imm arg glo cel loc val : Nat → Int64} {p q : Int32} {nc : Nat}
theorem zx_dec {post : Int32 → Prop} (hc : cnt = nI nc) (h4 : nc ≤ 4) (h0 : (∀ g, g < nc → p ≠ nI g) → post 0) (h1 : ∀ g, g < nc → p = nI g → post 1) : wpX_isDeclared post (fl, cl, ms, fu, cnt, opn, tu, oc, fc, cu, pu, mk, lr, us, dep, top, pc, tr, pa, lo, tb, re, sta, len, ops, imm, sT, sF, sM, oT, fK, fT, fH, fU, fS, fC, arg, glo, mem, aF, aA, aT, cel, loc) p := by
  subst hc
  by_cases z : p < 0
  · exact br_t z (h0 fun g hg e => by rw [e] at z; exact nI_pos (by omega) z)
  · obtain ⟨g, hg, rfl⟩ := nI_of z
    refine br_f z (pk_le nc g (fun w => h0 fun x hx e => ?_) (fun w => h1 g w rfl))
    have := (nI_eq (by omega) (by omega)).mp e; omega
theorem zy_dec {post : Int32 → Prop} (hc : cnt = nI nc) (h4 : nc ≤ 4) (h0 : (∀ g, g < nc → p ≠ nI g) → post 0) (h1 : ∀ g, g < nc → p = nI g → post 1) : wpY_declared post (fl, cl, ms, fu, cnt, opn, er, sz, dp, dep, ytr, nx, us, tk, lr, pa, lo, tb, re, sta, len, ops, ty, kd, bk, hh, dd, aF, aP, aZ, aL, lP, lF, vt, byt, imm, val, loc, glo, arg) p := by
  subst hc
  by_cases z : p < 0
  · exact br_t z (h0 fun g hg e => by rw [e] at z; exact nI_pos (by omega) z)
  · obtain ⟨g, hg, rfl⟩ := nI_of z
    refine br_f z (pk_le nc g (fun w => h0 fun x hx e => ?_) (fun w => h1 g w rfl))
    have := (nI_eq (by omega) (by omega)).mp e; omega
/-- is an instruction there -/
def zr_has (len : Nat → Int32) (nc : Nat) (p q : Int32) : Prop := ∃ g i n, g < nc ∧ p = nI g ∧ n ≤ 64 ∧ len g = nI n ∧ i < n ∧ q = nI i
theorem zx_has {post : Int32 → Prop} (hc : cnt = nI nc) (h4 : nc ≤ 4) (hl : ∀ g, g < nc → ∃ n, n ≤ 64 ∧ len g = nI n) (h0 : ¬ zr_has len nc p q → post 0) (h1 : zr_has len nc p q → post 1) : wpX_hasInstruction post (fl, cl, ms, fu, cnt, opn, tu, oc, fc, cu, pu, mk, lr, us, dep, top, pc, tr, pa, lo, tb, re, sta, len, ops, imm, sT, sF, sM, oT, fK, fT, fH, fU, fS, fC, arg, glo, mem, aF, aA, aT, cel, loc) p q := by
  subst hc
  by_cases z : p < 0
  · refine br_t z (h0 ?_)
    rintro ⟨g, i, n, w1, w2, _⟩
    rw [w2] at z; exact nI_pos (by omega) z
  · obtain ⟨g, hg, rfl⟩ := nI_of z
    refine br_f z (pk_le nc g (fun w => h0 ?_) (fun w => ?_))
    · rintro ⟨g', i, n, w1, w2, _⟩
      have := (nI_eq (by omega) (by omega)).mp w2; omega
    · obtain ⟨n, hn, e⟩ := hl g w
      by_cases y : q < 0
      · refine br_t y (h0 ?_)
        rintro ⟨g', i, n', w1, w2, w3, w4, w5, w6⟩
        rw [w6] at y; exact nI_pos (by omega) y
      · obtain ⟨i, hi, rfl⟩ := nI_of y
        refine br_f y ⟨vp_in_nI (by omega) (by decide), ?_⟩
        rw [nI_clamp (by omega), e]
        refine pk_le n i (fun v => h0 ?_) (fun v => h1 ⟨g, i, n, w, rfl, hn, e, v, rfl⟩)
        rintro ⟨g', i', n', w1, w2, w3, w4, w5, w6⟩
        have e1 := (nI_eq (by omega) (by omega)).mp w2
        subst e1
        have e2 := (nI_eq (by omega) (by omega)).mp (e.symm.trans w4)
        have e3 := (nI_eq (by omega) (by omega)).mp w6
        omega
theorem zy_has {post : Int32 → Prop} (hc : cnt = nI nc) (h4 : nc ≤ 4) (hl : ∀ g, g < nc → ∃ n, n ≤ 64 ∧ len g = nI n) (h0 : ¬ zr_has len nc p q → post 0) (h1 : zr_has len nc p q → post 1) : wpY_has post (fl, cl, ms, fu, cnt, opn, er, sz, dp, dep, ytr, nx, us, tk, lr, pa, lo, tb, re, sta, len, ops, ty, kd, bk, hh, dd, aF, aP, aZ, aL, lP, lF, vt, byt, imm, val, loc, glo, arg) p q := by
  unfold wpY_has
  refine zy_dec hc h4 (fun w => br_t rfl (h0 ?_)) (fun g w e => br_f (by decide) ?_)
  · rintro ⟨g, i, n, w1, w2, _⟩
    exact w g w1 w2
  · subst e
    obtain ⟨n, hn, e⟩ := hl g w
    by_cases y : q < 0
    · refine br_t y (h0 ?_)
      rintro ⟨g', i, n', w1, w2, w3, w4, w5, w6⟩
      rw [w6] at y; exact nI_pos (by omega) y
    · obtain ⟨i, hi, rfl⟩ := nI_of y
      refine br_f y ⟨vp_in_nI (by omega) (by decide), ?_⟩
      rw [nI_clamp (by omega), e]
      refine pk_le n i (fun v => h0 ?_) (fun v => h1 ⟨g, i, n, w, rfl, hn, e, v, rfl⟩)
      rintro ⟨g', i', n', w1, w2, w3, w4, w5, w6⟩
      have e1 := (nI_eq (by omega) (by omega)).mp w2
      subst e1
      have e2 := (nI_eq (by omega) (by omega)).mp (e.symm.trans w4)
      have e3 := (nI_eq (by omega) (by omega)).mp w6
      omega
end
theorem i_vc_result {k : Nat} {u : SX} {v : SY} (I : i_Rel k u v) (hk : k + 5 ≤ 2564) : wpX_result (fun r => wpY_result (fun r' => r' = r ∧ i_Rel (k + 5) u v) v) u := by
  refine zz_el (P := fun u v => wpX_result (fun r => wpY_result (fun r' => r' = r ∧ i_Rel (k + 5) u v) v) u) ?_ I
  intro fl cl ms fu cnt opn tu oc fc cu pu mk us dep top pc tr er sz dp ytr nx tk lr pa lo tb re sta len ops sT sF sM oT fK fT fH fU fS fC mem aF aA aT ty kd bk hh dd aP aZ aL lP lF vt byt imm arg glo cel loc val h
  exact And.intro rfl (zz_in h)
theorem i_vc_fuelUsed {k : Nat} {u : SX} {v : SY} (I : i_Rel k u v) (hk : k + 5 ≤ 2564) : wpX_fuelUsed (fun r => wpY_fuelUsed (fun r' => r' = r ∧ i_Rel (k + 5) u v) v) u := by
  refine zz_el (P := fun u v => wpX_fuelUsed (fun r => wpY_fuelUsed (fun r' => r' = r ∧ i_Rel (k + 5) u v) v) u) ?_ I
  intro fl cl ms fu cnt opn tu oc fc cu pu mk us dep top pc tr er sz dp ytr nx tk lr pa lo tb re sta len ops sT sF sM oT fK fT fH fU fS fC mem aF aA aT ty kd bk hh dd aP aZ aL lP lF vt byt imm arg glo cel loc val h
  exact And.intro rfl (zz_in h)
theorem i_vc_traceDepth {k : Nat} {u : SX} {v : SY} (I : i_Rel k u v) (hk : k + 5 ≤ 2564) : wpX_traceDepth (fun r => wpY_traceDepth (fun r' => r' = r ∧ i_Rel (k + 5) u v) v) u := by
  refine zz_el (P := fun u v => wpX_traceDepth (fun r => wpY_traceDepth (fun r' => r' = r ∧ i_Rel (k + 5) u v) v) u) ?_ I
  intro fl cl ms fu cnt opn tu oc fc cu pu mk us dep top pc tr er sz dp ytr nx tk lr pa lo tb re sta len ops sT sF sM oT fK fT fH fU fS fC mem aF aA aT ty kd bk hh dd aP aZ aL lP lF vt byt imm arg glo cel loc val h
  exact And.intro rfl (zz_in h)
theorem i_vc_traceAt {k : Nat} {u : SX} {v : SY} (I : i_Rel k u v) (hk : k + 5 ≤ 2564) (v1 : Int32) : wpX_traceAt (fun r => wpY_traceAt (fun r' => r' = r ∧ i_Rel (k + 5) u v) v v1) u v1 := by
  refine zz_el (P := fun u v => wpX_traceAt (fun r => wpY_traceAt (fun r' => r' = r ∧ i_Rel (k + 5) u v) v v1) u v1) ?_ I
  intro fl cl ms fu cnt opn tu oc fc cu pu mk us dep top pc tr er sz dp ytr nx tk lr pa lo tb re sta len ops sT sF sM oT fK fT fH fU fS fC mem aF aA aT ty kd bk hh dd aP aZ aL lP lF vt byt imm arg glo cel loc val h
  have R : i_Rel (k + 5) (fl, cl, ms, fu, cnt, opn, tu, oc, fc, cu, pu, mk, lr, us, dep, top, pc, tr, pa, lo, tb, re, sta, len, ops, imm, sT, sF, sM, oT, fK, fT, fH, fU, fS, fC, arg, glo, mem, aF, aA, aT, cel, loc) (fl, cl, ms, fu, cnt, opn, er, sz, dp, dep, ytr, nx, us, tk, lr, pa, lo, tb, re, sta, len, ops, ty, kd, bk, hh, dd, aF, aP, aZ, aL, lP, lF, vt, byt, imm, val, loc, glo, arg) := zz_in h
  obtain ⟨nc, nl, ncl, nms, nfu, nd, h1, ⟨d1, d2, d3⟩, h2⟩ := h
  subst d1
  by_cases z : v1 < 0
  · exact br_t z (br_t z ⟨rfl, R⟩)
  · obtain ⟨j, hj, rfl⟩ := nI_of z
    refine br_f z (pk_lt j nd (fun w => ?_) (fun w => br_f z (br_f (nI_nlt w hj) ⟨rfl, R⟩)))
    have e : nI nd - 1 - nI j = nI (nd - 1 - j) := by
      rw [show nI nd - 1 = nI (nd - 1) from pk_sub (b := 1) (by omega)]
      exact pk_sub (by omega)
    have hin : vp_in (nI (nd - 1 - j)) 8 := vp_in_nI (by omega) (by decide)
    refine nm_r e ⟨hin, hin, br_f z (br_t (nI_lt w (by omega)) ?_)⟩
    rw [e]
    refine ⟨hin, hin, ?_, R⟩
    rw [nI_clamp (by omega), d3 (nd - 1 - j) (by omega)]
theorem i_vc_memoryByte {k : Nat} {u : SX} {v : SY} (I : i_Rel k u v) (hk : k + 5 ≤ 2564) (v1 : Int32) : wpX_memoryByte (fun r => wpY_memoryByte (fun r' => r' = r ∧ i_Rel (k + 5) u v) v v1) u v1 := by
  refine zz_el (P := fun u v => wpX_memoryByte (fun r => wpY_memoryByte (fun r' => r' = r ∧ i_Rel (k + 5) u v) v v1) u v1) ?_ I
  intro fl cl ms fu cnt opn tu oc fc cu pu mk us dep top pc tr er sz dp ytr nx tk lr pa lo tb re sta len ops sT sF sM oT fK fT fH fU fS fC mem aF aA aT ty kd bk hh dd aP aZ aL lP lF vt byt imm arg glo cel loc val h
  have R : i_Rel (k + 5) (fl, cl, ms, fu, cnt, opn, tu, oc, fc, cu, pu, mk, lr, us, dep, top, pc, tr, pa, lo, tb, re, sta, len, ops, imm, sT, sF, sM, oT, fK, fT, fH, fU, fS, fC, arg, glo, mem, aF, aA, aT, cel, loc) (fl, cl, ms, fu, cnt, opn, er, sz, dp, dep, ytr, nx, us, tk, lr, pa, lo, tb, re, sta, len, ops, ty, kd, bk, hh, dd, aF, aP, aZ, aL, lP, lF, vt, byt, imm, val, loc, glo, arg) := zz_in h
  obtain ⟨nc, nl, ncl, nms, nfu, nd, ⟨m1, m2, m3, m4, m5, m6, m7, m8, m9⟩, h0, h2, eb, h3⟩ := h
  subst m7 eb
  by_cases z : v1 < 0
  · exact br_t z (br_t z ⟨rfl, R⟩)
  · obtain ⟨j, hj, rfl⟩ := nI_of z
    refine br_f z (pk_lt j nms (fun w => ?_) (fun w => br_f z (br_f (nI_nlt w hj) ⟨rfl, R⟩)))
    have hin : vp_in (nI j) 64 := vp_in_nI (by omega) (by decide)
    exact ⟨hin, br_f z (br_t (nI_lt w (by omega)) ⟨hin, rfl, R⟩)⟩
theorem i_vc_global {k : Nat} {u : SX} {v : SY} (I : i_Rel k u v) (hk : k + 5 ≤ 2564) (v1 : Int32) : wpX_global (fun r => wpY_global (fun r' => r' = r ∧ i_Rel (k + 5) u v) v v1) u v1 := by
  refine zz_el (P := fun u v => wpX_global (fun r => wpY_global (fun r' => r' = r ∧ i_Rel (k + 5) u v) v v1) u v1) ?_ I
  intro fl cl ms fu cnt opn tu oc fc cu pu mk us dep top pc tr er sz dp ytr nx tk lr pa lo tb re sta len ops sT sF sM oT fK fT fH fU fS fC mem aF aA aT ty kd bk hh dd aP aZ aL lP lF vt byt imm arg glo cel loc val h
  have R : i_Rel (k + 5) (fl, cl, ms, fu, cnt, opn, tu, oc, fc, cu, pu, mk, lr, us, dep, top, pc, tr, pa, lo, tb, re, sta, len, ops, imm, sT, sF, sM, oT, fK, fT, fH, fU, fS, fC, arg, glo, mem, aF, aA, aT, cel, loc) (fl, cl, ms, fu, cnt, opn, er, sz, dp, dep, ytr, nx, us, tk, lr, pa, lo, tb, re, sta, len, ops, ty, kd, bk, hh, dd, aF, aP, aZ, aL, lP, lF, vt, byt, imm, val, loc, glo, arg) := zz_in h
  by_cases z : v1 < 0
  · exact br_t z (br_t z ⟨rfl, R⟩)
  · obtain ⟨j, hj, rfl⟩ := nI_of z
    refine br_f z (pk_le j 1 (fun w => ?_) (fun w => br_f z (br_f (nI_ge w hj) ⟨rfl, R⟩)))
    have hin : vp_in (nI j) 2 := vp_in_nI (by omega) (by decide)
    exact ⟨hin, br_f z (br_t (nI_le (b := 1) w (by omega)) ⟨hin, rfl, R⟩)⟩
theorem i_vc_argument {k : Nat} {u : SX} {v : SY} (I : i_Rel k u v) (hk : k + 5 ≤ 2564) (v1 : Int32) : wpX_argument (fun r => wpY_argument (fun r' => r' = r ∧ i_Rel (k + 5) u v) v v1) u v1 := by
  refine zz_el (P := fun u v => wpX_argument (fun r => wpY_argument (fun r' => r' = r ∧ i_Rel (k + 5) u v) v v1) u v1) ?_ I
  intro fl cl ms fu cnt opn tu oc fc cu pu mk us dep top pc tr er sz dp ytr nx tk lr pa lo tb re sta len ops sT sF sM oT fK fT fH fU fS fC mem aF aA aT ty kd bk hh dd aP aZ aL lP lF vt byt imm arg glo cel loc val h
  have R : i_Rel (k + 5) (fl, cl, ms, fu, cnt, opn, tu, oc, fc, cu, pu, mk, lr, us, dep, top, pc, tr, pa, lo, tb, re, sta, len, ops, imm, sT, sF, sM, oT, fK, fT, fH, fU, fS, fC, arg, glo, mem, aF, aA, aT, cel, loc) (fl, cl, ms, fu, cnt, opn, er, sz, dp, dep, ytr, nx, us, tk, lr, pa, lo, tb, re, sta, len, ops, ty, kd, bk, hh, dd, aF, aP, aZ, aL, lP, lF, vt, byt, imm, val, loc, glo, arg) := zz_in h
  by_cases z : v1 < 0
  · exact br_t z (br_t z ⟨rfl, R⟩)
  · obtain ⟨j, hj, rfl⟩ := nI_of z
    refine br_f z (pk_lt j 4 (fun w => ?_) (fun w => br_f z (br_f (nI_ge (a := 3) (by omega) hj) ⟨rfl, R⟩)))
    have hin : vp_in (nI j) 4 := vp_in_nI (by omega) (by decide)
    exact ⟨hin, br_f z (br_t (nI_le (b := 3) (by omega) (by omega)) ⟨hin, rfl, R⟩)⟩
theorem i_vc_setArgument {k : Nat} {u : SX} {v : SY} (I : i_Rel k u v) (hk : k + 5 ≤ 2564) (v1 : Int32) (a1 : Int64) : wpX_setArgument (fun r u' => wpY_setArgument (fun r' v' => r' = r ∧ i_Rel (k + 5) u' v') v v1 a1) u v1 a1 := by
  refine zz_el (P := fun u v => wpX_setArgument (fun r u' => wpY_setArgument (fun r' v' => r' = r ∧ i_Rel (k + 5) u' v') v v1 a1) u v1 a1) ?_ I
  intro fl cl ms fu cnt opn tu oc fc cu pu mk us dep top pc tr er sz dp ytr nx tk lr pa lo tb re sta len ops sT sF sM oT fK fT fH fU fS fC mem aF aA aT ty kd bk hh dd aP aZ aL lP lF vt byt imm arg glo cel loc val h
  by_cases z : v1 < 0
  · exact br_t z (br_t z ⟨rfl, zz_in h⟩)
  · obtain ⟨j, hj, rfl⟩ := nI_of z
    refine br_f z (pk_lt j 4 (fun w => ?_) (fun w => br_f z (br_f (nI_ge (a := 3) (by omega) hj) ⟨rfl, zz_in h⟩)))
    have hin : vp_in (nI j) 4 := vp_in_nI (by omega) (by decide)
    exact ⟨hin, nm_e (br_f z (br_t (nI_le (b := 3) (by omega) (by omega)) ⟨hin, nm_e ⟨rfl, zz_in h⟩⟩))⟩
theorem i_vc_signature {k : Nat} {u : SX} {v : SY} (I : i_Rel k u v) (hk : k + 5 ≤ 2564) (v1 : Int32) : wpX_signature (fun r => wpY_signature (fun r' => r' = r ∧ i_Rel (k + 5) u v) v v1) u v1 := by
  refine zz_el (P := fun u v => wpX_signature (fun r => wpY_signature (fun r' => r' = r ∧ i_Rel (k + 5) u v) v v1) u v1) ?_ I
  intro fl cl ms fu cnt opn tu oc fc cu pu mk us dep top pc tr er sz dp ytr nx tk lr pa lo tb re sta len ops sT sF sM oT fK fT fH fU fS fC mem aF aA aT ty kd bk hh dd aP aZ aL lP lF vt byt imm arg glo cel loc val h
  have R : i_Rel (k + 5) (fl, cl, ms, fu, cnt, opn, tu, oc, fc, cu, pu, mk, lr, us, dep, top, pc, tr, pa, lo, tb, re, sta, len, ops, imm, sT, sF, sM, oT, fK, fT, fH, fU, fS, fC, arg, glo, mem, aF, aA, aT, cel, loc) (fl, cl, ms, fu, cnt, opn, er, sz, dp, dep, ytr, nx, us, tk, lr, pa, lo, tb, re, sta, len, ops, ty, kd, bk, hh, dd, aF, aP, aZ, aL, lP, lF, vt, byt, imm, val, loc, glo, arg) := zz_in h
  obtain ⟨nc, nl, ncl, nms, nfu, nd, ⟨m1, m2, m3, m4, m5⟩, h0⟩ := h
  unfold wpX_signature
  refine zx_dec m1 (by omega) (fun w => br_t rfl ?_) (fun g w e => ?_)
  · unfold wpY_signature
    exact zy_dec m1 (by omega) (fun _ => br_t rfl ⟨rfl, R⟩) (fun g w' e => absurd e (w g w'))
  · subst e
    have hin : vp_in (nI g) 4 := vp_in_nI (by omega) (by decide)
    refine br_f (by decide) ⟨hin, hin, hin, hin, ?_⟩
    unfold wpY_signature
    exact zy_dec m1 (by omega) (fun w' => absurd rfl (w' g w)) (fun g' w' e => br_f (by decide) ⟨hin, hin, hin, hin, rfl, R⟩)
theorem i_vc_functionState {k : Nat} {u : SX} {v : SY} (I : i_Rel k u v) (hk : k + 5 ≤ 2564) (v1 : Int32) : wpX_functionState (fun r => wpY_functionState (fun r' => r' = r ∧ i_Rel (k + 5) u v) v v1) u v1 := by
  refine zz_el (P := fun u v => wpX_functionState (fun r => wpY_functionState (fun r' => r' = r ∧ i_Rel (k + 5) u v) v v1) u v1) ?_ I
  intro fl cl ms fu cnt opn tu oc fc cu pu mk us dep top pc tr er sz dp ytr nx tk lr pa lo tb re sta len ops sT sF sM oT fK fT fH fU fS fC mem aF aA aT ty kd bk hh dd aP aZ aL lP lF vt byt imm arg glo cel loc val h
  have R : i_Rel (k + 5) (fl, cl, ms, fu, cnt, opn, tu, oc, fc, cu, pu, mk, lr, us, dep, top, pc, tr, pa, lo, tb, re, sta, len, ops, imm, sT, sF, sM, oT, fK, fT, fH, fU, fS, fC, arg, glo, mem, aF, aA, aT, cel, loc) (fl, cl, ms, fu, cnt, opn, er, sz, dp, dep, ytr, nx, us, tk, lr, pa, lo, tb, re, sta, len, ops, ty, kd, bk, hh, dd, aF, aP, aZ, aL, lP, lF, vt, byt, imm, val, loc, glo, arg) := zz_in h
  obtain ⟨nc, nl, ncl, nms, nfu, nd, ⟨m1, m2, m3, m4, m5⟩, h0⟩ := h
  unfold wpX_functionState
  refine zx_dec m1 (by omega) (fun w => br_t rfl ?_) (fun g w e => ?_)
  · unfold wpY_functionState
    exact zy_dec m1 (by omega) (fun _ => br_t rfl ⟨rfl, R⟩) (fun g w' e => absurd e (w g w'))
  · subst e
    have hin : vp_in (nI g) 4 := vp_in_nI (by omega) (by decide)
    refine br_f (by decide) ⟨hin, ?_⟩
    unfold wpY_functionState
    exact zy_dec m1 (by omega) (fun w' => absurd rfl (w' g w)) (fun g' w' e => br_f (by decide) ⟨hin, rfl, R⟩)
theorem i_vc_opAt {k : Nat} {u : SX} {v : SY} (I : i_Rel k u v) (hk : k + 5 ≤ 2564) (v1 : Int32) (v2 : Int32) : wpX_opAt (fun r => wpY_opAt (fun r' => r' = r ∧ i_Rel (k + 5) u v) v v1 v2) u v1 v2 := by
  refine zz_el (P := fun u v => wpX_opAt (fun r => wpY_opAt (fun r' => r' = r ∧ i_Rel (k + 5) u v) v v1 v2) u v1 v2) ?_ I
  intro fl cl ms fu cnt opn tu oc fc cu pu mk us dep top pc tr er sz dp ytr nx tk lr pa lo tb re sta len ops sT sF sM oT fK fT fH fU fS fC mem aF aA aT ty kd bk hh dd aP aZ aL lP lF vt byt imm arg glo cel loc val h
  have R : i_Rel (k + 5) (fl, cl, ms, fu, cnt, opn, tu, oc, fc, cu, pu, mk, lr, us, dep, top, pc, tr, pa, lo, tb, re, sta, len, ops, imm, sT, sF, sM, oT, fK, fT, fH, fU, fS, fC, arg, glo, mem, aF, aA, aT, cel, loc) (fl, cl, ms, fu, cnt, opn, er, sz, dp, dep, ytr, nx, us, tk, lr, pa, lo, tb, re, sta, len, ops, ty, kd, bk, hh, dd, aF, aP, aZ, aL, lP, lF, vt, byt, imm, val, loc, glo, arg) := zz_in h
  obtain ⟨nc, nl, ncl, nms, nfu, nd, ⟨m1, m2, m3, m4, m5⟩, h0, h1, h2, h3, ⟨f1, f2⟩, h4⟩ := h
  have hl := fun g hg => (f2 g hg).2
  unfold wpX_opAt
  refine zx_has m1 (by omega) hl (fun w => br_t rfl ?_) (fun w => br_f (by decide) ?_)
  · unfold wpY_opAt
    exact zy_has m1 (by omega) hl (fun _ => br_t rfl ⟨rfl, R⟩) (fun w' => absurd w' w)
  · have w0 := w
    obtain ⟨g, i, n, w1, rfl, w3, w4, w5, rfl⟩ := w
    obtain ⟨a1, a2, a3⟩ := zy_ad (f := g) (i := i) (by omega) (by omega)
    have e : nI g * 64 + nI i = 64 * nI g + nI i := by rw [Int32.mul_comm]
    rw [e]
    refine ⟨a2, ?_⟩
    unfold wpY_opAt
    exact zy_has m1 (by omega) hl (fun w' => absurd w0 w') (fun w' => br_f (by decide) ⟨a2, rfl, R⟩)
theorem i_vc_immAt {k : Nat} {u : SX} {v : SY} (I : i_Rel k u v) (hk : k + 5 ≤ 2564) (v1 : Int32) (v2 : Int32) : wpX_immAt (fun r => wpY_immAt (fun r' => r' = r ∧ i_Rel (k + 5) u v) v v1 v2) u v1 v2 := by
  refine zz_el (P := fun u v => wpX_immAt (fun r => wpY_immAt (fun r' => r' = r ∧ i_Rel (k + 5) u v) v v1 v2) u v1 v2) ?_ I
  intro fl cl ms fu cnt opn tu oc fc cu pu mk us dep top pc tr er sz dp ytr nx tk lr pa lo tb re sta len ops sT sF sM oT fK fT fH fU fS fC mem aF aA aT ty kd bk hh dd aP aZ aL lP lF vt byt imm arg glo cel loc val h
  have R : i_Rel (k + 5) (fl, cl, ms, fu, cnt, opn, tu, oc, fc, cu, pu, mk, lr, us, dep, top, pc, tr, pa, lo, tb, re, sta, len, ops, imm, sT, sF, sM, oT, fK, fT, fH, fU, fS, fC, arg, glo, mem, aF, aA, aT, cel, loc) (fl, cl, ms, fu, cnt, opn, er, sz, dp, dep, ytr, nx, us, tk, lr, pa, lo, tb, re, sta, len, ops, ty, kd, bk, hh, dd, aF, aP, aZ, aL, lP, lF, vt, byt, imm, val, loc, glo, arg) := zz_in h
  obtain ⟨nc, nl, ncl, nms, nfu, nd, ⟨m1, m2, m3, m4, m5⟩, h0, h1, h2, h3, ⟨f1, f2⟩, h4⟩ := h
  have hl := fun g hg => (f2 g hg).2
  unfold wpX_immAt
  refine zx_has m1 (by omega) hl (fun w => br_t rfl ?_) (fun w => br_f (by decide) ?_)
  · unfold wpY_immAt
    exact zy_has m1 (by omega) hl (fun _ => br_t rfl ⟨rfl, R⟩) (fun w' => absurd w' w)
  · have w0 := w
    obtain ⟨g, i, n, w1, rfl, w3, w4, w5, rfl⟩ := w
    obtain ⟨a1, a2, a3⟩ := zy_ad (f := g) (i := i) (by omega) (by omega)
    have e : nI g * 64 + nI i = 64 * nI g + nI i := by rw [Int32.mul_comm]
    rw [e]
    refine ⟨a2, ?_⟩
    unfold wpY_immAt
    exact zy_has m1 (by omega) hl (fun w' => absurd w0 w') (fun w' => br_f (by decide) ⟨a2, rfl, R⟩)
end
section
/-! the constructors, declare, open, discard, and what looks at the checker -/
theorem zk_sneg {a j : Nat} (ha : a < 2 ^ 31) (hj : j < 2 ^ 31) (h : a < j) : ¬ 0 ≤ nI a - nI j := by
  rw [Int32.le_iff_toInt_le, Int32.toInt_sub, nI_toInt ha, nI_toInt hj, show (0 : Int32).toInt = 0 from by decide, Int.bmod_eq_of_le (by omega) (by omega)]
  omega
theorem zk_sneg1 {j : Nat} (hj : j < 2 ^ 31) : ¬ 0 ≤ (0 : Int32) - 1 - nI j := by
  rw [Int32.le_iff_toInt_le, Int32.toInt_sub, nI_toInt hj, show (0 : Int32).toInt = 0 from by decide, show ((0 : Int32) - 1).toInt = -1 from by decide, Int.bmod_eq_of_le (by omega) (by omega)]
  omega
def zk_cl (p a b : Int32) : Int32 := if a ≤ p then (if p ≤ b then p else b) else a
theorem zk_clN (p : Int32) {a b : Nat} (hab : a ≤ b) (hb : b < 2 ^ 31) : ∃ m, a ≤ m ∧ m ≤ b ∧ zk_cl p (nI a) (nI b) = nI m := by
  unfold zk_cl
  by_cases h1 : nI a ≤ p
  · rw [if_pos h1]
    have hp : ¬ p < 0 := by
      rw [Int32.le_iff_toInt_le, nI_toInt (by omega)] at h1
      rw [Int32.lt_iff_toInt_lt, show (0 : Int32).toInt = 0 from by decide]; omega
    obtain ⟨j, hj, rfl⟩ := nI_of hp
    rw [nI_leI (by omega) hj] at h1
    by_cases h2 : nI j ≤ nI b
    · rw [if_pos h2]
      rw [nI_leI hj hb] at h2
      exact ⟨j, h1, h2, rfl⟩
    · rw [if_neg h2]; exact ⟨b, hab, Nat.le_refl _, rfl⟩
  · rw [if_neg h1]; exact ⟨a, Nat.le_refl _, hab, rfl⟩
section
variable {fl cl ms fu cnt opn tu oc fc cu pu mk us dep top pc tr er sz dp ytr nx tk : Int32} {lr : Int64} {pa lo tb re sta len ops sT sF sM oT fK fT fH fU fS fC mem aF aA aT ty kd bk hh dd aP aZ aL lP lF vt byt : Nat → Int32} {imm arg glo cel loc val : Nat → Int64} {p q r : Int32} {nc f : Nat}
theorem zx_cl {post : Int32 → Prop} (h : post (zk_cl p q r)) : wpX_clamp post (fl, cl, ms, fu, cnt, opn, tu, oc, fc, cu, pu, mk, lr, us, dep, top, pc, tr, pa, lo, tb, re, sta, len, ops, imm, sT, sF, sM, oT, fK, fT, fH, fU, fS, fC, arg, glo, mem, aF, aA, aT, cel, loc) p q r := by
  unfold zk_cl at h
  by_cases h1 : q ≤ p
  · rw [if_pos h1] at h
    by_cases h2 : p ≤ r
    · rw [if_pos h2] at h; exact br_t h1 (br_t h2 h)
    · rw [if_neg h2] at h; exact br_t h1 (br_f h2 h)
  · rw [if_neg h1] at h; exact br_f h1 h
theorem zy_cl {post : Int32 → Prop} (h : post (zk_cl p q r)) : wpY_clamp post (fl, cl, ms, fu, cnt, opn, er, sz, dp, dep, ytr, nx, us, tk, lr, pa, lo, tb, re, sta, len, ops, ty, kd, bk, hh, dd, aF, aP, aZ, aL, lP, lF, vt, byt, imm, val, loc, glo, arg) p q r := by
  unfold zk_cl at h
  by_cases h1 : q ≤ p
  · rw [if_pos h1] at h
    by_cases h2 : p ≤ r
    · rw [if_pos h2] at h; exact br_t h1 (br_t h2 h)
    · rw [if_neg h2] at h; exact br_t h1 (br_f h2 h)
  · rw [if_neg h1] at h; exact br_f h1 h
end
theorem i_vc0 (k0 : Int32) (k1 : Int32) (k2 : Int32) (k3 : Int32) : wpX_init (fun u => wpY_init (fun v => i_Rel 4 u v) k0 k1 k2 k3) k0 k1 k2 k3 := by
  obtain ⟨n0, a0, b0, e0⟩ := zk_clN k0 (a := 1) (b := 4) (by omega) (by omega)
  obtain ⟨n1, a1, b1, e1⟩ := zk_clN k1 (a := 8) (b := 64) (by omega) (by omega)
  obtain ⟨n2, a2, b2, e2⟩ := zk_clN k2 (a := 8) (b := 64) (by omega) (by omega)
  obtain ⟨n3, a3, b3, e3⟩ := zk_clN k3 (a := 1) (b := 100) (by omega) (by omega)
  unfold wpX_init
  refine zx_cl (zx_cl (zx_cl (zx_cl ?_)))
  unfold wpY_init
  refine zy_cl (zy_cl (zy_cl (zy_cl (zz_in ?_))))
  refine ⟨0, n0, n1, n2, n3, 0, ⟨rfl, e0, by omega, b0, e1, b1, e2, b2, a2, e3, b3⟩, ⟨rfl, by omega, fun b hb => by omega⟩, ⟨by omega, fun g hg => by omega⟩, ?_, ?_, ⟨fun g _ => ⟨rfl, rfl⟩, fun g hg => by omega⟩, Or.inl ⟨rfl, rfl, rfl, rfl, ⟨fun _ => 0, rfl⟩, ⟨fun _ => 0, rfl⟩⟩⟩
  · funext j; show (0 : Int32) = 0 &&& 255; decide
  · decide
/-- a function that is complete stays so -/
theorem zr_COc {pa tb re len ops sT sF sM pa' tb' re' len' ops' sT' sF' sM' : Nat → Int32} {imm imm' : Nat → Int64} {nc nc' g : Nat} (h4 : nc ≤ 4) (hcc : nc ≤ nc') (hg : g < nc) (hs : ∀ g, g < nc → pa' g = pa g ∧ tb' g = tb g ∧ re' g = re g)
    (hl : len' g = len g) (ho : ∀ i, i < 64 → ops' (64 * g + i) = ops (64 * g + i) ∧ imm' (64 * g + i) = imm (64 * g + i))
    (ht : ∀ s, s < 96 → sT' (96 * g + s) = sT (96 * g + s) ∧ sF' (96 * g + s) = sF (96 * g + s) ∧ sM' (96 * g + s) = sM (96 * g + s))
    (h : zr_CO pa tb re len ops sT sF sM imm nc g) : zr_CO pa' tb' re' len' ops' sT' sF' sM' imm' nc' g := by
  obtain ⟨T, n, h1, h2, h3, h4', h5⟩ := h
  exact ⟨T, n, h1, by rw [hl]; exact h2, zt_Fc h4 hcc hg hs (fun i hi => ho i (by omega)) (fun _ _ => rfl) h3, h4', zw_Rc (fun i hi => ho i (by omega)) h1 ht h5⟩
theorem zr_upd0 {g : Nat → Int32} {k : Nat} {x : Int32} (h : g k = x) : upd g k x = g := by
  funext j
  by_cases z : j = k
  · rw [z, pk_us, h]
  · exact pk_un z
theorem i_vc_declare {k : Nat} {u : SX} {v : SY} (I : i_Rel k u v) (hk : k + 5 ≤ 2564) (v1 : Int32) (v2 : Int32) (v3 : Int32) (v4 : Int32) : wpX_declare (fun r u' => wpY_declare (fun r' v' => r' = r ∧ i_Rel (k + 5) u' v') v v1 v2 v3 v4) u v1 v2 v3 v4 := by
  refine zz_el (P := fun u v => wpX_declare (fun r u' => wpY_declare (fun r' v' => r' = r ∧ i_Rel (k + 5) u' v') v v1 v2 v3 v4) u v1 v2 v3 v4) ?_ I
  intro fl cl ms fu cnt opn tu oc fc cu pu mk us dep top pc tr er sz dp ytr nx tk lr pa lo tb re sta len ops sT sF sM oT fK fT fH fU fS fC mem aF aA aT ty kd bk hh dd aP aZ aL lP lF vt byt imm arg glo cel loc val h
  by_cases c1 : v1 < 0
  · exact br_t c1 (br_t c1 ⟨rfl, zz_in h⟩)
  by_cases c2 : 4 < v1
  · exact br_f c1 (br_t c2 (br_f c1 (br_t c2 ⟨rfl, zz_in h⟩)))
  by_cases c3 : v2 < 0
  · exact br_f c1 (br_f c2 (br_t c3 (br_f c1 (br_f c2 (br_t c3 ⟨rfl, zz_in h⟩)))))
  by_cases c4 : 4 < v2
  · exact br_f c1 (br_f c2 (br_f c3 (br_t c4 (br_f c1 (br_f c2 (br_f c3 (br_t c4 ⟨rfl, zz_in h⟩)))))))
  by_cases c5 : v4 < 0
  · exact br_f c1 (br_f c2 (br_f c3 (br_f c4 (br_t c5 (br_f c1 (br_f c2 (br_f c3 (br_f c4 (br_t c5 ⟨rfl, zz_in h⟩)))))))))
  by_cases c6 : v4 ≤ 2
  · by_cases c7 : cnt < fl
    · refine br_f c1 (br_f c2 (br_f c3 (br_f c4 (br_f c5 (br_t c6 (br_t c7 ?_))))))
      obtain ⟨nc, nl, ncl, nms, nfu, nd, ⟨m1, m2, m3, m4, m5⟩, h0, h1, h2, h3, ⟨f1, f2⟩, h4⟩ := h
      have c7' := c7
      rw [m1, m2, nI_ltI (by omega) (by omega)] at c7'
      have hin : vp_in cnt 4 := by rw [m1]; exact vp_in_nI (by omega) (by decide)
      have ec : cnt.toNatClampNeg = nc := by rw [m1]; exact nI_clamp (by omega)
      have en : cnt + 1 = nI (nc + 1) := by rw [m1, nI_1]
      obtain ⟨q1, q2⟩ := f1 nc (Nat.le_refl _)
      refine ⟨hin, nm_r (e' := upd pa nc v1) (by rw [ec]) ⟨hin, nm_r (e' := upd lo nc v2) (by rw [ec]) ⟨hin, nm_r (e' := upd tb nc (v3 &&& (((1 : Int32) <<< ((v1 + v2) &&& 31)) - 1))) (by rw [ec]) ⟨hin, nm_r (e' := upd re nc v4) (by rw [ec]) ⟨hin, nm_r (e' := sta) (by rw [ec]; exact zr_upd0 q1) ⟨hin, nm_r (e' := len) (by rw [ec]; exact zr_upd0 q2) (nm_r en ?_)⟩⟩⟩⟩⟩⟩
      refine br_f c1 (br_f c2 (br_f c3 (br_f c4 (br_f c5 (br_t c6 (br_t c7 ?_))))))
      refine ⟨hin, nm_r (e' := upd pa nc v1) (by rw [ec]) ⟨hin, nm_r (e' := upd lo nc v2) (by rw [ec]) ⟨hin, nm_r (e' := upd re nc v4) (by rw [ec]) ⟨hin, nm_r (e' := upd tb nc (v3 &&& (((1 : Int32) <<< ((v1 + v2) &&& 31)) - 1))) (by rw [ec]) (nm_r en ⟨rfl, zz_in ?_⟩)⟩⟩⟩⟩
      have hs : ∀ g, g < nc → upd pa nc v1 g = pa g ∧ upd tb nc (v3 &&& (((1 : Int32) <<< ((v1 + v2) &&& 31)) - 1)) g = tb g ∧ upd re nc v4 g = re g := fun g hg => ⟨pk_un (by omega), pk_un (by omega), pk_un (by omega)⟩
      refine ⟨nc + 1, nl, ncl, nms, nfu, nd, ⟨rfl, m2, by omega, m4, m5⟩, h0, ⟨by omega, fun g hg => ?_⟩, h2, h3, ⟨fun g hg => f1 g (by omega), fun g hg => ?_⟩, ?_⟩
      · by_cases z : g = nc
        · subst z
          rw [pk_us, pk_us, pk_us]
          obtain ⟨a, ha, e1⟩ := nI_of2 (M := 4) (n := 4) (by decide) c1 (Int32.not_lt.mp c2)
          obtain ⟨b, hb, e2⟩ := nI_of2 (M := 4) (n := 4) (by decide) c3 (Int32.not_lt.mp c4)
          obtain ⟨c, hc, e3⟩ := nI_of2 (M := 2) (n := 2) (by decide) c5 c6
          refine ⟨⟨a, ha, e1⟩, ⟨b, hb, e2⟩, ?_⟩
          rw [e3]
          have : c = 0 ∨ c = 1 ∨ c = 2 := by omega
          rcases this with rfl | rfl | rfl
          · exact Or.inl rfl
          · exact Or.inr (Or.inl rfl)
          · exact Or.inr (Or.inr rfl)
        · rw [pk_un z, pk_un z, pk_un z]; exact h1.2 g (by omega)
      · by_cases z : g = nc
        · subst z
          exact ⟨fun w => by rw [q1] at w; exact absurd w (by decide), 0, by omega, q2⟩
        · obtain ⟨a, b⟩ := f2 g (by omega)
          exact ⟨fun w => zr_COc h1.1 (by omega) (by omega) hs rfl (fun _ _ => ⟨rfl, rfl⟩) (fun _ _ => ⟨rfl, rfl, rfl⟩) (a w), b⟩
      · rcases h4 with h4 | ⟨f, c, n, g1, g2, g3, g4, g5, g6, g7, g8, T, sI, sD, L, g9, g10, g11⟩
        · exact Or.inl h4
        · exact Or.inr ⟨f, c, n, by omega, g2, g3, g4, g5, g6, g7, g8, T, sI, sD, L, g9, zt_Fc h1.1 (by omega) g1 hs (fun _ _ => ⟨rfl, rfl⟩) (fun _ _ => rfl) g10, g11⟩
    · exact br_f c1 (br_f c2 (br_f c3 (br_f c4 (br_f c5 (br_t c6 (br_f c7 (br_f c1 (br_f c2 (br_f c3 (br_f c4 (br_f c5 (br_t c6 (br_f c7 ⟨rfl, zz_in h⟩)))))))))))))
  · exact br_f c1 (br_f c2 (br_f c3 (br_f c4 (br_f c5 (br_f c6 (br_f c1 (br_f c2 (br_f c3 (br_f c4 (br_f c5 (br_f c6 ⟨rfl, zz_in h⟩)))))))))))
/-- the state of a body just opened -/
theorem zr_OB0 {pa lo tb re len ops sT sF sM fC oT fK fT fU : Nat → Int32} {imm : Nat → Int64} {H A : Nat → Nat} {nc f : Nat} (hsg : zc_sg pa lo re nc) (hf : f < nc) :
    zr_OB pa tb re (upd len f 0) ops sT sF sM (upd fC 0 (-1)) imm nc f (0, oT, 1, upd fK 0 0, upd fT 0 (re f), zc_u H 0 0, upd fU 0 0, zc_u A 0 0) 0 0 := by
  have e0 : ∀ d, d < 1 → d = 0 := fun d hd => by omega
  have eH : zc_u H 0 0 0 = 0 := zc_us
  have eK : upd fK 0 0 0 = 0 := pk_us
  have eB : upd fT 0 (re f) 0 = re f := pk_us
  have eU : upd fU 0 0 0 = 0 := pk_us
  refine ⟨by omega, by rw [pk_us]; rfl, ⟨Nat.le_refl _, by show 1 ≤ 8; omega, by show 0 ≤ 12; omega, eH, fun d hd => ?_, ?_, fun i hi => ?_, fun d hd => ?_, eK, fun d hd1 hd => ?_, fun d hd => ?_, fun i hi => ?_⟩, fun _ => (0, oT, 1, upd fK 0 0, upd fT 0 (re f), zc_u H 0 0, upd fU 0 0, zc_u A 0 0), fun _ => 0, fun _ => 0, fun _ => [], rfl, ⟨⟨rfl, rfl, eK, eB, eH, eU⟩, fun i hi => by omega⟩, rfl, by show 0 ≤ 32; omega, ?_⟩
  · have : d + 1 < 1 := hd
    omega
  · show zc_u H 0 0 0 ≤ 0
    rw [zc_us]; exact Nat.le_refl _
  · have : i < 0 := hi
    omega
  · have z := e0 d hd
    subst z
    show ∃ b, b ≤ 8 ∧ upd fT 0 (re f) 0 = nI b
    rw [pk_us]
    rcases (hsg.2 f hf).2.2 with w | w | w
    · exact ⟨0, by omega, w⟩
    · exact ⟨1, by omega, w⟩
    · exact ⟨2, by omega, w⟩
  · have : d < 1 := hd
    omega
  · have z := e0 d hd
    subst z
    exact Or.inl eU
  · have : i < 0 := hi
    omega
  · refine ⟨⟨fun i hi => by omega, fun i hi => by omega, fun i hi => by omega⟩, fun s u => ?_, fun d hd => ?_, fun i hi => by omega, fun i hi => by omega⟩
    · rcases u with u | u
      · omega
      · have : s < 64 + 0 := u.2
        omega
    · have z := e0 d hd
      subst z
      exact ⟨pk_us, List.nodup_nil, fun s hs => by cases hs⟩
theorem i_vc_open {k : Nat} {u : SX} {v : SY} (I : i_Rel k u v) (hk : k + 5 ≤ 2564) (v1 : Int32) : wpX_open (fun r u' => wpY_open (fun r' v' => r' = r ∧ i_Rel (k + 5) u' v') v v1) u v1 := by
  refine zz_el (P := fun u v => wpX_open (fun r u' => wpY_open (fun r' v' => r' = r ∧ i_Rel (k + 5) u' v') v v1) u v1) ?_ I
  intro fl cl ms fu cnt opn tu oc fc cu pu mk us dep top pc tr er sz dp ytr nx tk lr pa lo tb re sta len ops sT sF sM oT fK fT fH fU fS fC mem aF aA aT ty kd bk hh dd aP aZ aL lP lF vt byt imm arg glo cel loc val h
  have R : i_Rel (k + 5) (fl, cl, ms, fu, cnt, opn, tu, oc, fc, cu, pu, mk, lr, us, dep, top, pc, tr, pa, lo, tb, re, sta, len, ops, imm, sT, sF, sM, oT, fK, fT, fH, fU, fS, fC, arg, glo, mem, aF, aA, aT, cel, loc) (fl, cl, ms, fu, cnt, opn, er, sz, dp, dep, ytr, nx, us, tk, lr, pa, lo, tb, re, sta, len, ops, ty, kd, bk, hh, dd, aF, aP, aZ, aL, lP, lF, vt, byt, imm, val, loc, glo, arg) := zz_in h
  obtain ⟨nc, nl, ncl, nms, nfu, nd, ⟨m1, m2, m3, m4, m5⟩, h0, h1, h2, h3, ⟨f1, f2⟩, h4⟩ := h
  unfold wpX_open
  refine zx_dec m1 (by omega) (fun w => br_t rfl ?_) (fun f w e => ?_)
  · unfold wpY_open
    exact zy_dec m1 (by omega) (fun _ => br_t rfl ⟨rfl, R⟩) (fun g w' e => absurd e (w g w'))
  · subst e
    have hin : vp_in (nI f) 4 := vp_in_nI (by omega) (by decide)
    have ec : (nI f).toNatClampNeg = f := nI_clamp (by omega)
    have hin8 : vp_in (0 : Int32) 8 := vp_in_nI (n := 0) (by decide) (by decide)
    have hY : ∀ {post : Int32 → SY → Prop}, ((0 ≤ opn → post (-3) (fl, cl, ms, fu, cnt, opn, er, sz, dp, dep, ytr, nx, us, tk, lr, pa, lo, tb, re, sta, len, ops, ty, kd, bk, hh, dd, aF, aP, aZ, aL, lP, lF, vt, byt, imm, val, loc, glo, arg)) ∧ (¬ 0 ≤ opn → (sta f = 2 → post (-3) (fl, cl, ms, fu, cnt, opn, er, sz, dp, dep, ytr, nx, us, tk, lr, pa, lo, tb, re, sta, len, ops, ty, kd, bk, hh, dd, aF, aP, aZ, aL, lP, lF, vt, byt, imm, val, loc, glo, arg)) ∧ (¬ sta f = 2 → post 0 (fl, cl, ms, fu, cnt, nI f, er, sz, dp, dep, ytr, nx, us, tk, lr, pa, lo, tb, re, upd sta f 1, upd len f 0, ops, ty, kd, bk, hh, dd, aF, aP, aZ, aL, lP, lF, vt, byt, imm, val, loc, glo, arg)))) → wpY_open post (fl, cl, ms, fu, cnt, opn, er, sz, dp, dep, ytr, nx, us, tk, lr, pa, lo, tb, re, sta, len, ops, ty, kd, bk, hh, dd, aF, aP, aZ, aL, lP, lF, vt, byt, imm, val, loc, glo, arg) (nI f) := by
      intro post hp
      unfold wpY_open
      refine zy_dec m1 (by omega) (fun w' => absurd rfl (w' f w)) (fun g' w' e => br_f (by decide) (br_c hp.1 (fun z => ⟨hin, ?_⟩)))
      rw [ec]
      exact br_c (hp.2 z).1 (fun y => ⟨hin, nm_e ⟨hin, nm_e ((hp.2 z).2 y)⟩⟩)
    refine br_f (by decide) ?_
    by_cases z : 0 ≤ opn
    · exact br_t z (hY (br_t z ⟨rfl, R⟩))
    · refine br_f z ⟨hin, ?_⟩
      rw [ec]
      by_cases y : sta f = 2
      · exact br_t y (hY (br_f z (br_t y ⟨rfl, R⟩)))
      · refine br_f y ⟨hin, nm_e ⟨hin, nm_e ⟨hin, ?_⟩⟩⟩
        rcases h4 with ⟨c1, c2, c3, c4, ⟨H, c5⟩, ⟨A, c6⟩⟩ | ⟨f', c, n, g1, g2, g3⟩
        · subst c5 c6
          refine br_t (by decide) ⟨hin8, nm_e ⟨hin8, nm_e ⟨hin8, nm_r (e' := zc_z (zc_u H 0 0)) (zc_zu H 0 0) ⟨hin8, nm_e ⟨hin8, nm_r (e' := zc_z (zc_u A 0 0)) (zc_zu A 0 0) ⟨hin8, nm_e (nm_e ?_)⟩⟩⟩⟩⟩⟩
          refine hY (br_f z (br_f y ⟨rfl, zz_in ?_⟩))
          refine ⟨nc, nl, ncl, nms, nfu, nd, ⟨m1, m2, m3, m4, m5⟩, h0, h1, h2, h3, ⟨fun g hg => ?_, fun g hg => ?_⟩, Or.inr ⟨f, (0, oT, 1, upd fK 0 0, upd fT 0 (re f), zc_u H 0 0, upd fU 0 0, zc_u A 0 0), 0, w, rfl, pk_us, by omega, ⟨rfl, rfl, rfl, rfl, rfl, rfl, rfl, rfl⟩, zr_OB0 h1 w⟩⟩
          · rw [pk_un (by omega), pk_un (by omega)]; exact f1 g hg
          · by_cases x : g = f
            · rw [x, pk_us, pk_us]
              exact ⟨fun q => absurd q (by decide), 0, by omega, rfl⟩
            · obtain ⟨a, b⟩ := f2 g hg
              rw [pk_un x, pk_un x]
              exact ⟨fun q => zr_COc h1.1 (Nat.le_refl _) hg (fun _ _ => ⟨rfl, rfl, rfl⟩) (pk_un x) (fun _ _ => ⟨rfl, rfl⟩) (fun _ _ => ⟨rfl, rfl, rfl⟩) (a q), b⟩
        · exact absurd (by rw [g2]; exact nI_pos' (by omega)) z
theorem i_vc_discard {k : Nat} {u : SX} {v : SY} (I : i_Rel k u v) (hk : k + 5 ≤ 2564) : wpX_discard (fun r u' => wpY_discard (fun r' v' => r' = r ∧ i_Rel (k + 5) u' v') v) u := by
  refine zz_el (P := fun u v => wpX_discard (fun r u' => wpY_discard (fun r' v' => r' = r ∧ i_Rel (k + 5) u' v') v) u) ?_ I
  intro fl cl ms fu cnt opn tu oc fc cu pu mk us dep top pc tr er sz dp ytr nx tk lr pa lo tb re sta len ops sT sF sM oT fK fT fH fU fS fC mem aF aA aT ty kd bk hh dd aP aZ aL lP lF vt byt imm arg glo cel loc val h
  by_cases z : 0 ≤ opn
  · obtain ⟨nc, nl, ncl, nms, nfu, nd, ⟨m1, m2, m3, m4, m5⟩, h0, h1, h2, h3, ⟨f1, f2⟩, h4⟩ := h
    rcases h4 with ⟨c1, c2, c3, c4, ⟨H, c5⟩, ⟨A, c6⟩⟩ | ⟨f, c, n, g1, g2, g3, g4, ⟨x1, x2, x3, x4, x5, x6, x7, x8⟩, g5⟩
    · rw [c1] at z; exact absurd z (by decide)
    · subst g2
      have hin : vp_in (nI f) 4 := vp_in_nI (by omega) (by decide)
      have ec : (nI f).toNatClampNeg = f := nI_clamp (by omega)
      refine br_t z ⟨hin, nm_r (e' := upd sta f 0) (by rw [ec]) ⟨hin, nm_r (e' := upd len f 0) (by rw [ec]) ?_⟩⟩
      refine br_t z ⟨hin, nm_r (e' := upd sta f 0) (by rw [ec]) ⟨hin, nm_r (e' := upd len f 0) (by rw [ec]) ⟨rfl, zz_in ?_⟩⟩⟩
      refine ⟨nc, nl, ncl, nms, nfu, nd, ⟨m1, m2, m3, m4, m5⟩, h0, h1, h2, h3, ⟨fun g hg => ?_, fun g hg => ?_⟩, Or.inl ⟨rfl, rfl, rfl, rfl, ⟨_, x6⟩, ⟨_, x8⟩⟩⟩
      · rw [pk_un (by omega), pk_un (by omega)]; exact f1 g hg
      · by_cases x : g = f
        · rw [x, pk_us, pk_us]
          exact ⟨fun q => absurd q (by decide), 0, by omega, rfl⟩
        · obtain ⟨a, b⟩ := f2 g hg
          rw [pk_un x, pk_un x]
          exact ⟨fun q => zr_COc h1.1 (Nat.le_refl _) hg (fun _ _ => ⟨rfl, rfl, rfl⟩) (pk_un x) (fun _ _ => ⟨rfl, rfl⟩) (fun _ _ => ⟨rfl, rfl, rfl⟩) (a q), b⟩
  · exact br_f z (br_f z ⟨rfl, zz_in h⟩)
end
section
/-! what looks at the checker -/
section
variable {fl cl ms fu cnt opn tu oc fc cu pu mk us dep top pc tr er sz dp ytr nx tk : Int32} {lr : Int64} {pa lo tb re sta len ops sT sF sM oT fK fT fH fU fS fC mem aF aA aT ty kd bk hh dd aP aZ aL lP lF vt byt : Nat → Int32} {imm arg glo cel loc val : Nat → Int64}
/-- the reference's replay in related states -/
theorem zr_rep {post : SY → Prop} {nc ncl : Nat} (hsg : zc_sg pa lo re nc) (h : zr_op pa tb re sta len ops sT sF sM fC oT fK fT fH fU fS imm nc ncl opn tu oc fc)
    (h0 : opn = -1 → oc = 0 → fc = 0 → post (fl, cl, ms, fu, cnt, opn, er, 0, 0, dep, ytr, nx, us, tk, lr, pa, lo, tb, re, sta, len, ops, ty, kd, bk, hh, dd, aF, aP, aZ, aL, lP, lF, vt, byt, imm, val, loc, glo, arg))
    (h1 : ∀ (f : Nat) (c : zc_C) (n : Nat), f < nc → opn = nI f → zc_ok c → (oc = nI (zc_S c) ∧ fc = nI (zc_D c) ∧ oT = zc_T c ∧ fK = zc_K c ∧ fT = zc_B c ∧ fH = zc_z (zc_H c) ∧ fU = zc_U c ∧ fS = zc_z (zc_A c)) →
      ∀ (er : Int32) (ty kd bk hh dd : Nat → Int32), zy_Ag c ty kd bk hh dd → post (fl, cl, ms, fu, cnt, opn, er, nI (zc_S c), nI (zc_D c), dep, ytr, nx, us, tk, lr, pa, lo, tb, re, sta, len, ops, ty, kd, bk, hh, dd, aF, aP, aZ, aL, lP, lF, vt, byt, imm, val, loc, glo, arg)) : wpY_replay post (fl, cl, ms, fu, cnt, opn, er, sz, dp, dep, ytr, nx, us, tk, lr, pa, lo, tb, re, sta, len, ops, ty, kd, bk, hh, dd, aF, aP, aZ, aL, lP, lF, vt, byt, imm, val, loc, glo, arg) := by
  rcases h with ⟨c1, c2, c3, c4, c5⟩ | ⟨f, c, n, g1, g2, g3, g4, g5, g6, g7, g8, T, sI, sD, L, g9, g10, g11⟩
  · exact zy_replay0 c1 (h0 c1 c3 c4)
  · refine zy_replay hsg g1 g6 g7 g2 g10 (fun er ty kd bk hh dd hA => ?_)
    rw [g9] at hA ⊢
    exact h1 f c n g1 g2 g8 g5 er ty kd bk hh dd hA
end
theorem i_vc_controlDepth {k : Nat} {u : SX} {v : SY} (I : i_Rel k u v) (hk : k + 5 ≤ 2564) : wpX_controlDepth (fun r => wpY_controlDepth (fun r' v' => r' = r ∧ i_Rel (k + 5) u v') v) u := by
  refine zz_el (P := fun u v => wpX_controlDepth (fun r => wpY_controlDepth (fun r' v' => r' = r ∧ i_Rel (k + 5) u v') v) u) ?_ I
  intro fl cl ms fu cnt opn tu oc fc cu pu mk us dep top pc tr er sz dp ytr nx tk lr pa lo tb re sta len ops sT sF sM oT fK fT fH fU fS fC mem aF aA aT ty kd bk hh dd aP aZ aL lP lF vt byt imm arg glo cel loc val h
  have R : ∀ (er sz dp : Int32) (ty kd bk hh dd : Nat → Int32), i_Rel (k + 5) (fl, cl, ms, fu, cnt, opn, tu, oc, fc, cu, pu, mk, lr, us, dep, top, pc, tr, pa, lo, tb, re, sta, len, ops, imm, sT, sF, sM, oT, fK, fT, fH, fU, fS, fC, arg, glo, mem, aF, aA, aT, cel, loc) (fl, cl, ms, fu, cnt, opn, er, sz, dp, dep, ytr, nx, us, tk, lr, pa, lo, tb, re, sta, len, ops, ty, kd, bk, hh, dd, aF, aP, aZ, aL, lP, lF, vt, byt, imm, val, loc, glo, arg) := fun _ _ _ _ _ _ _ _ => zz_in h
  obtain ⟨nc, nl, ncl, nms, nfu, nd, ⟨m1, m2, m3, m4, m5⟩, h0, h1, h2, h3, h5, h4⟩ := h
  unfold wpX_controlDepth wpY_controlDepth
  exact zr_rep h1 h4 (fun a b c => ⟨c.symm, R _ _ _ _ _ _ _ _⟩) (fun f c n _ _ _ g er ty kd bk hh dd _ => ⟨g.2.1.symm, R _ _ _ _ _ _ _ _⟩)
theorem i_vc_operands {k : Nat} {u : SX} {v : SY} (I : i_Rel k u v) (hk : k + 5 ≤ 2564) : wpX_operands (fun r => wpY_operands (fun r' v' => r' = r ∧ i_Rel (k + 5) u v') v) u := by
  refine zz_el (P := fun u v => wpX_operands (fun r => wpY_operands (fun r' v' => r' = r ∧ i_Rel (k + 5) u v') v) u) ?_ I
  intro fl cl ms fu cnt opn tu oc fc cu pu mk us dep top pc tr er sz dp ytr nx tk lr pa lo tb re sta len ops sT sF sM oT fK fT fH fU fS fC mem aF aA aT ty kd bk hh dd aP aZ aL lP lF vt byt imm arg glo cel loc val h
  have R : ∀ (er sz dp : Int32) (ty kd bk hh dd : Nat → Int32), i_Rel (k + 5) (fl, cl, ms, fu, cnt, opn, tu, oc, fc, cu, pu, mk, lr, us, dep, top, pc, tr, pa, lo, tb, re, sta, len, ops, imm, sT, sF, sM, oT, fK, fT, fH, fU, fS, fC, arg, glo, mem, aF, aA, aT, cel, loc) (fl, cl, ms, fu, cnt, opn, er, sz, dp, dep, ytr, nx, us, tk, lr, pa, lo, tb, re, sta, len, ops, ty, kd, bk, hh, dd, aF, aP, aZ, aL, lP, lF, vt, byt, imm, val, loc, glo, arg) := fun _ _ _ _ _ _ _ _ => zz_in h
  obtain ⟨nc, nl, ncl, nms, nfu, nd, ⟨m1, m2, m3, m4, m5⟩, h0, h1, h2, h3, h5, h4⟩ := h
  by_cases z : 0 ≤ opn
  · refine br_t z ?_
    unfold wpY_operands
    refine zr_rep h1 h4 (fun a b c => ?_) (fun f c n _ _ _ g er ty kd bk hh dd _ => br_t z ⟨g.1.symm, R _ _ _ _ _ _ _ _⟩)
    rw [a] at z; exact absurd z (by decide)
  · refine br_f z ?_
    unfold wpY_operands
    refine zr_rep h1 h4 (fun a b c => br_f z ⟨rfl, R _ _ _ _ _ _ _ _⟩) (fun f c n g1 g2 _ g er ty kd bk hh dd _ => br_f z ⟨rfl, R _ _ _ _ _ _ _ _⟩)
theorem i_vc_operandType {k : Nat} {u : SX} {v : SY} (I : i_Rel k u v) (hk : k + 5 ≤ 2564) (v1 : Int32) : wpX_operandType (fun r => wpY_operandType (fun r' v' => r' = r ∧ i_Rel (k + 5) u v') v v1) u v1 := by
  refine zz_el (P := fun u v => wpX_operandType (fun r => wpY_operandType (fun r' v' => r' = r ∧ i_Rel (k + 5) u v') v v1) u v1) ?_ I
  intro fl cl ms fu cnt opn tu oc fc cu pu mk us dep top pc tr er sz dp ytr nx tk lr pa lo tb re sta len ops sT sF sM oT fK fT fH fU fS fC mem aF aA aT ty kd bk hh dd aP aZ aL lP lF vt byt imm arg glo cel loc val h
  have R : ∀ (er sz dp : Int32) (ty kd bk hh dd : Nat → Int32), i_Rel (k + 5) (fl, cl, ms, fu, cnt, opn, tu, oc, fc, cu, pu, mk, lr, us, dep, top, pc, tr, pa, lo, tb, re, sta, len, ops, imm, sT, sF, sM, oT, fK, fT, fH, fU, fS, fC, arg, glo, mem, aF, aA, aT, cel, loc) (fl, cl, ms, fu, cnt, opn, er, sz, dp, dep, ytr, nx, us, tk, lr, pa, lo, tb, re, sta, len, ops, ty, kd, bk, hh, dd, aF, aP, aZ, aL, lP, lF, vt, byt, imm, val, loc, glo, arg) := fun _ _ _ _ _ _ _ _ => zz_in h
  obtain ⟨nc, nl, ncl, nms, nfu, nd, ⟨m1, m2, m3, m4, m5⟩, h0, h1, h2, h3, h5, h4⟩ := h
  by_cases z : opn < 0
  · refine br_t z ?_
    unfold wpY_operandType
    exact zr_rep h1 h4 (fun a b c => br_t z ⟨rfl, R _ _ _ _ _ _ _ _⟩) (fun f c n g1 g2 _ g er ty kd bk hh dd _ => br_t z ⟨rfl, R _ _ _ _ _ _ _ _⟩)
  refine br_f z ?_
  have nz : opn = -1 → False := fun a => by rw [a] at z; exact z (by decide)
  by_cases y : v1 < 0
  · refine br_t y ?_
    unfold wpY_operandType
    exact zr_rep h1 h4 (fun a b c => (nz a).elim) (fun f c n g1 g2 _ g er ty kd bk hh dd _ => br_f z (br_t y ⟨rfl, R _ _ _ _ _ _ _ _⟩))
  obtain ⟨j, hj, rfl⟩ := nI_of y
  refine br_f y ?_
  rcases h4 with ⟨c1, c2⟩ | ⟨f, c, n, g1, g2, g3, g4, ⟨x1, x2, x3, x4, x5, x6, x7, x8⟩, g6, g7, g8, g9⟩
  · exact (nz c1).elim
  have hS := g8.2.2.1
  have h4' : zr_op pa tb re sta len ops sT sF sM fC oT fK fT fH fU fS imm nc ncl opn tu oc fc := Or.inr ⟨f, c, n, g1, g2, g3, g4, ⟨x1, x2, x3, x4, x5, x6, x7, x8⟩, g6, g7, g8, g9⟩
  have hY : ∀ {post : Int32 → SY → Prop}, (∀ (c' : zc_C) (er : Int32) (ty kd bk hh dd : Nat → Int32), zc_ok c' → oc = nI (zc_S c') → oT = zc_T c' → zy_Ag c' ty kd bk hh dd → ((nI j < nI (zc_S c') → (vp_in ((nI (zc_S c') - 1) - nI j) 16 ∧ post (ty ((nI (zc_S c') - 1) - nI j).toNatClampNeg) (fl, cl, ms, fu, cnt, opn, er, nI (zc_S c'), nI (zc_D c'), dep, ytr, nx, us, tk, lr, pa, lo, tb, re, sta, len, ops, ty, kd, bk, hh, dd, aF, aP, aZ, aL, lP, lF, vt, byt, imm, val, loc, glo, arg))) ∧ (¬ nI j < nI (zc_S c') → post (-1) (fl, cl, ms, fu, cnt, opn, er, nI (zc_S c'), nI (zc_D c'), dep, ytr, nx, us, tk, lr, pa, lo, tb, re, sta, len, ops, ty, kd, bk, hh, dd, aF, aP, aZ, aL, lP, lF, vt, byt, imm, val, loc, glo, arg)))) → wpY_operandType post (fl, cl, ms, fu, cnt, opn, er, sz, dp, dep, ytr, nx, us, tk, lr, pa, lo, tb, re, sta, len, ops, ty, kd, bk, hh, dd, aF, aP, aZ, aL, lP, lF, vt, byt, imm, val, loc, glo, arg) (nI j) := by
    intro post hp
    unfold wpY_operandType
    exact zr_rep h1 h4' (fun a b c => (nz a).elim) (fun f c' n g1 g2 ok g er ty kd bk hh dd hA => br_f z (br_f y (hp c' er ty kd bk hh dd ok g.1 g.2.2.1 hA)))
  subst x1
  refine pk_lt j (zc_S c) (fun w => ?_) (fun w => hY (fun c' er ty kd bk hh dd ok e1 e2 hA => ?_))
  · have e : nI (zc_S c) - 1 - nI j = nI (zc_S c - 1 - j) := by
      rw [show nI (zc_S c) - 1 = nI (zc_S c - 1) from pk_sub (b := 1) (by omega)]
      exact pk_sub (by omega)
    rw [e]
    refine ⟨vp_in_nI (by omega) (by decide), hY (fun c' er ty kd bk hh dd ok e1 e2 hA => ?_)⟩
    have hS' := ok.2.2.1
    have e3 := (nI_eq (by omega) (by omega)).mp e1
    rw [← e3, e]
    refine br_t (nI_lt w (by omega)) ⟨vp_in_nI (by omega) (by decide), ?_, R _ _ _ _ _ _ _ _⟩
    rw [nI_clamp (by omega), hA.1 _ (by omega), e2]
  · have hS' := ok.2.2.1
    have e3 := (nI_eq (by omega) (by omega)).mp e1
    rw [← e3]
    exact br_f (nI_nlt w (by omega)) ⟨rfl, R _ _ _ _ _ _ _ _⟩
theorem i_vc_frame {k : Nat} {u : SX} {v : SY} (I : i_Rel k u v) (hk : k + 5 ≤ 2564) (v1 : Int32) : wpX_frame (fun r => wpY_frame (fun r' v' => r' = r ∧ i_Rel (k + 5) u v') v v1) u v1 := by
  refine zz_el (P := fun u v => wpX_frame (fun r => wpY_frame (fun r' v' => r' = r ∧ i_Rel (k + 5) u v') v v1) u v1) ?_ I
  intro fl cl ms fu cnt opn tu oc fc cu pu mk us dep top pc tr er sz dp ytr nx tk lr pa lo tb re sta len ops sT sF sM oT fK fT fH fU fS fC mem aF aA aT ty kd bk hh dd aP aZ aL lP lF vt byt imm arg glo cel loc val h
  have R : ∀ (er sz dp : Int32) (ty kd bk hh dd : Nat → Int32), i_Rel (k + 5) (fl, cl, ms, fu, cnt, opn, tu, oc, fc, cu, pu, mk, lr, us, dep, top, pc, tr, pa, lo, tb, re, sta, len, ops, imm, sT, sF, sM, oT, fK, fT, fH, fU, fS, fC, arg, glo, mem, aF, aA, aT, cel, loc) (fl, cl, ms, fu, cnt, opn, er, sz, dp, dep, ytr, nx, us, tk, lr, pa, lo, tb, re, sta, len, ops, ty, kd, bk, hh, dd, aF, aP, aZ, aL, lP, lF, vt, byt, imm, val, loc, glo, arg) := fun _ _ _ _ _ _ _ _ => zz_in h
  obtain ⟨nc, nl, ncl, nms, nfu, nd, ⟨m1, m2, m3, m4, m5⟩, h0, h1, h2, h3, h5, h4⟩ := h
  by_cases y : v1 < 0
  · refine br_t y ?_
    unfold wpY_frame
    exact zr_rep h1 h4 (fun a b c => nm_e (br_t y ⟨rfl, R _ _ _ _ _ _ _ _⟩)) (fun f c n g1 g2 _ g er ty kd bk hh dd _ => nm_e (br_t y ⟨rfl, R _ _ _ _ _ _ _ _⟩))
  obtain ⟨j, hj, rfl⟩ := nI_of y
  refine br_f y ?_
  have h4' := h4
  rcases h4 with ⟨c1, c2, c3, c4, c5⟩ | ⟨f, c, n, g1, g2, g3, g4, ⟨x1, x2, x3, x4, x5, x6, x7, x8⟩, g6, g7, g8, g9⟩
  · subst c4
    refine br_f y ?_
    unfold wpY_frame
    refine zr_rep h1 h4' (fun a b c => nm_e (br_f y (br_f (zk_sneg1 hj) ⟨rfl, R _ _ _ _ _ _ _ _⟩))) (fun f c n g1 g2 _ g er ty kd bk hh dd _ => ?_)
    rw [c1] at g2
    exact absurd (show (0 : Int32) ≤ -1 from by rw [g2]; exact nI_pos' (by omega)) (by decide)
  · have hD := g8.1
    have hD8 := g8.2.1
    have nz : opn = -1 → False := fun a => by
      rw [a] at g2
      exact absurd (show (0 : Int32) ≤ -1 from by rw [g2]; exact nI_pos' (by omega)) (by decide)
    subst x2
    refine pk_lt j (zc_D c) (fun w => ?_) (fun w => ?_)
    · have e : nI (zc_D c) - 1 - nI j = nI (zc_D c - 1 - j) := by
        rw [show nI (zc_D c) - 1 = nI (zc_D c - 1) from pk_sub (b := 1) (by omega)]
        exact pk_sub (by omega)
      have hin : vp_in (nI (zc_D c - 1 - j)) 8 := vp_in_nI (by omega) (by decide)
      have ec : (nI (zc_D c - 1 - j)).toNatClampNeg = zc_D c - 1 - j := nI_clamp (by omega)
      have hY : ∀ z0 : Int32, z0 = zc_U c (zc_D c - 1 - j) → wpY_frame (fun r' v' => r' = (((zc_K c (zc_D c - 1 - j)) + (8 * (zc_B c (zc_D c - 1 - j)))) + (128 * z0)) + (256 * (nI (zc_H c (zc_D c - 1 - j)))) ∧ i_Rel (k + 5) (fl, cl, ms, fu, cnt, opn, tu, oc, nI (zc_D c), cu, pu, mk, lr, us, dep, top, pc, tr, pa, lo, tb, re, sta, len, ops, imm, sT, sF, sM, oT, fK, fT, fH, fU, fS, fC, arg, glo, mem, aF, aA, aT, cel, loc) v') (fl, cl, ms, fu, cnt, opn, er, sz, dp, dep, ytr, nx, us, tk, lr, pa, lo, tb, re, sta, len, ops, ty, kd, bk, hh, dd, aF, aP, aZ, aL, lP, lF, vt, byt, imm, val, loc, glo, arg) (nI j) := by
        intro z0 hz
        unfold wpY_frame
        refine zr_rep h1 h4' (fun a b c => (nz a).elim) (fun f c' n g1 g2 ok g er ty kd bk hh dd hA => ?_)
        have hD8' := ok.2.1
        have e3 := (nI_eq (by omega) (by omega)).mp g.2.1
        rw [← e3]
        refine nm_r e (br_f y (br_t (nI_pos' (by omega)) ⟨hin, hin, hin, hin, ?_, R _ _ _ _ _ _ _ _⟩))
        obtain ⟨a1, a2, a3, a4⟩ := hA.2 (zc_D c - 1 - j) (by omega)
        have eH : zc_z (zc_H c') (zc_D c - 1 - j) = zc_z (zc_H c) (zc_D c - 1 - j) := by rw [← g.2.2.2.2.2.1, ← x6]
        have eH2 : nI (zc_H c' (zc_D c - 1 - j)) = nI (zc_H c (zc_D c - 1 - j)) := eH
        rw [ec, a1, a2, a3, a4, hz, eH2, ← g.2.2.2.1, ← g.2.2.2.2.1, ← g.2.2.2.2.2.2.1, x4, x5, x7]
      subst x4 x5 x6 x7
      refine nm_r e ⟨hin, ?_⟩
      rw [ec]
      by_cases u0 : zc_U c (zc_D c - 1 - j) = 0
      · refine br_t u0 ⟨hin, hin, hin, ?_⟩
        rw [ec]
        exact hY 0 u0.symm
      · refine br_f u0 ⟨hin, hin, hin, ?_⟩
        rw [ec]
        rcases g8.2.2.2.2.2.2.2.2.2.2.1 (zc_D c - 1 - j) (by omega) with q | q
        · exact absurd q u0
        · exact hY 1 q.symm
    · unfold wpY_frame
      refine zr_rep h1 h4' (fun a b c => (nz a).elim) (fun f c' n g1 g2 ok g er ty kd bk hh dd hA => ?_)
      have hD' := ok.1
      have hD8' := ok.2.1
      have e3 := (nI_eq (by omega) (by omega)).mp g.2.1
      rw [← e3]
      refine nm_r (e' := nI (zc_D c - 1) - nI j) (by rw [show nI (zc_D c) - 1 = nI (zc_D c - 1) from pk_sub (b := 1) (by omega)]) (br_f y (br_f (zk_sneg (by omega) hj (by omega)) ⟨rfl, R _ _ _ _ _ _ _ _⟩))
end
section
/-! the component's feed, up to the commit -/
def zi_lim (k D nc pl : Nat) : Nat := if k ≤ 3 then 9 else if k ≤ 7 then D else if k = 10 then nc else if k ≤ 15 then pl else if k ≤ 17 then 2 else 64
def zi_none (k : Nat) : Prop := k = 0 ∨ k = 4 ∨ k = 5 ∨ k = 9 ∨ k = 11 ∨ k = 12 ∨ (20 ≤ k ∧ k ≤ 37)
def zi_ok (k D nc pl : Nat) (im : Int64) : Prop := zi_none k ∨ k = 19 ∨ (k = 18 ∧ im = im.toInt32.toInt64) ∨ (¬ zi_none k ∧ k ≠ 18 ∧ ∃ b, b < zi_lim k D nc pl ∧ im = lN b)
noncomputable def zi_rec (k : Nat) (im : Int64) : Int64 := @ite Int64 (zi_none k) (Classical.propDecidable _) 0 im
theorem zi_rec0 {k : Nat} {im : Int64} (h : zi_none k) : zi_rec k im = 0 := by unfold zi_rec; rw [if_pos h]
theorem zi_rec1 {k : Nat} {im : Int64} (h : ¬ zi_none k) : zi_rec k im = im := by unfold zi_rec; rw [if_neg h]
/-- a long between 0 and a bound -/
theorem zi_b1 {A B : Prop} {im M : Int64} (N : Nat) (hN : N < 2 ^ 31) (hM : M = lN N) (h1 : (∃ b, b < N + 1 ∧ im = lN b) → B) (h0 : ¬ (∃ b, b < N + 1 ∧ im = lN b) → A) : (im < 0 → A) ∧ (¬ im < 0 → ((M < im → A) ∧ (¬ M < im → B))) := by
  subst hM
  by_cases z : im < 0
  · refine br_t z (h0 ?_)
    rintro ⟨b, hb, e⟩
    rw [e, Int64.lt_iff_toInt_lt, lN_toInt (by omega), show (0 : Int64).toInt = 0 from by decide] at z; omega
  · obtain ⟨b, hb, rfl⟩ := pk_lOf z
    refine br_f z ⟨fun w => h0 ?_, fun w => h1 ?_⟩
    · rw [pk_lLT (by omega) hb] at w
      rintro ⟨b', hb', e⟩
      rw [pk_lEQ hb (by omega)] at e; omega
    · rw [pk_lLT (by omega) hb] at w
      exact ⟨b, by omega, rfl⟩
theorem zi_b2 {A B : Prop} {im M : Int64} (N : Nat) (hN : N < 2 ^ 31) (hM : M = lN N) (h1 : (∃ b, b < N ∧ im = lN b) → B) (h0 : ¬ (∃ b, b < N ∧ im = lN b) → A) : (im < 0 → A) ∧ (¬ im < 0 → ((M ≤ im → A) ∧ (¬ M ≤ im → B))) := by
  subst hM
  by_cases z : im < 0
  · refine br_t z (h0 ?_)
    rintro ⟨b, hb, e⟩
    rw [e, Int64.lt_iff_toInt_lt, lN_toInt (by omega), show (0 : Int64).toInt = 0 from by decide] at z; omega
  · obtain ⟨b, hb, rfl⟩ := pk_lOf z
    refine br_f z ⟨fun w => h0 ?_, fun w => h1 ?_⟩
    · rw [pk_lLE (by omega) hb] at w
      rintro ⟨b', hb', e⟩
      rw [pk_lEQ hb (by omega)] at e; omega
    · rw [pk_lLE (by omega) hb] at w
      exact ⟨b, by omega, rfl⟩
theorem zi_sx (im : Int64) : im = im.toInt32.toInt64 ↔ ¬ im < -2147483648 ∧ ¬ 2147483647 < im := by
  have e : im = im.toInt32.toInt64 ↔ im.toInt = im.toInt32.toInt := by
    rw [← Int64.toInt_inj, Int32.toInt_toInt64]
  rw [e, Int64.lt_iff_toInt_lt, Int64.lt_iff_toInt_lt, Int64.toInt_toInt32, show (-2147483648 : Int64).toInt = -2147483648 from by decide, show (2147483647 : Int64).toInt = 2147483647 from by decide]
  constructor
  · intro h
    have h1 := Int.le_bmod (x := im.toInt) (m := 2 ^ 32) (by decide)
    have h2 := Int.bmod_lt (x := im.toInt) (m := 2 ^ 32) (by decide)
    rw [← h] at h1 h2
    omega
  · intro h
    exact (Int.bmod_eq_of_le (by omega) (by omega)).symm
section
variable {fl cl ms fu cnt opn tu oc fc cu pu mk us dep top pc tr : Int32} {lr : Int64} {pa lo tb re sta len ops sT sF sM oT fK fT fH fU fS fC mem aF aA aT : Nat → Int32} {imm arg glo cel loc : Nat → Int64} {c c1 : zc_C} {k s f a g n cur nc pl : Nat} {im : Int64} {t o m i : Int32} {post : Int32 → SX → Prop}
theorem zx_imf {post : Int32 → Prop} (hk : k < 42) (hk8 : k ≠ 8) (hD : zc_D c ≤ 8) (hc : cnt = nI nc) (h4 : nc ≤ 4) (hf : f < 4) (ho : opn = nI f) (hpl : pa f + lo f = nI pl) (hp8 : pl ≤ 8)
    (h1 : zi_ok k (zc_D c) nc pl im → post 1) (h0 : ¬ zi_ok k (zc_D c) nc pl im → post 0) : wpX_immediateFits post (fl, cl, ms, fu, cnt, opn, tu, nI (zc_S c), nI (zc_D c), cu, pu, mk, lr, us, dep, top, pc, tr, pa, lo, tb, re, sta, len, ops, imm, sT, sF, sM, zc_T c, zc_K c, zc_B c, zc_z (zc_H c), zc_U c, zc_z (zc_A c), fC, arg, glo, mem, aF, aA, aT, cel, loc) (nI k) im := by
  subst hc ho
  have ec : (nI f).toNatClampNeg = f := nI_clamp (by omega)
  have hin : vp_in (nI f) 4 := vp_in_nI hf (by decide)
  have N : (zi_none k ∨ k = 19 ∨ k = 8) → post 1 := fun z => by
    rcases z with z | z | z
    · exact h1 (Or.inl z)
    · exact h1 (Or.inr (Or.inl z))
    · exact absurd z hk8
  have G : ∀ N, zi_lim k (zc_D c) nc pl = N → ¬ zi_none k → k ≠ 18 → k ≠ 19 → ((∃ b, b < N ∧ im = lN b) → post 1) ∧ (¬ (∃ b, b < N ∧ im = lN b) → post 0) := by
    intro N e n1 n2 n3
    subst e
    refine ⟨fun z => h1 (Or.inr (Or.inr (Or.inr ⟨n1, n2, z⟩))), fun z => h0 ?_⟩
    rintro (y | y | y | y)
    · exact n1 y
    · exact n3 y
    · exact n2 y.1
    · exact z y.2.2
  have nn : (¬ (k = 0 ∨ k = 4 ∨ k = 5 ∨ k = 9 ∨ k = 11 ∨ k = 12 ∨ (20 ≤ k ∧ k ≤ 37))) → ¬ zi_none k := id
  have N : (k = 0 ∨ k = 4 ∨ k = 5 ∨ k = 9 ∨ k = 11 ∨ k = 12 ∨ (20 ≤ k ∧ k ≤ 37) ∨ k = 19 ∨ k = 8) → post 1 := fun z => by
    rcases z with z | z | z | z | z | z | z | z | z
    · exact N (Or.inl (Or.inl z))
    · exact N (Or.inl (Or.inr (Or.inl z)))
    · exact N (Or.inl (Or.inr (Or.inr (Or.inl z))))
    · exact N (Or.inl (Or.inr (Or.inr (Or.inr (Or.inl z)))))
    · exact N (Or.inl (Or.inr (Or.inr (Or.inr (Or.inr (Or.inl z))))))
    · exact N (Or.inl (Or.inr (Or.inr (Or.inr (Or.inr (Or.inr (Or.inl z)))))))
    · exact N (Or.inl (Or.inr (Or.inr (Or.inr (Or.inr (Or.inr (Or.inr z)))))))
    · exact N (Or.inr (Or.inl z))
    · exact N (Or.inr (Or.inr z))
  have L9 : (1 ≤ k ∧ k ≤ 3) → wX_immediateFits_180 post im fl cl ms fu (nI nc) (nI f) tu (nI (zc_S c)) (nI (zc_D c)) cu pu mk lr us dep top pc tr pa lo tb re sta len ops imm sT sF sM (zc_T c) (zc_K c) (zc_B c) (zc_z (zc_H c)) (zc_U c) (zc_z (zc_A c)) fC arg glo mem aF aA aT cel loc := fun z => by
    obtain ⟨g1, g0⟩ := G 9 (by unfold zi_lim; rw [if_pos (by omega)]) (nn (by omega)) (by omega) (by omega)
    exact zi_b1 8 (by omega) rfl g1 g0
  have LD : (k = 6 ∨ k = 7) → wX_immediateFits_200 post im fl cl ms fu (nI nc) (nI f) tu (nI (zc_S c)) (nI (zc_D c)) cu pu mk lr us dep top pc tr pa lo tb re sta len ops imm sT sF sM (zc_T c) (zc_K c) (zc_B c) (zc_z (zc_H c)) (zc_U c) (zc_z (zc_A c)) fC arg glo mem aF aA aT cel loc := fun z => by
    obtain ⟨g1, g0⟩ := G (zc_D c) (by unfold zi_lim; rw [if_neg (by omega), if_pos (by omega)]) (nn (by omega)) (by omega) (by omega)
    exact zi_b2 (zc_D c) (by omega) (nI_l (by omega)) g1 g0
  have LC : k = 10 → _ := fun z => by
    obtain ⟨g1, g0⟩ := G nc (by unfold zi_lim; rw [if_neg (by omega), if_neg (by omega), if_pos z]) (nn (by omega)) (by omega) (by omega)
    exact zi_b2 nc (by omega) (nI_l (by omega)) g1 g0
  have LP : (k = 13 ∨ k = 14 ∨ k = 15) → wX_immediateFits_244 post im fl cl ms fu (nI nc) (nI f) tu (nI (zc_S c)) (nI (zc_D c)) cu pu mk lr us dep top pc tr pa lo tb re sta len ops imm sT sF sM (zc_T c) (zc_K c) (zc_B c) (zc_z (zc_H c)) (zc_U c) (zc_z (zc_A c)) fC arg glo mem aF aA aT cel loc := fun z => by
    obtain ⟨g1, g0⟩ := G pl (by unfold zi_lim; rw [if_neg (by omega), if_neg (by omega), if_neg (by omega), if_pos (by omega)]) (nn (by omega)) (by omega) (by omega)
    have q := zi_b2 (M := (pa f + lo f).toInt64) pl (by omega) (by rw [hpl]; exact nI_l (by omega)) g1 g0
    refine ⟨q.1, fun w => ⟨hin, hin, ?_⟩⟩
    rw [ec]; exact q.2 w
  have L2 : (k = 16 ∨ k = 17) → wX_immediateFits_281 post im fl cl ms fu (nI nc) (nI f) tu (nI (zc_S c)) (nI (zc_D c)) cu pu mk lr us dep top pc tr pa lo tb re sta len ops imm sT sF sM (zc_T c) (zc_K c) (zc_B c) (zc_z (zc_H c)) (zc_U c) (zc_z (zc_A c)) fC arg glo mem aF aA aT cel loc := fun z => by
    obtain ⟨g1, g0⟩ := G 2 (by unfold zi_lim; rw [if_neg (by omega), if_neg (by omega), if_neg (by omega), if_neg (by omega), if_pos (by omega)]) (nn (by omega)) (by omega) (by omega)
    exact zi_b1 1 (by omega) rfl g1 g0
  have L64 : (38 ≤ k) → wX_immediateFits_321 post im fl cl ms fu (nI nc) (nI f) tu (nI (zc_S c)) (nI (zc_D c)) cu pu mk lr us dep top pc tr pa lo tb re sta len ops imm sT sF sM (zc_T c) (zc_K c) (zc_B c) (zc_z (zc_H c)) (zc_U c) (zc_z (zc_A c)) fC arg glo mem aF aA aT cel loc := fun z => by
    obtain ⟨g1, g0⟩ := G 64 (by unfold zi_lim; rw [if_neg (by omega), if_neg (by omega), if_neg (by omega), if_neg (by omega), if_neg (by omega)]) (nn (by omega)) (by omega) (by omega)
    exact zi_b1 63 (by omega) rfl g1 g0
  have L18 : k = 18 → ((im < (-2147483648) → (post 0)) ∧ (¬ im < (-2147483648) → (((2147483647 < im → (post 0)) ∧ (¬ 2147483647 < im → (post 1)))))) := fun z => by
    have n0 : ¬ im = im.toInt32.toInt64 → post 0 := fun w => h0 (by
      rintro (y | y | y | y)
      · exact nn (by omega) y
      · omega
      · exact w y.2
      · exact y.2.1 z)
    have n1 : im = im.toInt32.toInt64 → post 1 := fun w => h1 (Or.inr (Or.inr (Or.inl ⟨z, w⟩)))
    rw [zi_sx] at n0 n1
    exact ⟨fun w => n0 (fun y => y.1 w), fun w => ⟨fun y => n0 (fun x => x.2 y), fun y => n1 ⟨w, y⟩⟩⟩
  exact pk_lt k 1 (fun _ => N (by omega)) (fun _ => pk_lt 41 k (fun _ => by omega) (fun _ => pk_eq k 1 (fun e => L9 (by omega)) (fun _ => pk_eq k 2 (fun e => L9 (by omega)) (fun _ => pk_eq k 3 (fun e => L9 (by omega)) (fun _ => pk_eq k 4 (fun e => N (by omega)) (fun _ => pk_eq k 5 (fun e => N (by omega)) (fun _ => pk_eq k 6 (fun e => LD (by omega)) (fun _ => pk_eq k 7 (fun e => LD (by omega)) (fun _ => pk_eq k 8 (fun e => N (by omega)) (fun _ => pk_eq k 9 (fun e => N (by omega)) (fun _ => pk_eq k 10 (fun e => LC (by omega)) (fun _ => pk_eq k 11 (fun e => N (by omega)) (fun _ => pk_eq k 12 (fun e => N (by omega)) (fun _ => pk_eq k 13 (fun e => LP (by omega)) (fun _ => pk_eq k 14 (fun e => LP (by omega)) (fun _ => pk_eq k 15 (fun e => LP (by omega)) (fun _ => pk_eq k 16 (fun e => L2 (by omega)) (fun _ => pk_eq k 17 (fun e => L2 (by omega)) (fun _ => pk_eq k 18 (fun e => L18 (by omega)) (fun _ => pk_eq k 19 (fun e => N (by omega)) (fun _ => pk_eq k 20 (fun e => N (by omega)) (fun _ => pk_eq k 21 (fun e => N (by omega)) (fun _ => pk_eq k 22 (fun e => N (by omega)) (fun _ => pk_eq k 23 (fun e => N (by omega)) (fun _ => pk_eq k 24 (fun e => N (by omega)) (fun _ => pk_eq k 25 (fun e => N (by omega)) (fun _ => pk_eq k 26 (fun e => N (by omega)) (fun _ => pk_eq k 27 (fun e => N (by omega)) (fun _ => pk_eq k 28 (fun e => N (by omega)) (fun _ => pk_eq k 29 (fun e => N (by omega)) (fun _ => pk_eq k 30 (fun e => N (by omega)) (fun _ => pk_eq k 31 (fun e => N (by omega)) (fun _ => pk_eq k 32 (fun e => N (by omega)) (fun _ => pk_eq k 33 (fun e => N (by omega)) (fun _ => pk_eq k 34 (fun e => N (by omega)) (fun _ => pk_eq k 35 (fun e => N (by omega)) (fun _ => pk_eq k 36 (fun e => N (by omega)) (fun _ => pk_eq k 37 (fun e => N (by omega)) (fun _ => pk_eq k 38 (fun e => L64 (by omega)) (fun _ => pk_eq k 39 (fun e => L64 (by omega)) (fun _ => pk_eq k 40 (fun e => L64 (by omega)) (fun _ => pk_eq k 41 (fun e => L64 (by omega)) (fun _ => trivial)))))))))))))))))))))))))))))))))))))))))))
theorem zx_ctx {post : Int32 → Prop} (hok : zc_ok c) (hk : k < 42)
    (h0 : (k = 4 ∧ zc_K c (zc_D c - 1) ≠ 3) ∨ (k = 5 ∧ zc_K c (zc_D c - 1) = 3 ∧ zc_B c (zc_D c - 1) / 3 ≠ zc_r (zc_B c (zc_D c - 1))) → post 0)
    (h1 : ¬ (k = 4 ∧ zc_K c (zc_D c - 1) ≠ 3) → ¬ (k = 5 ∧ zc_K c (zc_D c - 1) = 3 ∧ zc_B c (zc_D c - 1) / 3 ≠ zc_r (zc_B c (zc_D c - 1))) → post 1) : wpX_contextFits post (fl, cl, ms, fu, cnt, opn, tu, nI (zc_S c), nI (zc_D c), cu, pu, mk, lr, us, dep, top, pc, tr, pa, lo, tb, re, sta, len, ops, imm, sT, sF, sM, zc_T c, zc_K c, zc_B c, zc_z (zc_H c), zc_U c, zc_z (zc_A c), fC, arg, glo, mem, aF, aA, aT, cel, loc) (nI k) := by
  have hD := hok.1
  have hD8 := hok.2.1
  have ec : (nI (zc_D c - 1)).toNatClampNeg = zc_D c - 1 := nI_clamp (by omega)
  have hin : vp_in (nI (zc_D c - 1)) 8 := vp_in_nI (by omega) (by decide)
  refine nm_r (e' := nI (zc_D c - 1)) (pk_sub (b := 1) hD) ?_
  rw [ec]
  refine pk_eq k 4 (fun e => ⟨hin, br_c (fun z => h1 (fun w => w.2 z) (fun w => by omega)) (fun z => h0 (Or.inl ⟨e, z⟩))⟩) (fun n4 => pk_eq k 5 (fun e => ⟨hin, br_c (fun z => ⟨hin, by decide, hin, by decide, br_c (fun y => h1 (fun w => by omega) (fun w => w.2.2 y)) (fun y => h0 (Or.inr ⟨e, z, y⟩))⟩) (fun z => h1 (fun w => by omega) (fun w => z w.2.1))⟩) (fun n5 => h1 (fun w => n4 w.1) (fun w => n5 w.1)))
theorem zx_him {post : Int32 → Prop} (hk : k < 42) (hk8 : k ≠ 8) (h0 : zi_none k → post 0) (h1 : ¬ zi_none k → post 1) : wpX_hasImmediate post (fl, cl, ms, fu, cnt, opn, tu, nI (zc_S c), nI (zc_D c), cu, pu, mk, lr, us, dep, top, pc, tr, pa, lo, tb, re, sta, len, ops, imm, sT, sF, sM, zc_T c, zc_K c, zc_B c, zc_z (zc_H c), zc_U c, zc_z (zc_A c), fC, arg, glo, mem, aF, aA, aT, cel, loc) (nI k) := by
  have nn : (¬ (k = 0 ∨ k = 4 ∨ k = 5 ∨ k = 9 ∨ k = 11 ∨ k = 12 ∨ (20 ≤ k ∧ k ≤ 37))) → ¬ zi_none k := id
  have yn : (k = 0 ∨ k = 4 ∨ k = 5 ∨ k = 9 ∨ k = 11 ∨ k = 12 ∨ (20 ≤ k ∧ k ≤ 37)) → zi_none k := id
  have A40 : (k < 13 ∨ 19 < k) → k ≠ 6 → k ≠ 7 → k ≠ 10 → ¬ (1 ≤ k ∧ k ≤ 3) → wX_hasImmediate_40 post (nI k) fl cl ms fu cnt opn tu (nI (zc_S c)) (nI (zc_D c)) cu pu mk lr us dep top pc tr pa lo tb re sta len ops imm sT sF sM (zc_T c) (zc_K c) (zc_B c) (zc_z (zc_H c)) (zc_U c) (zc_z (zc_A c)) fC arg glo mem aF aA aT cel loc := fun a b c d e =>
    pk_lt k 38 (fun _ => h0 (yn (by omega))) (fun _ => h1 (nn (by omega)))
  have A10 : ¬ (1 ≤ k ∧ k ≤ 3) → wX_hasImmediate_10 post (nI k) fl cl ms fu cnt opn tu (nI (zc_S c)) (nI (zc_D c)) cu pu mk lr us dep top pc tr pa lo tb re sta len ops imm sT sF sM (zc_T c) (zc_K c) (zc_B c) (zc_z (zc_H c)) (zc_U c) (zc_z (zc_A c)) fC arg glo mem aF aA aT cel loc := fun a =>
    pk_eq k 6 (fun _ => h1 (nn (by omega))) (fun _ => pk_eq k 7 (fun _ => h1 (nn (by omega))) (fun _ => pk_eq k 10 (fun _ => h1 (nn (by omega))) (fun _ => pk_lt k 13 (fun _ => A40 (by omega) (by omega) (by omega) (by omega) a) (fun _ => pk_le k 19 (fun _ => h1 (nn (by omega))) (fun _ => A40 (by omega) (by omega) (by omega) (by omega) a)))))
  exact pk_lt k 1 (fun _ => A10 (by omega)) (fun _ => pk_le k 3 (fun _ => h1 (nn (by omega))) (fun _ => A10 (by omega)))
/-- all the rules of planSpecial -/
theorem zx_special (hok : zc_ok c) (hsg : zc_sg pa lo re nc) (hf : f < nc) (ho : opn = nI f) (hk : k < 20) (hk8 : k ≠ 8) (him : zc_im nc c k im) (hi : ¬ zi_none k → i = im.toInt32) (hE : (zc_plan pa tb re f c im k).1 ≠ 0 → ∀ x y z, post (zc_plan pa tb re f c im k).1 (fl, cl, ms, fu, cnt, opn, tu, nI (zc_S c), nI (zc_D c), x, y, z, lr, us, dep, top, pc, tr, pa, lo, tb, re, sta, len, ops, imm, sT, sF, sM, zc_T c, zc_K c, zc_B c, zc_z (zc_H c), zc_U c, zc_z (zc_A c), fC, arg, glo, mem, aF, aA, aT, cel, loc)) (hO : (zc_plan pa tb re f c im k).1 = 0 → post 0 (fl, cl, ms, fu, cnt, opn, tu, nI (zc_S c), nI (zc_D c), nI (zc_plan pa tb re f c im k).2.1, (zc_plan pa tb re f c im k).2.2.1, (zc_plan pa tb re f c im k).2.2.2, lr, us, dep, top, pc, tr, pa, lo, tb, re, sta, len, ops, imm, sT, sF, sM, zc_T c, zc_K c, zc_B c, zc_z (zc_H c), zc_U c, zc_z (zc_A c), fC, arg, glo, mem, aF, aA, aT, cel, loc)) :
    wpX_planSpecial post (fl, cl, ms, fu, cnt, opn, tu, nI (zc_S c), nI (zc_D c), nI (zc_S c), 0, 0, lr, us, dep, top, pc, tr, pa, lo, tb, re, sta, len, ops, imm, sT, sF, sM, zc_T c, zc_K c, zc_B c, zc_z (zc_H c), zc_U c, zc_z (zc_A c), fC, arg, glo, mem, aF, aA, aT, cel, loc) (nI k) i := by
  have hc : k = 0 ∨ k = 1 ∨ k = 2 ∨ k = 3 ∨ k = 4 ∨ k = 5 ∨ k = 6 ∨ k = 7 ∨ k = 9 ∨ k = 10 ∨ k = 11 ∨ k = 12 ∨ k = 13 ∨ k = 14 ∨ k = 15 ∨ k = 16 ∨ k = 17 ∨ k = 18 ∨ k = 19 := by omega
  obtain ⟨i1, i2, i3, i4, i5, i6, i7, i8⟩ := him
  have hD8 := hok.2.1
  have hc4 := hsg.1
  have hf4 : f < 4 := by omega
  have nn : (¬ (k = 0 ∨ k = 4 ∨ k = 5 ∨ k = 9 ∨ k = 11 ∨ k = 12 ∨ (20 ≤ k ∧ k ≤ 37))) → ¬ zi_none k := id
  have h13 : (1 ≤ k ∧ k ≤ 3) → zc_o3 (im.toInt32 / 3) := fun z => by
    obtain ⟨b, hb, e⟩ := i1 z
    rw [e, lN_i]; exact zc_d3 b (by omega)
  rcases hc with rfl | rfl | rfl | rfl | rfl | rfl | rfl | rfl | rfl | rfl | rfl | rfl | rfl | rfl | rfl | rfl | rfl | rfl | rfl
  · exact zx_p0 hE hO
  · have e := hi (nn (by omega))
    exact zx_p12 hok (Or.inl rfl) e (by rw [e]; exact h13 (by omega)) hE hO
  · have e := hi (nn (by omega))
    exact zx_p12 hok (Or.inr rfl) e (by rw [e]; exact h13 (by omega)) hE hO
  · have e := hi (nn (by omega))
    exact zx_p3 hok e (by rw [e]; exact h13 (by omega)) hE hO
  · exact zx_p4 hok hE hO
  · exact zx_p5 hok hE hO
  · obtain ⟨l, hl, e⟩ := i2 (Or.inl rfl)
    have e' : i = nI l := by rw [hi (nn (by omega)), e, lN_i]
    have e2 : i.toNatClampNeg = l := by rw [e', nI_clamp (by omega)]
    exact zx_p6 hok (hi (nn (by omega))) (by rw [e2]; exact hl) (by rw [e2, e']) hE hO
  · obtain ⟨l, hl, e⟩ := i2 (Or.inr rfl)
    have e' : i = nI l := by rw [hi (nn (by omega)), e, lN_i]
    have e2 : i.toNatClampNeg = l := by rw [e', nI_clamp (by omega)]
    exact zx_p7 hok (hi (nn (by omega))) (by rw [e2]; exact hl) (by rw [e2, e']) hE hO
  · exact zx_p9 hok hf4 (hsg.2 f hf).2.2 ho hE hO
  · obtain ⟨g, hg, e⟩ := i3 rfl
    obtain ⟨⟨p, hp, ep⟩, _, _⟩ := hsg.2 g hg
    exact zx_p10 (g := g) hok (by omega) hp ep (by rw [e, lN_i]) (hi (nn (by omega))) hE hO
  · exact zx_p11 hok hE hO
  · exact zx_p12s hok hE hO
  · exact zx_p13 hf4 ho (hi (nn (by omega))) hE hO
  · exact zx_p14 hok hf4 ho (hi (nn (by omega))) hE hO
  · exact zx_p15 hok hf4 ho (hi (nn (by omega))) hE hO
  · obtain ⟨j, hj, e⟩ := i5 (Or.inl rfl)
    exact zx_p16 hj (hi (nn (by omega))) (by rw [e, lN_i]) hE hO
  · obtain ⟨j, hj, e⟩ := i5 (Or.inr rfl)
    exact zx_p17 hok hj (hi (nn (by omega))) (by rw [e, lN_i]) hE hO
  · exact zx_p18 hE hO
  · exact zx_p19 hE hO
/-- from the context check to the commit -/
theorem zx_81 {x2 : Int64} (hok : zc_ok c) (hsg : zc_sg pa lo re nc) (hf : f < nc) (ho : opn = nI f) (hk : k < 42) (hk8 : k ≠ 8) (hd : (1 ≤ k ∧ k ≤ 3) → zc_D c < 8) (him : zc_im nc c k im) (hi : ¬ zi_none k → x2.toInt32 = im.toInt32)
    (hE : ∀ r, r ≠ 0 → r = zc_rc (zc_plan pa tb re f c im k) c k → ∀ x y z, post r (fl, cl, ms, fu, cnt, opn, tu, nI (zc_S c), nI (zc_D c), x, y, z, lr, us, dep, top, pc, tr, pa, lo, tb, re, sta, len, ops, imm, sT, sF, sM, zc_T c, zc_K c, zc_B c, zc_z (zc_H c), zc_U c, zc_z (zc_A c), fC, arg, glo, mem, aF, aA, aT, cel, loc))
    (hO : zc_rc (zc_plan pa tb re f c im k) c k = 0 → wX_feed_163 post (nI k) x2 x2.toInt32 fl cl ms fu cnt opn tu (nI (zc_S c)) (nI (zc_D c)) (nI (zc_plan pa tb re f c im k).2.1) ((zc_plan pa tb re f c im k).2.2.1) ((zc_plan pa tb re f c im k).2.2.2) lr us dep top pc tr pa lo tb re sta len ops imm sT sF sM (zc_T c) (zc_K c) (zc_B c) (zc_z (zc_H c)) (zc_U c) (zc_z (zc_A c)) fC arg glo mem aF aA aT cel loc) :
    wX_feed_81 post (nI k) x2 fl cl ms fu cnt opn tu (nI (zc_S c)) (nI (zc_D c)) cu pu mk lr us dep top pc tr pa lo tb re sta len ops imm sT sF sM (zc_T c) (zc_K c) (zc_B c) (zc_z (zc_H c)) (zc_U c) (zc_z (zc_A c)) fC arg glo mem aF aA aT cel loc := by
  have q := zp_cur (pa := pa) (tb := tb) (re := re) (f := f) (im := im) hok.2.2.2.2.2.1 k
  have hS := hok.2.2.1
  have hmk := (zq_mk (pa := pa) (tb := tb) (re := re) (f := f) (c := c) (im := im) k).1
  have ol := zq_oo (zc_plan pa tb re f c im k).2.2.1
  unfold wX_feed_81
  refine zx_ctx hok hk (fun z => br_t rfl (hE (-6) (by decide) ?_ _ _ _)) (fun n4 n5 => br_f (by decide) ?_)
  · unfold zc_rc
    rcases z with z | z
    · rw [if_neg (by omega), if_pos z]
    · rw [if_neg (by omega), if_neg (by omega), if_pos z]
  · have hrc := zq_rcE (p := zc_plan pa tb re f c im k) (c := c) (k := k) (fun w => by have := hd w.1; omega) n4 n5
    have A : ∀ r : Int32, (r ≠ 0 → ∀ x y z, post r (fl, cl, ms, fu, cnt, opn, tu, nI (zc_S c), nI (zc_D c), x, y, z, lr, us, dep, top, pc, tr, pa, lo, tb, re, sta, len, ops, imm, sT, sF, sM, zc_T c, zc_K c, zc_B c, zc_z (zc_H c), zc_U c, zc_z (zc_A c), fC, arg, glo, mem, aF, aA, aT, cel, loc)) → (r = 0 → wX_feed_121 post (nI k) x2 x2.toInt32 0 fl cl ms fu cnt opn tu (nI (zc_S c)) (nI (zc_D c)) (nI (zc_plan pa tb re f c im k).2.1) ((zc_plan pa tb re f c im k).2.2.1) ((zc_plan pa tb re f c im k).2.2.2) lr us dep top pc tr pa lo tb re sta len ops imm sT sF sM (zc_T c) (zc_K c) (zc_B c) (zc_z (zc_H c)) (zc_U c) (zc_z (zc_A c)) fC arg glo mem aF aA aT cel loc) → r = (zc_plan pa tb re f c im k).1 → True := fun _ _ _ _ => trivial
    have hE' : (zc_plan pa tb re f c im k).1 ≠ 0 → ∀ x y z, wX_feed_121 post (nI k) x2 x2.toInt32 (zc_plan pa tb re f c im k).1 fl cl ms fu cnt opn tu (nI (zc_S c)) (nI (zc_D c)) x y z lr us dep top pc tr pa lo tb re sta len ops imm sT sF sM (zc_T c) (zc_K c) (zc_B c) (zc_z (zc_H c)) (zc_U c) (zc_z (zc_A c)) fC arg glo mem aF aA aT cel loc := fun e x y z =>
      br_f e (hE _ e (by rw [hrc, if_pos e]) x y z)
    have hO' : (zc_plan pa tb re f c im k).1 = 0 → wX_feed_121 post (nI k) x2 x2.toInt32 0 fl cl ms fu cnt opn tu (nI (zc_S c)) (nI (zc_D c)) (nI (zc_plan pa tb re f c im k).2.1) ((zc_plan pa tb re f c im k).2.2.1) ((zc_plan pa tb re f c im k).2.2.2) lr us dep top pc tr pa lo tb re sta len ops imm sT sF sM (zc_T c) (zc_K c) (zc_B c) (zc_z (zc_H c)) (zc_U c) (zc_z (zc_A c)) fC arg glo mem aF aA aT cel loc := fun e => by
      refine br_t rfl ?_
      by_cases m0 : (zc_plan pa tb re f c im k).2.2.2 = 0
      · refine br_t m0 ?_
        have B : ∀ z0 : Nat, z0 = zc_o (zc_plan pa tb re f c im k).2.2.1 → wX_feed_154 post (nI k) x2 x2.toInt32 (nI z0) (nI (zc_plan pa tb re f c im k).2.1) fl cl ms fu cnt opn tu (nI (zc_S c)) (nI (zc_D c)) (nI (zc_plan pa tb re f c im k).2.1) ((zc_plan pa tb re f c im k).2.2.1) ((zc_plan pa tb re f c im k).2.2.2) lr us dep top pc tr pa lo tb re sta len ops imm sT sF sM (zc_T c) (zc_K c) (zc_B c) (zc_z (zc_H c)) (zc_U c) (zc_z (zc_A c)) fC arg glo mem aF aA aT cel loc := by
          intro z0 hz
          refine pk_le ((zc_plan pa tb re f c im k).2.1 + z0) 12 (fun w => ?_) (fun w => ?_) (hx := nI_add _ _)
          · exact hO (by rw [hrc, if_neg (fun y => y e), if_neg (by omega)])
          · exact hE (-10) (by decide) (by rw [hrc, if_neg (fun y => y e), if_pos ⟨m0, by omega⟩]) _ _ _
        by_cases o0 : (zc_plan pa tb re f c im k).2.2.1 = 0
        · exact br_t o0 (B 0 (zc_o0 o0).symm)
        · exact br_f o0 (B 1 (zc_o1 o0).symm)
      · refine br_f m0 (hO ?_)
        rw [hrc, if_neg (fun y => y e), if_neg (fun y => m0 y.1)]
    refine pk_lt k 20 (fun w => ?_) (fun w => ?_)
    · exact zx_special hok hsg hf ho w hk8 him hi hE' hO'
    · obtain ⟨mm, rfl⟩ : ∃ mm, k = mm + 20 := ⟨k - 20, by omega⟩
      exact zx_fixed hok hk w (fun e x => hE' e x _ _) hO'
end
end
section
/-! the component's commit -/
section
variable {fl cl ms fu cnt opn tu oc fc cu pu mk us dep top pc tr : Int32} {lr : Int64} {pa lo tb re sta len ops sT sF sM oT fK fT fH fU fS fC mem aF aA aT : Nat → Int32} {imm arg glo cel loc : Nat → Int64} {c c1 c2 : zc_C} {k s f a g n cur nc pl : Nat} {im : Int64} {t o m i : Int32} {post : SX → Prop}
theorem zx_lc0 (hk : k < 42) (h : k = 0 ∨ 8 ≤ k) (hp : post (fl, cl, ms, fu, cnt, opn, tu, oc, fc, cu, pu, mk, lr, us, dep, top, pc, tr, pa, lo, tb, re, sta, len, ops, imm, sT, sF, sM, oT, fK, fT, fH, fU, fS, fC, arg, glo, mem, aF, aA, aT, cel, loc)) : wpX_linkControl post (fl, cl, ms, fu, cnt, opn, tu, oc, fc, cu, pu, mk, lr, us, dep, top, pc, tr, pa, lo, tb, re, sta, len, ops, imm, sT, sF, sM, oT, fK, fT, fH, fU, fS, fC, arg, glo, mem, aF, aA, aT, cel, loc) (nI k) i t :=
  pk_lt k 1 (fun _ => hp) (fun _ => pk_lt 7 k (fun _ => hp) (fun _ => by omega))
theorem zx_lc1 (hD8 : zc_D c < 8) (hk : 1 ≤ k ∧ k ≤ 3) (e : c1 = zc_ctl k cur n i c) (hp : post (fl, cl, ms, fu, cnt, opn, tu, nI (zc_S c1), nI (zc_D c1), nI cur, pu, mk, lr, us, dep, top, pc, tr, pa, lo, tb, re, sta, len, ops, imm, sT, sF, sM, zc_T c1, zc_K c1, zc_B c1, zc_z (zc_H c1), zc_U c1, zc_z (zc_A c1), upd fC (zc_D c) (-1), arg, glo, mem, aF, aA, aT, cel, loc)) : wpX_linkControl post (fl, cl, ms, fu, cnt, opn, tu, nI (zc_S c), nI (zc_D c), nI cur, pu, mk, lr, us, dep, top, pc, tr, pa, lo, tb, re, sta, len, ops, imm, sT, sF, sM, zc_T c, zc_K c, zc_B c, zc_z (zc_H c), zc_U c, zc_z (zc_A c), fC, arg, glo, mem, aF, aA, aT, cel, loc) (nI k) i (nI n) :=
  pk_lt k 1 (fun _ => by omega) (fun _ => pk_lt 7 k (fun _ => by omega) (fun _ => pk_eq k 1 (fun z => by subst z; exact zx_add hD8 hk e hp) (fun _ => pk_eq k 2 (fun z => by subst z; exact zx_add hD8 hk e hp) (fun _ => pk_eq k 3 (fun z => by subst z; exact zx_add hD8 hk e hp) (fun _ => by omega)))))
theorem zx_lc4 (hok : zc_ok c) (hf : f < 4) (ho : opn = nI f) (hn : n < 64) (hA : zc_A c (zc_D c - 1) < 64) (e : c1 = zc_ctl 4 cur a t c)
    (hp : post (fl, cl, ms, fu, cnt, opn, tu, nI (zc_S c1), nI (zc_D c1), cu, pu, mk, lr, us, dep, top, pc, tr, pa, lo, tb, re, sta, len, ops, imm, upd (upd sT (96 * f + zc_A c (zc_D c - 1)) (nI (n + 1))) (96 * f + n) (fC (zc_D c - 1)), sF, sM, zc_T c1, zc_K c1, zc_B c1, zc_z (zc_H c1), zc_U c1, zc_z (zc_A c1), upd fC (zc_D c - 1) (nI n), arg, glo, mem, aF, aA, aT, cel, loc)) : wpX_linkControl post (fl, cl, ms, fu, cnt, opn, tu, nI (zc_S c), nI (zc_D c), cu, pu, mk, lr, us, dep, top, pc, tr, pa, lo, tb, re, sta, len, ops, imm, sT, sF, sM, zc_T c, zc_K c, zc_B c, zc_z (zc_H c), zc_U c, zc_z (zc_A c), fC, arg, glo, mem, aF, aA, aT, cel, loc) (nI 4) i (nI n) := by
  refine br_f (by decide) (br_f (by decide) (br_f (by decide) (br_f (by decide) (br_f (by decide) (br_t (by decide) ?_)))))
  exact zx_else hok hf ho hn hA e hp
theorem zx_lc6 {l : Nat} (hok : zc_ok c) (hf : f < 4) (ho : opn = nI f) (hk : k = 6 ∨ k = 7) (hn : n < 64) (hl : l < zc_D c) (hi : i = nI l)
    (hp : post (fl, cl, ms, fu, cnt, opn, tu, nI (zc_S c), nI (zc_D c), cu, pu, mk, lr, us, dep, top, pc, tr, pa, lo, tb, re, sta, len, ops, imm, upd sT (96 * f + n) (if zc_K c (zc_D c - 1 - l) = 2 then nI (zc_A c (zc_D c - 1 - l) + 1) else fC (zc_D c - 1 - l)), upd sF (96 * f + n) (nI (zc_H c (zc_D c - 1 - l))), upd sM (96 * f + n) (zw_fm c (zc_D c - 1 - l)), zc_T c, zc_K c, zc_B c, zc_z (zc_H c), zc_U c, zc_z (zc_A c), zw_lfC c (zc_D c - 1 - l) n fC, arg, glo, mem, aF, aA, aT, cel, loc)) : wpX_linkControl post (fl, cl, ms, fu, cnt, opn, tu, nI (zc_S c), nI (zc_D c), cu, pu, mk, lr, us, dep, top, pc, tr, pa, lo, tb, re, sta, len, ops, imm, sT, sF, sM, zc_T c, zc_K c, zc_B c, zc_z (zc_H c), zc_U c, zc_z (zc_A c), fC, arg, glo, mem, aF, aA, aT, cel, loc) (nI k) i (nI n) := by
  subst hi
  have A : wX_linkControl_102 post (nI l) (nI n) fl cl ms fu cnt opn tu (nI (zc_S c)) (nI (zc_D c)) cu pu mk lr us dep top pc tr pa lo tb re sta len ops imm sT sF sM (zc_T c) (zc_K c) (zc_B c) (zc_z (zc_H c)) (zc_U c) (zc_z (zc_A c)) fC arg glo mem aF aA aT cel loc := zx_lbr hok hf ho (by omega) hl hp
  rcases hk with rfl | rfl
  · refine br_f (by decide) (br_f (by decide) (br_f (by decide) (br_f (by decide) (br_f (by decide) (br_f (by decide) (br_f (by decide) (br_t (by decide) ?_)))))))
    exact A
  · refine br_f (by decide) (br_f (by decide) (br_f (by decide) (br_f (by decide) (br_f (by decide) (br_f (by decide) (br_f (by decide) (br_f (by decide) (br_t (by decide) ?_))))))))
    exact A
/-- END -/
theorem zx_lc5 {L : List Nat} (hok : zc_ok c) (hf : f < 4) (ho : opn = nI f) (hn : n < 64) (hA : zc_K c (zc_D c - 1) = 3 → zc_A c (zc_D c - 1) < 64)
    (hL : zw_lk (fun s => sT (96 * f + s)) (fC (zc_D c - 1)) L) (hN : L.Nodup) (hb : ∀ s, s ∈ L → s < 96) (hAL : zc_K c (zc_D c - 1) = 3 → zc_A c (zc_D c - 1) ∉ L)
    (hp : ∀ sT' : Nat → Int32, (∀ s, s ∈ L → sT' (96 * f + s) = nI (if zc_D c - 1 = 0 then n else n + 1)) → (zc_K c (zc_D c - 1) = 3 → sT' (96 * f + zc_A c (zc_D c - 1)) = nI (if zc_D c - 1 = 0 then n else n + 1)) →
      (∀ y, (∀ s, s ∈ L → y ≠ 96 * f + s) → ¬ (zc_K c (zc_D c - 1) = 3 ∧ y = 96 * f + zc_A c (zc_D c - 1)) → sT' y = sT y) →
      (zc_D c = 1 → post (fl, cl, ms, fu, cnt, -1, 0, 0, 0, cu, pu, mk, lr, us, dep, top, pc, tr, pa, lo, tb, re, upd sta f 2, len, ops, imm, sT', sF, sM, zc_T c, zc_K c, zc_B c, zc_z (zc_H c), zc_U c, zc_z (zc_A c), fC, arg, glo, mem, aF, aA, aT, cel, loc)) ∧ (zc_D c ≠ 1 → post (fl, cl, ms, fu, cnt, opn, tu, nI (zc_S c), nI (zc_D c - 1), cu, pu, mk, lr, us, dep, top, pc, tr, pa, lo, tb, re, sta, len, ops, imm, sT', sF, sM, zc_T c, zc_K c, zc_B c, zc_z (zc_H c), zc_U c, zc_z (zc_A c), fC, arg, glo, mem, aF, aA, aT, cel, loc))) : wpX_linkControl post (fl, cl, ms, fu, cnt, opn, tu, nI (zc_S c), nI (zc_D c), cu, pu, mk, lr, us, dep, top, pc, tr, pa, lo, tb, re, sta, len, ops, imm, sT, sF, sM, zc_T c, zc_K c, zc_B c, zc_z (zc_H c), zc_U c, zc_z (zc_A c), fC, arg, glo, mem, aF, aA, aT, cel, loc) (nI 5) i (nI n) := by
  subst ho
  have hD := hok.1
  have hD8 := hok.2.1
  have ec : (nI (zc_D c - 1)).toNatClampNeg = zc_D c - 1 := nI_clamp (by omega)
  have hin : vp_in (nI (zc_D c - 1)) 8 := vp_in_nI (by omega) (by decide)
  have hlen : L.length ≤ 96 := zw_len 96 L hN hb
  have K0 : zc_K c (zc_D c - 1) = 0 ↔ zc_D c = 1 := by
    constructor
    · intro z
      refine Classical.byContradiction fun w => ?_
      rcases hok.2.2.2.2.2.2.2.2.2.1 (zc_D c - 1) (by omega) (by omega) with q | q | q | q <;> rw [q] at z <;> exact absurd z (by decide)
    · intro z
      rw [z]; exact hok.2.2.2.2.2.2.2.2.1
  -- the end of the loop
  have fin : ∀ (x4 : Int32) (sT' : Nat → Int32), (zc_D c = 1 → x4 = 1 ∧ post (fl, cl, ms, fu, cnt, -1, 0, 0, 0, cu, pu, mk, lr, us, dep, top, pc, tr, pa, lo, tb, re, upd sta f 2, len, ops, imm, sT', sF, sM, zc_T c, zc_K c, zc_B c, zc_z (zc_H c), zc_U c, zc_z (zc_A c), fC, arg, glo, mem, aF, aA, aT, cel, loc)) → (zc_D c ≠ 1 → x4 = 0 ∧ post (fl, cl, ms, fu, cnt, nI f, tu, nI (zc_S c), nI (zc_D c - 1), cu, pu, mk, lr, us, dep, top, pc, tr, pa, lo, tb, re, sta, len, ops, imm, sT', sF, sM, zc_T c, zc_K c, zc_B c, zc_z (zc_H c), zc_U c, zc_z (zc_A c), fC, arg, glo, mem, aF, aA, aT, cel, loc)) → wX_endFrame_125 post (nI (zc_D c - 1)) x4 fl cl ms fu cnt (nI f) tu (nI (zc_S c)) (nI (zc_D c)) cu pu mk lr us dep top pc tr pa lo tb re sta len ops imm sT' sF sM (zc_T c) (zc_K c) (zc_B c) (zc_z (zc_H c)) (zc_U c) (zc_z (zc_A c)) fC arg glo mem aF aA aT cel loc := by
    intro x4 sT' h1 h2
    by_cases z : zc_D c = 1
    · obtain ⟨e, q⟩ := h1 z
      subst e
      exact br_f (by decide) ⟨vp_in_nI hf (by decide), nm_r (e' := upd sta f 2) (by rw [nI_clamp (by omega)]) q⟩
    · obtain ⟨e, q⟩ := h2 z
      subst e
      exact br_t rfl q
  have A : ∀ (x4 : Int32), (zc_D c = 1 → x4 = 1) → (zc_D c ≠ 1 → x4 = 0) → wX_endFrame_43 post (nI (zc_D c - 1)) (nI f * 96) x4 (nI (if zc_D c - 1 = 0 then n else n + 1)) fl cl ms fu cnt (nI f) tu (nI (zc_S c)) (nI (zc_D c)) cu pu mk lr us dep top pc tr pa lo tb re sta len ops imm sT sF sM (zc_T c) (zc_K c) (zc_B c) (zc_z (zc_H c)) (zc_U c) (zc_z (zc_A c)) fC arg glo mem aF aA aT cel loc := by
    intro x4 h1 h2
    refine ⟨hin, ?_⟩
    rw [ec]
    by_cases K3 : zc_K c (zc_D c - 1) = 3
    · obtain ⟨ea, hin4, ec4⟩ := zx_sa (f := f) (s := zc_A c (zc_D c - 1)) hf (by have := hA K3; omega)
      have ea' : nI f * 96 + zc_z (zc_A c) (zc_D c - 1) = nI (96 * f + zc_A c (zc_D c - 1)) := ea
      refine br_t K3 ⟨hin, ?_⟩
      rw [ea']
      refine ⟨hin4, nm_r (e' := upd sT (96 * f + zc_A c (zc_D c - 1)) (nI (if zc_D c - 1 = 0 then n else n + 1))) (by rw [ec4]) ⟨hin, nm_e ⟨L.length + 1, ?_⟩⟩⟩
      have hne : ∀ s, s ∈ L → 96 * f + s ≠ 96 * f + zc_A c (zc_D c - 1) := fun s hs w => by
        have w' : s = zc_A c (zc_D c - 1) := by omega
        rw [w'] at hs; exact hAL K3 hs
      have hk' : zw_lk (fun y => upd sT (96 * f + zc_A c (zc_D c - 1)) (nI (if zc_D c - 1 = 0 then n else n + 1)) (96 * f + y)) (fC (zc_D c - 1)) L := zw_lkc (fun x hx => pk_un (hne x hx)) hL
      refine zx_endl hf L (L.length + 1) 0 _ _ (by omega) (by omega) hN hb hk' (fun sT' q1 q2 => ?_)
      have w := hp sT' q1 (fun _ => by rw [q2 _ (fun s hs e => hne s hs e.symm), pk_us]) (fun y hy1 hy2 => by rw [q2 y hy1, pk_un (fun e => hy2 ⟨K3, e⟩)])
      exact fin x4 sT' (fun z => ⟨h1 z, w.1 z⟩) (fun z => ⟨h2 z, w.2 z⟩)
    · refine br_f K3 ⟨hin, nm_e ⟨L.length + 1, ?_⟩⟩
      refine zx_endl hf L (L.length + 1) 0 _ _ (by omega) (by omega) hN hb hL (fun sT' q1 q2 => ?_)
      have w := hp sT' q1 (fun z => absurd z K3) (fun y hy1 hy2 => q2 y hy1)
      exact fin x4 sT' (fun z => ⟨h1 z, w.1 z⟩) (fun z => ⟨h2 z, w.2 z⟩)
  refine br_f (by decide) (br_f (by decide) (br_f (by decide) (br_f (by decide) (br_f (by decide) (br_f (by decide) (br_t (by decide) ?_))))))
  refine nm_r (e' := nI (zc_D c - 1)) (pk_sub (b := 1) hD) (nm_e ⟨hin, ?_⟩)
  rw [ec]
  by_cases z : zc_D c = 1
  · refine br_t (K0.mpr z) (br_f (by decide) ?_)
    have q := A 1 (fun _ => rfl) (fun w => absurd z w)
    rw [if_pos (by omega)] at q
    exact q
  · refine br_f (fun w => z (K0.mp w)) (br_t rfl ?_)
    rw [nI_1]
    have q := A 0 (fun w => absurd w z) (fun _ => rfl)
    rw [if_neg (by omega)] at q
    exact q
end
/-! the relation grows -/
section
variable {pa lo tb re : Nat → Int32} {nc f n k : Nat} {im0 : Int64} {ops : Nat → Int32} {imm : Nat → Int64} {T : Nat → zc_C} {st sf sm fC : Nat → Int32} {sI sD : Nat → Nat} {L : Nat → List Nat}
theorem zr_opn {i : Nat} (hi : i < n) : upd ops (64 * f + n) (nI k) (64 * f + i) = ops (64 * f + i) ∧ vp_updL imm (64 * f + n) im0 (64 * f + i) = imm (64 * f + i) := ⟨pk_un (by omega), pk_uLn (by omega)⟩
theorem zr_pre (h4 : nc ≤ 4) (hf : f < nc) (HF : zt_F pa tb re nc f (fun i => ops (64 * f + i)) (fun i => imm (64 * f + i)) T n)
    (X : zw_X (fun i => ops (64 * f + i)) (fun i => imm (64 * f + i)) T n st sf sm fC sI sD L) (ok : zc_ok (T n)) (hk : k < 42) (him : zc_im nc (T n) k im0) (hr : zc_rc (zc_plan pa tb re f (T n) im0 k) (T n) k = 0) :
    ∃ T' : Nat → zc_C, T' n = T n ∧ T' (n + 1) = zc_nxt (zc_plan pa tb re f (T n) im0 k) (T n) k n im0 ∧
      zt_F pa tb re nc f (fun i => upd ops (64 * f + n) (nI k) (64 * f + i)) (fun i => vp_updL imm (64 * f + n) im0 (64 * f + i)) T' n ∧
      zw_X (fun i => upd ops (64 * f + n) (nI k) (64 * f + i)) (fun i => vp_updL imm (64 * f + n) im0 (64 * f + i)) T' n st sf sm fC sI sD L ∧
      zt_1 pa tb re nc f (upd ops (64 * f + n) (nI k) (64 * f + n)) (vp_updL imm (64 * f + n) im0 (64 * f + n)) (T' n) (T' (n + 1)) n k := by
  have hT : ∀ i, i ≤ n → (fun i => if i ≤ n then T i else zc_nxt (zc_plan pa tb re f (T n) im0 k) (T n) k n im0) i = T i := fun i hi => if_pos hi
  have e1 : (fun i => if i ≤ n then T i else zc_nxt (zc_plan pa tb re f (T n) im0 k) (T n) k n im0) (n + 1) = zc_nxt (zc_plan pa tb re f (T n) im0 k) (T n) k n im0 := if_neg (by omega)
  refine ⟨fun i => if i ≤ n then T i else zc_nxt (zc_plan pa tb re f (T n) im0 k) (T n) k n im0, hT n (Nat.le_refl _), e1, zt_Fc h4 (Nat.le_refl _) hf (fun _ _ => ⟨rfl, rfl, rfl⟩) (fun i hi => zr_opn hi) hT HF, zw_Xc (fun i hi => zr_opn hi) hT X, ?_⟩
  rw [pk_us, pk_uLs, hT n (Nat.le_refl _), e1]
  exact ⟨hk, rfl, ok, him, hr, rfl⟩
theorem zt_Fs {op : Nat → Int32} {im : Nat → Int64} (HF : zt_F pa tb re nc f op im T n) (H : zt_1 pa tb re nc f (op n) (im n) (T n) (T (n + 1)) n k) : zt_F pa tb re nc f op im T (n + 1) :=
  ⟨HF.1, fun i hi => by
    by_cases z : i = n
    · subst z; exact ⟨k, H⟩
    · exact HF.2 i (by omega)⟩
/-- shifted stores -/
theorem zr_sh {g : Nat → Int32} {x : Nat} {v : Int32} : (fun s => upd g (96 * f + x) v (96 * f + s)) = upd (fun s => g (96 * f + s)) x v := by
  funext s
  by_cases z : s = x
  · subst z; rw [pk_us, pk_us]
  · rw [pk_un (by omega), pk_un z]
end
end
section
/-! the reference's feed -/
theorem zi_im {k nc pl : Nat} {c : zc_C} {im : Int64} (hk8 : k ≠ 8) (hp : pl ≤ 8) (h : zi_ok k (zc_D c) nc pl im) : zc_im nc c k (zi_rec k im) := by
  have nn : (¬ (k = 0 ∨ k = 4 ∨ k = 5 ∨ k = 9 ∨ k = 11 ∨ k = 12 ∨ (20 ≤ k ∧ k ≤ 37))) → ¬ zi_none k := id
  have G : ∀ N, zi_lim k (zc_D c) nc pl = N → ¬ zi_none k → k ≠ 18 → k ≠ 19 → ∃ b, b < N ∧ zi_rec k im = lN b := by
    intro N e n1 n2 n3
    subst e
    rw [zi_rec1 n1]
    rcases h with y | y | y | y
    · exact absurd y n1
    · exact absurd y n3
    · exact absurd y.1 n2
    · exact y.2.2
  refine ⟨fun z => ?_, fun z => ?_, fun z => ?_, fun z => ?_, fun z => ?_, fun z => ?_, fun z => absurd z hk8, fun z => ?_⟩
  · obtain ⟨b, hb, e⟩ := G 9 (by unfold zi_lim; rw [if_pos (by omega)]) (nn (by omega)) (by omega) (by omega)
    exact ⟨b, by omega, e⟩
  · exact G (zc_D c) (by unfold zi_lim; rw [if_neg (by omega), if_pos (by omega)]) (nn (by omega)) (by omega) (by omega)
  · exact G nc (by unfold zi_lim; rw [if_neg (by omega), if_neg (by omega), if_pos z]) (nn (by omega)) (by omega) (by omega)
  · obtain ⟨b, hb, e⟩ := G pl (by unfold zi_lim; rw [if_neg (by omega), if_neg (by omega), if_neg (by omega), if_pos (by omega)]) (nn (by omega)) (by omega) (by omega)
    exact ⟨b, by omega, e⟩
  · exact G 2 (by unfold zi_lim; rw [if_neg (by omega), if_neg (by omega), if_neg (by omega), if_neg (by omega), if_pos (by omega)]) (nn (by omega)) (by omega) (by omega)
  · rw [zi_rec1 (nn (by omega))]
    rcases h with y | y | y | y
    · exact absurd y (nn (by omega))
    · omega
    · exact y.2
    · exact absurd z y.2.1
  · obtain ⟨b, hb, e⟩ := G 64 (by unfold zi_lim; rw [if_neg (by omega), if_neg (by omega), if_neg (by omega), if_neg (by omega), if_neg (by omega)]) (nn (by omega)) (by omega) (by omega)
    exact ⟨b, by omega, e⟩
section
variable {fl cl ms fu cnt opn er sz dp dep ytr nx us tk : Int32} {lr : Int64} {pa lo tb re sta len ops ty kd bk hh dd aF aP aZ aL lP lF vt byt : Nat → Int32} {imm val loc glo arg : Nat → Int64} {c : zc_C} {k s f a g n cur nc ncl pl : Nat} {im : Int64} {t o m i : Int32} {post : Int32 → SY → Prop}
theorem zy_add (hok : zc_ok c) (hA : zy_Ag c ty kd bk hh dd) (hsg : zc_sg pa lo re nc) (hf : f < nc) (hk : k < 42) (him : zc_im nc c k im) (ho : opn = nI f) (hl : len f = nI n) (hn : n < 64)
    (hE : ∀ r, r ≠ 0 → r = zc_rc (zc_plan pa tb re f c im k) c k → ∀ (er sz dp : Int32) (ty kd bk hh dd : Nat → Int32), post r (fl, cl, ms, fu, cnt, opn, er, sz, dp, dep, ytr, nx, us, tk, lr, pa, lo, tb, re, sta, len, ops, ty, kd, bk, hh, dd, aF, aP, aZ, aL, lP, lF, vt, byt, imm, val, loc, glo, arg))
    (hO : zc_rc (zc_plan pa tb re f c im k) c k = 0 → ∀ (er sz dp : Int32) (ty kd bk hh dd : Nat → Int32),
      (zc_D (zc_nxt (zc_plan pa tb re f c im k) c k n im) = 0 → post 0 (fl, cl, ms, fu, cnt, -1, er, sz, dp, dep, ytr, nx, us, tk, lr, pa, lo, tb, re, upd sta f 2, upd len f (nI (n + 1)), upd ops (64 * f + n) (nI k), ty, kd, bk, hh, dd, aF, aP, aZ, aL, lP, lF, vt, byt, vp_updL imm (64 * f + n) im, val, loc, glo, arg)) ∧
      (zc_D (zc_nxt (zc_plan pa tb re f c im k) c k n im) ≠ 0 → post 0 (fl, cl, ms, fu, cnt, opn, er, sz, dp, dep, ytr, nx, us, tk, lr, pa, lo, tb, re, sta, upd len f (nI (n + 1)), upd ops (64 * f + n) (nI k), ty, kd, bk, hh, dd, aF, aP, aZ, aL, lP, lF, vt, byt, vp_updL imm (64 * f + n) im, val, loc, glo, arg))) :
    wpY_add post (fl, cl, ms, fu, cnt, opn, er, nI (zc_S c), nI (zc_D c), dep, ytr, nx, us, tk, lr, pa, lo, tb, re, sta, len, ops, ty, kd, bk, hh, dd, aF, aP, aZ, aL, lP, lF, vt, byt, imm, val, loc, glo, arg) (nI k) im := by
  have h4 := hsg.1
  have hD8 := hok.2.1
  have hin : vp_in (nI f) 4 := vp_in_nI (by omega) (by decide)
  have ec : (nI f).toNatClampNeg = f := nI_clamp (by omega)
  obtain ⟨a1, a2, a3⟩ := zy_ad (f := f) (i := n) (by omega) (by omega)
  have hDn : zc_D (zc_nxt (zc_plan pa tb re f c im k) c k n im) < 2 ^ 31 := by
    have e : zc_D (zc_nxt (zc_plan pa tb re f c im k) c k n im) ≤ zc_D c + 1 := by
      unfold zc_nxt zc_ctl
      split
      · show zc_D (zc_set c _ _ _) + 1 ≤ _; rw [zs_D]; exact Nat.le_refl _
      · split
        · show zc_D (zc_set c _ _ _) ≤ _; rw [zs_D]; omega
        · split
          · show zc_D (zc_set c _ _ _) - 1 ≤ _; rw [zs_D]; omega
          · rw [zs_D]; omega
    omega
  subst ho
  refine ⟨hin, nm_r (e' := 64 * nI f + nI n) (by rw [ec, hl]) ?_⟩
  refine zy_step (a := n) hok hA hsg hf hk him (fun r hr e er sz dp ty kd bk hh dd => br_f hr (hE r hr e er sz dp ty kd bk hh dd)) (fun e er ty kd bk hh dd hAg => ?_) rfl
  have q := hO e er (nI (zc_S (zc_nxt (zc_plan pa tb re f c im k) c k n im))) (nI (zc_D (zc_nxt (zc_plan pa tb re f c im k) c k n im))) ty kd bk hh dd
  refine br_t rfl ⟨a2, nm_r (e' := upd ops (64 * f + n) (nI k)) (by rw [a3]) ⟨a2, nm_r (e' := vp_updL imm (64 * f + n) im) (by rw [a3]) ⟨hin, hin, nm_r (e' := upd len f (nI (n + 1))) (by rw [ec, hl, nI_1]) ?_⟩⟩⟩
  refine pk_eq (zc_D (zc_nxt (zc_plan pa tb re f c im k) c k n im)) 0 (fun w => ⟨hin, nm_r (e' := upd sta f 2) (by rw [ec]) (q.1 w)⟩) (fun w => q.2 w)
theorem zy_178 {N : Nat} {x4 lim : Int32} (hk : k < 42) (hN : N ≤ 64) (hlim : lim = nI N) (h4 : (x4 = 0 ∧ ¬ zi_none k) ∨ (x4 = 1 ∧ zi_none k)) (hz : ¬ zi_none k → k ≠ 18 → zi_lim k s nc pl = N)
    (hbad : ¬ zi_ok k s nc pl im → post (-4) (fl, cl, ms, fu, cnt, opn, er, sz, dp, dep, ytr, nx, us, tk, lr, pa, lo, tb, re, sta, len, ops, ty, kd, bk, hh, dd, aF, aP, aZ, aL, lP, lF, vt, byt, imm, val, loc, glo, arg)) (hgood : zi_ok k s nc pl im → wpY_add post (fl, cl, ms, fu, cnt, opn, er, sz, dp, dep, ytr, nx, us, tk, lr, pa, lo, tb, re, sta, len, ops, ty, kd, bk, hh, dd, aF, aP, aZ, aL, lP, lF, vt, byt, imm, val, loc, glo, arg) (nI k) (zi_rec k im)) : wY_feed_178 post (nI k) im x4 lim fl cl ms fu cnt opn er sz dp dep ytr nx us tk lr pa lo tb re sta len ops ty kd bk hh dd aF aP aZ aL lP lF vt byt imm val loc glo arg := by
  subst hlim
  have A : zi_ok k s nc pl im → wY_feed_225 post (nI k) im x4 fl cl ms fu cnt opn er sz dp dep ytr nx us tk lr pa lo tb re sta len ops ty kd bk hh dd aF aP aZ aL lP lF vt byt imm val loc glo arg := fun z => by
    have q := hgood z
    rcases h4 with ⟨e, h4⟩ | ⟨e, h4⟩
    · rw [zi_rec1 h4] at q; exact br_t e q
    · rw [zi_rec0 h4] at q; exact br_f (by rw [e]; decide) q
  refine pk_eq k 18 (fun e => br_c (fun z => A (Or.inr (Or.inr (Or.inl ⟨e, z⟩)))) (fun z => hbad ?_)) (fun e => ?_)
  · rintro (y | y | y | y)
    · unfold zi_none at y; omega
    · omega
    · exact z y.2
    · exact y.2.1 e
  · rcases h4 with ⟨x0, h4⟩ | ⟨x0, h4⟩
    · refine br_t x0 (pk_eq k 19 (fun z => A (Or.inr (Or.inl z))) (fun z => ?_))
      have q := zi_b2 (A := post (-4) (fl, cl, ms, fu, cnt, opn, er, sz, dp, dep, ytr, nx, us, tk, lr, pa, lo, tb, re, sta, len, ops, ty, kd, bk, hh, dd, aF, aP, aZ, aL, lP, lF, vt, byt, imm, val, loc, glo, arg)) (B := wY_feed_225 post (nI k) im x4 fl cl ms fu cnt opn er sz dp dep ytr nx us tk lr pa lo tb re sta len ops ty kd bk hh dd aF aP aZ aL lP lF vt byt imm val loc glo arg) (im := im) (M := (nI N).toInt64) N (by omega) (nI_l (by omega)) (fun w => A (Or.inr (Or.inr (Or.inr ⟨h4, e, by rw [hz h4 e]; exact w⟩)))) (fun w => hbad (by
        rintro (y | y | y | y)
        · exact h4 y
        · exact z y
        · exact e y.1
        · rw [hz h4 e] at y; exact w y.2.2))
      refine ⟨q.1, fun w => ⟨fun y => (q.2 w).2 (Int64.not_le.mpr y), fun y => (q.2 w).1 (Int64.not_lt.mp y)⟩⟩
    · exact br_f (by rw [x0]; decide) (A (Or.inl h4))
theorem zy_feed {T : Nat → zc_C} (hok : zc_ok (T n)) (hsg : zc_sg pa lo re nc) (hf : f < nc) (hk : k < 42) (hk8 : k ≠ 8) (ho : opn = nI f) (hl : len f = nI n) (hc : cnt = nI nc) (hcl : cl = nI ncl) (hn : n < ncl) (h64 : ncl ≤ 64) (hpl : pa f + lo f = nI pl) (hp8 : pl ≤ 8)
    (HF : zt_F pa tb re nc f (fun i => ops (64 * f + i)) (fun i => imm (64 * f + i)) T n)
    (hbad : ¬ zi_ok k (zc_D (T n)) nc pl im → ∀ (er sz dp : Int32) (ty kd bk hh dd : Nat → Int32), post (-4) (fl, cl, ms, fu, cnt, opn, er, sz, dp, dep, ytr, nx, us, tk, lr, pa, lo, tb, re, sta, len, ops, ty, kd, bk, hh, dd, aF, aP, aZ, aL, lP, lF, vt, byt, imm, val, loc, glo, arg))
    (hE : zi_ok k (zc_D (T n)) nc pl im → ∀ r, r ≠ 0 → r = zc_rc (zc_plan pa tb re f (T n) (zi_rec k im) k) (T n) k → ∀ (er sz dp : Int32) (ty kd bk hh dd : Nat → Int32), post r (fl, cl, ms, fu, cnt, opn, er, sz, dp, dep, ytr, nx, us, tk, lr, pa, lo, tb, re, sta, len, ops, ty, kd, bk, hh, dd, aF, aP, aZ, aL, lP, lF, vt, byt, imm, val, loc, glo, arg))
    (hO : zi_ok k (zc_D (T n)) nc pl im → zc_rc (zc_plan pa tb re f (T n) (zi_rec k im) k) (T n) k = 0 → ∀ (er sz dp : Int32) (ty kd bk hh dd : Nat → Int32),
      (zc_D (zc_nxt (zc_plan pa tb re f (T n) (zi_rec k im) k) (T n) k n (zi_rec k im)) = 0 → post 0 (fl, cl, ms, fu, cnt, -1, er, sz, dp, dep, ytr, nx, us, tk, lr, pa, lo, tb, re, upd sta f 2, upd len f (nI (n + 1)), upd ops (64 * f + n) (nI k), ty, kd, bk, hh, dd, aF, aP, aZ, aL, lP, lF, vt, byt, vp_updL imm (64 * f + n) (zi_rec k im), val, loc, glo, arg)) ∧
      (zc_D (zc_nxt (zc_plan pa tb re f (T n) (zi_rec k im) k) (T n) k n (zi_rec k im)) ≠ 0 → post 0 (fl, cl, ms, fu, cnt, opn, er, sz, dp, dep, ytr, nx, us, tk, lr, pa, lo, tb, re, sta, upd len f (nI (n + 1)), upd ops (64 * f + n) (nI k), ty, kd, bk, hh, dd, aF, aP, aZ, aL, lP, lF, vt, byt, vp_updL imm (64 * f + n) (zi_rec k im), val, loc, glo, arg))) :
    wpY_feed post (fl, cl, ms, fu, cnt, opn, er, sz, dp, dep, ytr, nx, us, tk, lr, pa, lo, tb, re, sta, len, ops, ty, kd, bk, hh, dd, aF, aP, aZ, aL, lP, lF, vt, byt, imm, val, loc, glo, arg) (nI k) im := by
  have h4 := hsg.1
  have hD8 := hok.2.1
  have hin : vp_in (nI f) 4 := vp_in_nI (by omega) (by decide)
  have ec : (nI f).toNatClampNeg = f := nI_clamp (by omega)
  have nn : (¬ (k = 0 ∨ k = 4 ∨ k = 5 ∨ k = 9 ∨ k = 11 ∨ k = 12 ∨ (20 ≤ k ∧ k ≤ 37))) → ¬ zi_none k := id
  have yn : (k = 0 ∨ k = 4 ∨ k = 5 ∨ k = 9 ∨ k = 11 ∨ k = 12 ∨ (20 ≤ k ∧ k ≤ 37)) → zi_none k := id
  have ny : zi_none k → (k = 0 ∨ k = 4 ∨ k = 5 ∨ k = 9 ∨ k = 11 ∨ k = 12 ∨ (20 ≤ k ∧ k ≤ 37)) := id
  refine br_t (by rw [ho]; exact nI_pos' (by omega)) (br_f (nI_pos (by omega)) (pk_lt 41 k (fun _ => by omega) (fun _ => pk_eq k 8 (fun z => absurd z hk8) (fun _ => ⟨by rw [ho]; exact hin, br_t ?_ ?_⟩))))
  · rw [ho, ec, hl, hcl]; exact nI_lt hn (by omega)
  · refine zy_replay hsg hf (by omega) hl ho HF (fun er ty kd bk hh dd hA => ?_)
    have C : ∀ x4 : Int32, ((x4 = 0 ∧ ¬ zi_none k) ∨ (x4 = 1 ∧ zi_none k)) → wY_feed_100 post (nI k) im x4 fl cl ms fu cnt opn er (nI (zc_S (T n))) (nI (zc_D (T n))) dep ytr nx us tk lr pa lo tb re sta len ops ty kd bk hh dd aF aP aZ aL lP lF vt byt imm val loc glo arg := by
      intro x4 hx
      have B : ∀ (N : Nat) (lim : Int32), N ≤ 64 → lim = nI N → (¬ zi_none k → k ≠ 18 → zi_lim k (zc_D (T n)) nc pl = N) → wY_feed_178 post (nI k) im x4 lim fl cl ms fu cnt opn er (nI (zc_S (T n))) (nI (zc_D (T n))) dep ytr nx us tk lr pa lo tb re sta len ops ty kd bk hh dd aF aP aZ aL lP lF vt byt imm val loc glo arg := fun N lim h1 h2 h3 =>
        zy_178 hk h1 h2 hx h3 (fun z => hbad z _ _ _ _ _ _ _ _) (fun z => zy_add hok hA hsg hf hk (zi_im hk8 hp8 z) ho hl (by omega) (hE z) (hO z))
      refine pk_lt 3 k (fun a1 => pk_lt 7 k (fun a2 => pk_eq k 10 (fun a3 => B nc cnt (by omega) hc (fun _ _ => ?_)) (fun a3 => pk_lt 15 k (fun a4 => pk_lt 17 k (fun a5 => B 64 64 (by omega) rfl (fun _ _ => ?_)) (fun a5 => B 2 2 (by omega) rfl (fun _ _ => ?_))) (fun a4 => ⟨by rw [ho]; exact hin, by rw [ho]; exact hin, B pl _ (by omega) ?_ (fun _ _ => ?_)⟩))) (fun a2 => B (zc_D (T n)) _ (by omega) rfl (fun _ _ => ?_))) (fun a1 => B 9 9 (by omega) rfl (fun _ _ => ?_))
      · unfold zi_lim; rw [if_neg (by omega), if_neg (by omega), if_pos a3]
      · unfold zi_lim; rw [if_neg (by omega), if_neg (by omega), if_neg (by omega), if_neg (by omega), if_neg (by omega)]
      · unfold zi_lim; rw [if_neg (by omega), if_neg (by omega), if_neg (by omega), if_neg (by omega), if_pos (by omega)]
      · rw [ho, ec]; exact hpl
      · unfold zi_lim; rw [if_neg (by omega), if_neg (by omega), if_neg (by omega), if_pos (by omega)]
      · unfold zi_lim; rw [if_neg (by omega), if_pos (by omega)]
      · unfold zi_lim; rw [if_pos (by omega)]
    have C1 : zi_none k → wY_feed_95 post (nI k) im fl cl ms fu cnt opn er (nI (zc_S (T n))) (nI (zc_D (T n))) dep ytr nx us tk lr pa lo tb re sta len ops ty kd bk hh dd aF aP aZ aL lP lF vt byt imm val loc glo arg := fun z => C 1 (Or.inr ⟨rfl, z⟩)
    have C0 : ¬ zi_none k → wY_feed_99 post (nI k) im fl cl ms fu cnt opn er (nI (zc_S (T n))) (nI (zc_D (T n))) dep ytr nx us tk lr pa lo tb re sta len ops ty kd bk hh dd aF aP aZ aL lP lF vt byt imm val loc glo arg := fun z => C 0 (Or.inl ⟨rfl, z⟩)
    exact pk_eq k 0 (fun _ => C1 (yn (by omega))) (fun _ => pk_eq k 4 (fun _ => C1 (yn (by omega))) (fun _ => pk_eq k 5 (fun _ => C1 (yn (by omega))) (fun _ => pk_eq k 9 (fun _ => C1 (yn (by omega))) (fun _ => pk_eq k 11 (fun _ => C1 (yn (by omega))) (fun _ => pk_eq k 12 (fun _ => C1 (yn (by omega))) (fun _ => pk_lt k 20 (fun _ => C0 (nn (by omega))) (fun _ => pk_lt 37 k (fun _ => C0 (nn (by omega))) (fun _ => C1 (yn (by omega))))))))))
end
end
section
/-! feed -/
section
variable {pa lo tb re sta len ops sT sF sM sT' sF' sM' : Nat → Int32} {imm : Nat → Int64} {nc f n q : Nat} {im0 : Int64}
theorem zr_ne64 {g i : Nat} (hg : g ≠ f) (hi : i < 64) (hn : n < 64) : 64 * g + i ≠ 64 * f + n := by omega
theorem zr_fng (hsg : zc_sg pa lo re nc) (hf : f < nc) (hn : n < 64) (h : zr_fn pa tb re sta len ops sT sF sM imm nc) (h1 : sta f = 1)
    (hs : ∀ g s, g ≠ f → s < 96 → sT' (96 * g + s) = sT (96 * g + s) ∧ sF' (96 * g + s) = sF (96 * g + s) ∧ sM' (96 * g + s) = sM (96 * g + s)) :
    zr_fn pa tb re sta (upd len f (nI (n + 1))) (upd ops (64 * f + n) (nI q)) sT' sF' sM' (vp_updL imm (64 * f + n) im0) nc := by
  refine ⟨fun g hg => ?_, fun g hg => ?_⟩
  · rw [pk_un (by omega)]; exact h.1 g hg
  · by_cases x : g = f
    · rw [x, pk_us, h1]
      exact ⟨fun w => absurd w (by decide), n + 1, by omega, rfl⟩
    · obtain ⟨a, b⟩ := h.2 g hg
      rw [pk_un x]
      exact ⟨fun w => zr_COc hsg.1 (Nat.le_refl _) hg (fun _ _ => ⟨rfl, rfl, rfl⟩) (pk_un x) (fun i hi => ⟨pk_un (zr_ne64 x hi hn), pk_uLn (zr_ne64 x hi hn)⟩) (fun s hs' => hs g s x hs') (a w), b⟩
theorem zr_fnc (hsg : zc_sg pa lo re nc) (hf : f < nc) (hn : n < 64) (h : zr_fn pa tb re sta len ops sT sF sM imm nc)
    (hs : ∀ g s, g ≠ f → s < 96 → sT' (96 * g + s) = sT (96 * g + s) ∧ sF' (96 * g + s) = sF (96 * g + s) ∧ sM' (96 * g + s) = sM (96 * g + s))
    (hC : zr_CO pa tb re (upd len f (nI (n + 1))) (upd ops (64 * f + n) (nI q)) sT' sF' sM' (vp_updL imm (64 * f + n) im0) nc f) :
    zr_fn pa tb re (upd sta f 2) (upd len f (nI (n + 1))) (upd ops (64 * f + n) (nI q)) sT' sF' sM' (vp_updL imm (64 * f + n) im0) nc := by
  refine ⟨fun g hg => ?_, fun g hg => ?_⟩
  · rw [pk_un (by omega), pk_un (by omega)]; exact h.1 g hg
  · by_cases x : g = f
    · rw [x, pk_us, pk_us]
      exact ⟨fun _ => hC, n + 1, by omega, rfl⟩
    · obtain ⟨a, b⟩ := h.2 g hg
      rw [pk_un x, pk_un x]
      exact ⟨fun w => zr_COc hsg.1 (Nat.le_refl _) hg (fun _ _ => ⟨rfl, rfl, rfl⟩) (pk_un x) (fun i hi => ⟨pk_un (zr_ne64 x hi hn), pk_uLn (zr_ne64 x hi hn)⟩) (fun s hs' => hs g s x hs') (a w), b⟩
theorem zr_s1 {g : Nat → Int32} {x : Nat} {v : Int32} (hx : x < 96) {h s : Nat} (hh : h ≠ f) (hs : s < 96) : upd g (96 * f + x) v (96 * h + s) = g (96 * h + s) := pk_un (by omega)
end
section
variable {fl cl ms fu cnt opn tu oc fc cu pu mk us dep top pc tr : Int32} {lr : Int64} {pa lo tb re sta len ops sT sF sM oT fK fT fH fU fS fC mem aF aA aT : Nat → Int32} {imm arg glo cel loc : Nat → Int64} {c c1 : zc_C} {f n q cur : Nat} {x2 : Int64} {o m : Int32} {post : Int32 → SX → Prop}
theorem zx_163 {x4 : Int32} (hok : zc_ok c) (hq : q < 42) (hq8 : q ≠ 8) (hf : f < 4) (hn : n < 64) (ho : opn = nI f) (hl : len f = nI n) (h12 : m = 0 → cur + zc_o o ≤ 12) (e : c1 = zc_set c cur o m)
    (h : wpX_linkControl (fun u => match u with | (fl, cl, ms, fu, cnt, opn, tu, oc, fc, cu, pu, mk, lr, us, dep, top, pc, tr, pa, lo, tb, re, sta, len, ops, imm, sT, sF, sM, oT, fK, fT, fH, fU, fS, fC, arg, glo, mem, aF, aA, aT, cel, loc) => post 0 (fl, cl, ms, fu, cnt, opn, tu, oc, fc, cu, pu, mk, lr, us, dep, top, pc, tr, pa, lo, tb, re, sta, len, ops, imm, sT, sF, sM, oT, fK, fT, fH, fU, fS, fC, arg, glo, mem, aF, aA, aT, cel, loc)) (fl, cl, ms, fu, cnt, opn, tu, nI (zc_S c1), nI (zc_D c1), nI cur, o, m, lr, us, dep, top, pc, tr, pa, lo, tb, re, sta, upd len f (nI (n + 1)), upd ops (64 * f + n) (nI q), vp_updL imm (64 * f + n) (zi_rec q x2), sT, sF, sM, zc_T c1, zc_K c1, zc_B c1, zc_z (zc_H c1), zc_U c1, zc_z (zc_A c1), fC, arg, glo, mem, aF, aA, aT, cel, loc) (nI q) x4 (nI n)) :
    wX_feed_163 post (nI q) x2 x4 fl cl ms fu cnt opn tu (nI (zc_S c)) (nI (zc_D c)) (nI cur) o m lr us dep top pc tr pa lo tb re sta len ops imm sT sF sM (zc_T c) (zc_K c) (zc_B c) (zc_z (zc_H c)) (zc_U c) (zc_z (zc_A c)) fC arg glo mem aF aA aT cel loc := by
  have A : ∀ z0, zi_rec q x2 = z0 → wX_feed_176 post (nI q) x4 z0 fl cl ms fu cnt opn tu (nI (zc_S c)) (nI (zc_D c)) (nI cur) o m lr us dep top pc tr pa lo tb re sta len ops imm sT sF sM (zc_T c) (zc_K c) (zc_B c) (zc_z (zc_H c)) (zc_U c) (zc_z (zc_A c)) fC arg glo mem aF aA aT cel loc := by
    intro z0 hz
    subst hz
    exact zx_append hf hn ho hl (zx_settle hok h12 e h)
  unfold wX_feed_163
  exact zx_him hq hq8 (fun z => br_t rfl (A 0 (zi_rec0 z))) (fun z => br_f (by decide) (A x2 (zi_rec1 z)))
end
section
variable {fl cl ms fu cnt opn tu oc fc cu pu mk us dep top pc tr er sz dp ytr nx tk : Int32} {lr : Int64} {pa lo tb re sta len ops sT sF sM oT fK fT fH fU fS fC mem aF aA aT ty kd bk hh dd aP aZ aL lP lF vt byt : Nat → Int32} {imm arg glo cel loc val : Nat → Int64} {c : zc_C} {f n q nc nl ncl nms nfu nd pl kk : Nat} {im : Int64}
theorem zr_feedO {T : Nat → zc_C} {sI sD : Nat → Nat} {L : Nat → List Nat} (hnm : zr_nm fl cl ms fu cnt nc nl ncl nms nfu) (hdep : dep = nI nd ∧ nd ≤ 8 ∧ ∀ b, b < nd → aA b = aP b) (hsg : zc_sg pa lo re nc) (hby : byt = fun j => mem j &&& 255) (hgl : glo 0 = (glo 0).toInt32.toInt64)
    (hfn : zr_fn pa tb re sta len ops sT sF sM imm nc) (hf : f < nc) (ho : opn = nI f) (hst : sta f = 1) (hn : n < ncl) (hl : len f = nI n) (hok : zc_ok c) (hT : T n = c)
    (HF : zt_F pa tb re nc f (fun i => ops (64 * f + i)) (fun i => imm (64 * f + i)) T n) (htu : tu = nI (zw_sum (fun i => ops (64 * f + i)) (fun i => imm (64 * f + i)) n)) (h32 : zw_sum (fun i => ops (64 * f + i)) (fun i => imm (64 * f + i)) n ≤ 32)
    (X : zw_X (fun i => ops (64 * f + i)) (fun i => imm (64 * f + i)) T n (fun s => sT (96 * f + s)) (fun s => sF (96 * f + s)) (fun s => sM (96 * f + s)) fC sI sD L)
    (hq : q < 42) (hq8 : q ≠ 8) (him : zc_im nc c q (zi_rec q im)) (hr : zc_rc (zc_plan pa tb re f c (zi_rec q im) q) c q = 0)
    (hY : ∀ u' : SX, (zc_D (zc_nxt (zc_plan pa tb re f c (zi_rec q im) q) c q n (zi_rec q im)) = 0 → ∀ (er sz dp : Int32) (ty kd bk hh dd : Nat → Int32), i_Rel (kk + 5) u' (fl, cl, ms, fu, cnt, -1, er, sz, dp, dep, ytr, nx, us, tk, lr, pa, lo, tb, re, upd sta f 2, upd len f (nI (n + 1)), upd ops (64 * f + n) (nI q), ty, kd, bk, hh, dd, aF, aP, aZ, aL, lP, lF, vt, byt, vp_updL imm (64 * f + n) (zi_rec q im), val, loc, glo, arg)) →
      (zc_D (zc_nxt (zc_plan pa tb re f c (zi_rec q im) q) c q n (zi_rec q im)) ≠ 0 → ∀ (er sz dp : Int32) (ty kd bk hh dd : Nat → Int32), i_Rel (kk + 5) u' (fl, cl, ms, fu, cnt, opn, er, sz, dp, dep, ytr, nx, us, tk, lr, pa, lo, tb, re, sta, upd len f (nI (n + 1)), upd ops (64 * f + n) (nI q), ty, kd, bk, hh, dd, aF, aP, aZ, aL, lP, lF, vt, byt, vp_updL imm (64 * f + n) (zi_rec q im), val, loc, glo, arg)) →
      wpY_feed (fun r' v' => r' = 0 ∧ i_Rel (kk + 5) u' v') (fl, cl, ms, fu, cnt, opn, er, sz, dp, dep, ytr, nx, us, tk, lr, pa, lo, tb, re, sta, len, ops, ty, kd, bk, hh, dd, aF, aP, aZ, aL, lP, lF, vt, byt, imm, val, loc, glo, arg) (nI q) im) :
    wX_feed_163 (fun r u' => wpY_feed (fun r' v' => r' = r ∧ i_Rel (kk + 5) u' v') (fl, cl, ms, fu, cnt, opn, er, sz, dp, dep, ytr, nx, us, tk, lr, pa, lo, tb, re, sta, len, ops, ty, kd, bk, hh, dd, aF, aP, aZ, aL, lP, lF, vt, byt, imm, val, loc, glo, arg) (nI q) im) (nI q) im im.toInt32 fl cl ms fu cnt opn tu (nI (zc_S c)) (nI (zc_D c)) (nI (zc_plan pa tb re f c (zi_rec q im) q).2.1) ((zc_plan pa tb re f c (zi_rec q im) q).2.2.1) ((zc_plan pa tb re f c (zi_rec q im) q).2.2.2) lr us dep top pc tr pa lo tb re sta len ops imm sT sF sM (zc_T c) (zc_K c) (zc_B c) (zc_z (zc_H c)) (zc_U c) (zc_z (zc_A c)) fC arg glo mem aF aA aT cel loc := by
  have h4 := hsg.1
  have hm6 := hnm.2.2.2.2.2.1
  obtain ⟨r1, r2, r3, r4, r5⟩ := zq_rc0 hr
  have hq1 := zp_cur (pa := pa) (tb := tb) (re := re) (f := f) (im := zi_rec q im) hok.2.2.2.2.2.1 q
  have hmk := zq_mk (pa := pa) (tb := tb) (re := re) (f := f) (c := c) (im := zi_rec q im) q
  have hD1 := hok.1
  have hD8 := hok.2.1
  subst hT
  obtain ⟨T', t1, t2, HF', X', H⟩ := zr_pre h4 hf HF X hok hq him hr
  have HFs := zt_Fs (op := fun i => upd ops (64 * f + n) (nI q) (64 * f + i)) (im := fun i => vp_updL imm (64 * f + n) (zi_rec q im) (64 * f + i)) HF' H
  have e8 : upd ops (64 * f + n) (nI q) (64 * f + n) = nI q := pk_us
  have ei : vp_updL imm (64 * f + n) (zi_rec q im) (64 * f + n) = zi_rec q im := pk_uLs
  have eS : zw_sum (fun i => upd ops (64 * f + n) (nI q) (64 * f + i)) (fun i => vp_updL imm (64 * f + n) (zi_rec q im) (64 * f + i)) (n + 1) = zw_sum (fun i => ops (64 * f + i)) (fun i => imm (64 * f + i)) n := by
    have a := zw_sumc (n := n) (op' := fun i => upd ops (64 * f + n) (nI q) (64 * f + i)) (im' := fun i => vp_updL imm (64 * f + n) (zi_rec q im) (64 * f + i)) (op := fun i => ops (64 * f + i)) (im := fun i => imm (64 * f + i)) (fun i hi => zr_opn hi) n (Nat.le_refl _)
    show zw_sum _ _ n + (if upd ops (64 * f + n) (nI q) (64 * f + n) = 8 then zc_n (vp_updL imm (64 * f + n) (zi_rec q im) (64 * f + n)) + 1 else 0) = _
    rw [a, e8, if_neg (show ¬ nI q = 8 from fun w => hq8 ((nI_eq (b := 8) (by omega) (by decide)).mp w))]; rfl
  have okn : (q = 5 → 2 ≤ zc_D (T n)) → zc_ok (zc_nxt (zc_plan pa tb re f (T n) (zi_rec q im) q) (T n) q n (zi_rec q im)) := fun z => zq_nxt hok hsg him hr z
  -- the relation with a body still open
  have G : ∀ (sT' sF' sM' fC' oT' fK' fT' fH' fU' fS' : Nat → Int32) (oc' fc' : Int32) (sI' sD' : Nat → Nat) (L' : Nat → List Nat) (c' : zc_C), c' = zc_nxt (zc_plan pa tb re f (T n) (zi_rec q im) q) (T n) q n (zi_rec q im) → zc_ok c' →
      (oc' = nI (zc_S c') ∧ fc' = nI (zc_D c') ∧ oT' = zc_T c' ∧ fK' = zc_K c' ∧ fT' = zc_B c' ∧ fH' = zc_z (zc_H c') ∧ fU' = zc_U c' ∧ fS' = zc_z (zc_A c')) →
      (∀ g s, g ≠ f → s < 96 → sT' (96 * g + s) = sT (96 * g + s) ∧ sF' (96 * g + s) = sF (96 * g + s) ∧ sM' (96 * g + s) = sM (96 * g + s)) →
      zw_X (fun i => upd ops (64 * f + n) (nI q) (64 * f + i)) (fun i => vp_updL imm (64 * f + n) (zi_rec q im) (64 * f + i)) T' (n + 1) (fun s => sT' (96 * f + s)) (fun s => sF' (96 * f + s)) (fun s => sM' (96 * f + s)) fC' sI' sD' L' →
      ∀ (cu' pu' mk' : Int32) (er sz dp : Int32) (ty kd bk hh dd : Nat → Int32), i_Rel (kk + 5) (fl, cl, ms, fu, cnt, opn, tu, oc', fc', cu', pu', mk', lr, us, dep, top, pc, tr, pa, lo, tb, re, sta, upd len f (nI (n + 1)), upd ops (64 * f + n) (nI q), vp_updL imm (64 * f + n) (zi_rec q im), sT', sF', sM', oT', fK', fT', fH', fU', fS', fC', arg, glo, mem, aF, aA, aT, cel, loc) (fl, cl, ms, fu, cnt, opn, er, sz, dp, dep, ytr, nx, us, tk, lr, pa, lo, tb, re, sta, upd len f (nI (n + 1)), upd ops (64 * f + n) (nI q), ty, kd, bk, hh, dd, aF, aP, aZ, aL, lP, lF, vt, byt, vp_updL imm (64 * f + n) (zi_rec q im), val, loc, glo, arg) := by
    intro sT' sF' sM' fC' oT' fK' fT' fH' fU' fS' oc' fc' sI' sD' L' c' ec hokc hx hs hX cu' pu' mk' er sz dp ty kd bk hh dd
    refine zz_in ⟨nc, nl, ncl, nms, nfu, nd, hnm, hdep, hsg, hby, hgl, zr_fng hsg hf (by omega) hfn hst hs, Or.inr ⟨f, c', n + 1, hf, ho, hst, by omega, hx, by omega, pk_us, hokc, T', sI', sD', L', by rw [t2, ec], HFs, ?_, ?_, hX⟩⟩
    · rw [eS]; exact htu
    · rw [eS]; exact h32
  have DnC : zc_D (zc_nxt (zc_plan pa tb re f (T n) (zi_rec q im) q) (T n) q n (zi_rec q im)) = zc_D (T' (n + 1)) := by rw [t2]
  refine zx_163 hok hq hq8 (by omega) (by omega) ho hl r5 rfl ?_
  have n1 : ∀ z : Prop, (q ≠ 5 → zc_D (zc_nxt (zc_plan pa tb re f (T n) (zi_rec q im) q) (T n) q n (zi_rec q im)) ≠ 0) := by
    intro _ z5
    have := zn_D H
    rw [t1] at this
    rw [DnC, this]
    by_cases w : 1 ≤ q ∧ q ≤ 3
    · rw [if_pos w]; omega
    · rw [if_neg w, if_neg z5]; omega
  have n1 := n1 True
  by_cases q13 : 1 ≤ q ∧ q ≤ 3
  · have m0 := hmk.2 (by omega)
    have eN : zc_nxt (zc_plan pa tb re f (T n) (zi_rec q im) q) (T n) q n (zi_rec q im) = zc_ctl q (zc_plan pa tb re f (T n) (zi_rec q im) q).2.1 n (zi_rec q im).toInt32 (zc_set (T n) (zc_plan pa tb re f (T n) (zi_rec q im) q).2.1 (zc_plan pa tb re f (T n) (zi_rec q im) q).2.2.1 (zc_plan pa tb re f (T n) (zi_rec q im) q).2.2.2) := rfl
    have ez : zi_rec q im = im := zi_rec1 (by unfold zi_none; omega)
    have hX := zw_open H q13 X'
    rw [t1] at hX
    refine zx_lc1 (by rw [zs_D]; exact r1 q13) q13 (c1 := zc_nxt (zc_plan pa tb re f (T n) (zi_rec q im) q) (T n) q n (zi_rec q im)) (by rw [eN, ez]) (hY _ (fun z => absurd z (n1 (by omega))) (fun _ er sz dp ty kd bk hh dd => ?_))
    rw [zs_D]
    exact G sT sF sM _ _ _ _ _ _ _ _ _ sI sD _ _ rfl (okn (by omega)) ⟨rfl, rfl, rfl, rfl, rfl, rfl, rfl, rfl⟩ (fun _ _ _ _ => ⟨rfl, rfl, rfl⟩) hX _ _ _ _ _ _ _ _ _ _ _
  by_cases q4 : q = 4
  · subst q4
    have hX := zw_else HF' H (by omega) X'
    rw [t1] at hX
    have hK : zc_K (T n) (zc_D (T n) - 1) = 3 := r2 rfl
    have h2 : 2 ≤ zc_D (T n) := by
      rcases Nat.lt_or_ge 1 (zc_D (T n)) with y | y
      · exact y
      · have e : zc_D (T n) - 1 = 0 := by omega
        rw [e, hok.2.2.2.2.2.2.2.2.1] at hK; exact absurd hK (by decide)
    obtain ⟨_, tA, _⟩ := zw_top HF h2
    have hs1 : zc_ok (zc_set (T n) (zc_plan pa tb re f (T n) (zi_rec 4 im) 4).2.1 (zc_plan pa tb re f (T n) (zi_rec 4 im) 4).2.2.1 (zc_plan pa tb re f (T n) (zi_rec 4 im) 4).2.2.2) :=
      zq_set hok hq1.1 hq1.2 hmk.1 ((zp_out (tb := tb) (f := f) hok hsg 4 him r4).imp id (fun z => ⟨z.1, z.2.2⟩)) r5
    refine zx_lc4 (cur := (zc_plan pa tb re f (T n) (zi_rec 4 im) 4).2.1) (a := n) (t := (zi_rec 4 im).toInt32) (c1 := zc_nxt (zc_plan pa tb re f (T n) (zi_rec 4 im) 4) (T n) 4 n (zi_rec 4 im)) hs1 (by omega) ho (by omega) (by rw [zs_A, zs_D]; omega) rfl (hY _ (fun z => absurd z (n1 (by omega))) (fun _ er sz dp ty kd bk hh dd => ?_))
    rw [zs_A, zs_D]
    refine G _ sF sM _ _ _ _ _ _ _ _ _ (zc_u sI n n) (zc_u sD n (zc_D (T n) - 1)) (zw_uL L (zc_D (T n) - 1) (n :: L (zc_D (T n) - 1))) _ rfl (okn (by omega)) ⟨rfl, rfl, rfl, rfl, rfl, rfl, rfl, rfl⟩ (fun g s hg hs => ⟨?_, rfl, rfl⟩) ?_ _ _ _ _ _ _ _ _ _ _ _
    · rw [zr_s1 (by omega) hg hs, zr_s1 (by omega) hg hs]
    · rw [zr_sh, zr_sh]; exact hX
  by_cases q67 : q = 6 ∨ q = 7
  · obtain ⟨l, hl', el⟩ := him.2.1 q67
    have ez : zi_rec q im = im := zi_rec1 (by unfold zi_none; omega)
    have ei2 : im.toInt32 = nI l := by rw [← ez, el, lN_i]
    have ei3 : (vp_updL imm (64 * f + n) (zi_rec q im) (64 * f + n)).toInt32.toNatClampNeg = l := by rw [ei, el, lN_i, nI_clamp (by omega)]
    have hX := zw_br H q67 (by omega) X' (by show (vp_updL imm (64 * f + n) (zi_rec q im) (64 * f + n)).toInt32.toNatClampNeg < _; rw [ei3, t1]; exact hl')
    have hs1 : zc_ok (zc_set (T n) (zc_plan pa tb re f (T n) (zi_rec q im) q).2.1 (zc_plan pa tb re f (T n) (zi_rec q im) q).2.2.1 (zc_plan pa tb re f (T n) (zi_rec q im) q).2.2.2) :=
      zq_set hok hq1.1 hq1.2 hmk.1 ((zp_out (tb := tb) (f := f) hok hsg q him r4).imp id (fun z => ⟨z.1, z.2.2⟩)) r5
    have eN : zc_nxt (zc_plan pa tb re f (T n) (zi_rec q im) q) (T n) q n (zi_rec q im) = zc_set (T n) (zc_plan pa tb re f (T n) (zi_rec q im) q).2.1 (zc_plan pa tb re f (T n) (zi_rec q im) q).2.2.1 (zc_plan pa tb re f (T n) (zi_rec q im) q).2.2.2 := by
      unfold zc_nxt zc_ctl; rw [if_neg (by omega), if_neg (by omega), if_neg (by omega)]
    refine zx_lc6 (l := l) hs1 (by omega) ho q67 (by omega) (by rw [zs_D]; exact hl') ei2 (hY _ (fun z => absurd z (n1 (by omega))) (fun _ er sz dp ty kd bk hh dd => ?_))
    refine G _ _ _ _ _ _ _ _ _ _ _ _ (zc_u sI n n) (zc_u sD n (zc_D (T n) - 1 - l)) (zw_lL (T n) (zc_D (T n) - 1 - l) n L) _ eN.symm hs1 ⟨rfl, rfl, rfl, rfl, rfl, rfl, rfl, rfl⟩ (fun g s hg hs => ⟨?_, ?_, ?_⟩) ?_ _ _ _ _ _ _ _ _ _ _ _
    · rw [zr_s1 (by omega) hg hs]
    · rw [zr_s1 (by omega) hg hs]
    · rw [zr_s1 (by omega) hg hs]
    · simp only [ei3] at hX
      rw [t1] at hX
      rw [zr_sh, zr_sh, zr_sh, zs_D, zs_H, zs_K, zs_A]
      have e1 : zw_lfC (zc_set (T n) (zc_plan pa tb re f (T n) (zi_rec q im) q).2.1 (zc_plan pa tb re f (T n) (zi_rec q im) q).2.2.1 (zc_plan pa tb re f (T n) (zi_rec q im) q).2.2.2) (zc_D (T n) - 1 - l) n fC = zw_lfC (T n) (zc_D (T n) - 1 - l) n fC := by unfold zw_lfC; rw [zs_K]
      have e2 : zw_fm (zc_set (T n) (zc_plan pa tb re f (T n) (zi_rec q im) q).2.1 (zc_plan pa tb re f (T n) (zi_rec q im) q).2.2.1 (zc_plan pa tb re f (T n) (zi_rec q im) q).2.2.2) (zc_D (T n) - 1 - l) = zw_fm (T n) (zc_D (T n) - 1 - l) := by unfold zw_fm zw_f0 zw_ld; rw [zs_K, zs_B]
      rw [e1, e2]
      exact hX
  by_cases q5 : q = 5
  · subst q5
    obtain ⟨X1, X2, X3, X4, X5⟩ := X
    obtain ⟨cL1, cL2, cL3⟩ := X3 (zc_D (T n) - 1) (by omega)
    have hs1 : zc_ok (zc_set (T n) (zc_plan pa tb re f (T n) (zi_rec 5 im) 5).2.1 (zc_plan pa tb re f (T n) (zi_rec 5 im) 5).2.2.1 (zc_plan pa tb re f (T n) (zi_rec 5 im) 5).2.2.2) :=
      zq_set hok hq1.1 hq1.2 hmk.1 ((zp_out (tb := tb) (f := f) hok hsg 5 him r4).imp id (fun z => ⟨z.1, z.2.2⟩)) r5
    have h2D : zc_K (T n) (zc_D (T n) - 1) = 3 → 2 ≤ zc_D (T n) := fun hK => by
      rcases Nat.lt_or_ge 1 (zc_D (T n)) with y | y
      · exact y
      · have e : zc_D (T n) - 1 = 0 := by omega
        rw [e, hok.2.2.2.2.2.2.2.2.1] at hK; exact absurd hK (by decide)
    have hb : ∀ s, s ∈ L (zc_D (T n) - 1) → s < 96 := fun s hs => by
      have := zw_us (by omega) (cL3 s hs).1
      omega
    have hAL : zc_K (T n) (zc_D (T n) - 1) = 3 → zc_A (T n) (zc_D (T n) - 1) ∉ L (zc_D (T n) - 1) := fun hK w => by
      obtain ⟨_, a1, a2, a3, _⟩ := zw_top HF (h2D hK)
      exact zw_nus a2 a3 (by omega) (cL3 _ w).1 rfl
    have hA64 : zc_K (T n) (zc_D (T n) - 1) = 3 → zc_A (T n) (zc_D (T n) - 1) < 64 := fun hK => by
      obtain ⟨_, a1, _⟩ := zw_top HF (h2D hK)
      omega
    have m0 := hmk.2 (by omega)
    refine zx_lc5 (L := L (zc_D (T n) - 1)) hs1 (by omega) ho (by omega) (by rw [zs_K, zs_D, zs_A]; exact hA64) (by rw [zs_D]; exact cL1) cL2 hb (by rw [zs_K, zs_D, zs_A]; exact hAL) ?_
    rw [zs_K, zs_D, zs_A]
    intro sT' s1 s2 s3
    have hX : zw_X (fun i => upd ops (64 * f + n) (nI 5) (64 * f + i)) (fun i => vp_updL imm (64 * f + n) (zi_rec 5 im) (64 * f + i)) T' (n + 1) (fun s => sT' (96 * f + s)) (fun s => sF (96 * f + s)) (fun s => sM (96 * f + s)) fC sI sD L := by
      refine zw_end (g := nI (if zc_D (T n) - 1 = 0 then n else n + 1)) HF' H (by omega) X' (by rw [t1]) ?_ ?_ ?_
      · rw [t1]; exact s1
      · rw [t1]
        intro s hs1 hs2
        exact s3 (96 * f + s) (fun x hx w => hs1 (by have w' : s = x := by omega
                                                     rw [w']; exact hx)) (fun w => hs2 ⟨w.1, by omega⟩)
      · rw [t1]
        intro hK _
        exact s2 hK
    have hso : ∀ g s, g ≠ f → s < 96 → sT' (96 * g + s) = sT (96 * g + s) := fun g s hg hs =>
      s3 _ (fun x hx w => by have := hb x hx; omega) (fun w => by have := hA64 w.1; omega)
    have eD : zc_D (T' (n + 1)) = zc_D (T n) - 1 := by rw [(zn_5 H).1, t1]
    refine ⟨fun z => hY _ (fun _ er sz dp ty kd bk hh dd => ?_) (fun w => absurd (by rw [DnC, eD]; omega) w), fun z => hY _ (fun w => by rw [DnC, eD] at w; omega) (fun _ er sz dp ty kd bk hh dd => ?_)⟩
    · have hn1 : n + 1 ≤ 64 := by omega
      have h0 : zc_D (T' (n + 1)) = 0 := by omega
      have hR := zw_fin hX h0 (by rw [eS]; exact h32) (fun i hi h4' => by
        obtain ⟨k', Hi⟩ := HFs.2 i hi
        have k4 : k' = 4 := zt_k Hi.2.1 Hi.1 (by omega) h4'
        subst k4
        rw [(zn_4 Hi).2.2.2.2.2.2.2.2.2]; decide)
      refine zz_in ⟨nc, nl, ncl, nms, nfu, nd, hnm, hdep, hsg, hby, hgl, zr_fnc hsg hf (by omega) hfn (fun g s hg hs => ⟨hso g s hg hs, rfl, rfl⟩) ⟨T', n + 1, hn1, pk_us, HFs, h0, hR⟩, Or.inl ⟨rfl, rfl, rfl, rfl, ⟨_, rfl⟩, ⟨_, rfl⟩⟩⟩
    · have eN : zc_nxt (zc_plan pa tb re f (T n) (zi_rec 5 im) 5) (T n) 5 n (zi_rec 5 im) = zc_ctl 5 (zc_plan pa tb re f (T n) (zi_rec 5 im) 5).2.1 n (zi_rec 5 im).toInt32 (zc_set (T n) (zc_plan pa tb re f (T n) (zi_rec 5 im) 5).2.1 (zc_plan pa tb re f (T n) (zi_rec 5 im) 5).2.2.1 (zc_plan pa tb re f (T n) (zi_rec 5 im) 5).2.2.2) := rfl
      have eC : zc_nxt (zc_plan pa tb re f (T n) (zi_rec 5 im) 5) (T n) 5 n (zi_rec 5 im) = (zc_S (zc_set (T n) (zc_plan pa tb re f (T n) (zi_rec 5 im) 5).2.1 (zc_plan pa tb re f (T n) (zi_rec 5 im) 5).2.2.1 (zc_plan pa tb re f (T n) (zi_rec 5 im) 5).2.2.2), zc_T (zc_set (T n) (zc_plan pa tb re f (T n) (zi_rec 5 im) 5).2.1 (zc_plan pa tb re f (T n) (zi_rec 5 im) 5).2.2.1 (zc_plan pa tb re f (T n) (zi_rec 5 im) 5).2.2.2), zc_D (zc_set (T n) (zc_plan pa tb re f (T n) (zi_rec 5 im) 5).2.1 (zc_plan pa tb re f (T n) (zi_rec 5 im) 5).2.2.1 (zc_plan pa tb re f (T n) (zi_rec 5 im) 5).2.2.2) - 1, zc_K (zc_set (T n) (zc_plan pa tb re f (T n) (zi_rec 5 im) 5).2.1 (zc_plan pa tb re f (T n) (zi_rec 5 im) 5).2.2.1 (zc_plan pa tb re f (T n) (zi_rec 5 im) 5).2.2.2), zc_B (zc_set (T n) (zc_plan pa tb re f (T n) (zi_rec 5 im) 5).2.1 (zc_plan pa tb re f (T n) (zi_rec 5 im) 5).2.2.1 (zc_plan pa tb re f (T n) (zi_rec 5 im) 5).2.2.2), zc_H (zc_set (T n) (zc_plan pa tb re f (T n) (zi_rec 5 im) 5).2.1 (zc_plan pa tb re f (T n) (zi_rec 5 im) 5).2.2.1 (zc_plan pa tb re f (T n) (zi_rec 5 im) 5).2.2.2), zc_U (zc_set (T n) (zc_plan pa tb re f (T n) (zi_rec 5 im) 5).2.1 (zc_plan pa tb re f (T n) (zi_rec 5 im) 5).2.2.1 (zc_plan pa tb re f (T n) (zi_rec 5 im) 5).2.2.2), zc_A (zc_set (T n) (zc_plan pa tb re f (T n) (zi_rec 5 im) 5).2.1 (zc_plan pa tb re f (T n) (zi_rec 5 im) 5).2.2.1 (zc_plan pa tb re f (T n) (zi_rec 5 im) 5).2.2.2)) := by
        rw [eN]; unfold zc_ctl; rw [if_neg (by omega), if_neg (by omega), if_pos rfl]
      have eDs : nI (zc_D (T n) - 1) = nI (zc_D (zc_set (T n) (zc_plan pa tb re f (T n) (zi_rec 5 im) 5).2.1 (zc_plan pa tb re f (T n) (zi_rec 5 im) 5).2.2.1 (zc_plan pa tb re f (T n) (zi_rec 5 im) 5).2.2.2) - 1) := by rw [zs_D]
      refine G sT' sF sM fC _ _ _ _ _ _ _ _ sI sD L _ rfl (okn (fun _ => by omega)) ?_ (fun g s hg hs => ⟨hso g s hg hs, rfl, rfl⟩) hX _ _ _ _ _ _ _ _ _ _ _
      rw [eC]
      exact ⟨rfl, eDs, rfl, rfl, rfl, rfl, rfl, rfl⟩
  · have hX := zw_plain H (by omega) X'
    have eN : zc_nxt (zc_plan pa tb re f (T n) (zi_rec q im) q) (T n) q n (zi_rec q im) = zc_set (T n) (zc_plan pa tb re f (T n) (zi_rec q im) q).2.1 (zc_plan pa tb re f (T n) (zi_rec q im) q).2.2.1 (zc_plan pa tb re f (T n) (zi_rec q im) q).2.2.2 := by
      unfold zc_nxt zc_ctl; rw [if_neg (by omega), if_neg (by omega), if_neg (by omega)]
    refine zx_lc0 hq (by omega) (hY _ (fun z => absurd z (n1 (by omega))) (fun _ er sz dp ty kd bk hh dd => ?_))
    have hok' := okn (by omega)
    rw [eN] at hok'
    exact G sT sF sM fC _ _ _ _ _ _ _ _ sI sD L _ eN.symm hok' ⟨rfl, rfl, rfl, rfl, rfl, rfl, rfl, rfl⟩ (fun _ _ _ _ => ⟨rfl, rfl, rfl⟩) hX _ _ _ _ _ _ _ _ _ _ _
end
theorem i_vc_feed {k : Nat} {u : SX} {v : SY} (I : i_Rel k u v) (hk : k + 5 ≤ 2564) (v1 : Int32) (a1 : Int64) : wpX_feed (fun r u' => wpY_feed (fun r' v' => r' = r ∧ i_Rel (k + 5) u' v') v v1 a1) u v1 a1 := by
  refine zz_el (P := fun u v => wpX_feed (fun r u' => wpY_feed (fun r' v' => r' = r ∧ i_Rel (k + 5) u' v') v v1 a1) u v1 a1) ?_ I
  intro fl cl ms fu cnt opn tu oc fc cu pu mk us dep top pc tr er sz dp ytr nx tk lr pa lo tb re sta len ops sT sF sM oT fK fT fH fU fS fC mem aF aA aT ty kd bk hh dd aP aZ aL lP lF vt byt imm arg glo cel loc val h
  have R : ∀ (cu pu mk er sz dp : Int32) (ty kd bk hh dd : Nat → Int32), i_Rel (k + 5) (fl, cl, ms, fu, cnt, opn, tu, oc, fc, cu, pu, mk, lr, us, dep, top, pc, tr, pa, lo, tb, re, sta, len, ops, imm, sT, sF, sM, oT, fK, fT, fH, fU, fS, fC, arg, glo, mem, aF, aA, aT, cel, loc) (fl, cl, ms, fu, cnt, opn, er, sz, dp, dep, ytr, nx, us, tk, lr, pa, lo, tb, re, sta, len, ops, ty, kd, bk, hh, dd, aF, aP, aZ, aL, lP, lF, vt, byt, imm, val, loc, glo, arg) := fun _ _ _ _ _ _ _ _ _ _ _ => zz_in h
  by_cases z0 : 0 ≤ opn
  · refine br_t z0 ?_
    by_cases z1 : v1 < 0
    · exact br_t z1 (br_t z0 (br_t z1 ⟨rfl, R _ _ _ _ _ _ _ _ _ _ _⟩))
    by_cases z2 : 41 < v1
    · exact br_f z1 (br_t z2 (br_t z0 (br_f z1 (br_t z2 ⟨rfl, R _ _ _ _ _ _ _ _ _ _ _⟩))))
    by_cases z3 : v1 = 8
    · exact br_f z1 (br_f z2 (br_t z3 (br_t z0 (br_f z1 (br_f z2 (br_t z3 ⟨rfl, R _ _ _ _ _ _ _ _ _ _ _⟩))))))
    obtain ⟨q, hq, rfl⟩ := nI_of2 (M := 41) (n := 41) (by decide) z1 (Int32.not_lt.mp z2)
    have hq8 : q ≠ 8 := fun w => z3 (by rw [w]; rfl)
    have h' := h
    obtain ⟨nc, nl, ncl, nms, nfu, nd, hnm, hdep, hsg, hby, hgl, hfn, hop⟩ := h
    have hnm' := hnm
    obtain ⟨m1, m2, m3, m4, m5, m6, m7⟩ := hnm
    rcases hop with ⟨c1, c2⟩ | ⟨f, c, n, g1, g2, g3, g4, ⟨x1, x2, x3, x4, x5, x6, x7, x8⟩, g6, g7, g8, T, sI, sD, L, g9, g10, g11, g12, g13⟩
    · rw [c1] at z0; exact absurd z0 (by decide)
    have h4 := hsg.1
    have ec : (nI f).toNatClampNeg = f := nI_clamp (by omega)
    have hin : vp_in (nI f) 4 := vp_in_nI (by omega) (by decide)
    obtain ⟨⟨pp, hpp, epp⟩, ⟨lp, hlp, elp⟩, hres⟩ := hsg.2 f g1
    have hpl : pa f + lo f = nI (pp + lp) := by rw [epp, elp, nI_add]
    refine br_f z1 (br_f z2 (br_f z3 ⟨by rw [g2]; exact hin, ?_⟩))
    have el : len opn.toNatClampNeg = nI n := by rw [g2, ec, g7]
    rw [el, m5]
    refine pk_lt n ncl (fun hn => ?_) (fun hn => ?_)
    · have hok : zc_ok (T n) := by rw [g9]; exact g8
      have hD8 := hok.2.1
      have hD1 := hok.1
      subst g9
      subst x1 x2 x3 x4 x5 x6 x7 x8
      rw [← m5]
      refine zx_imf (c := T n) (nc := nc) (f := f) (pl := pp + lp) (by omega) hq8 hD8 m1 h4 (by omega) g2 hpl (by omega) (fun hi => br_f (by decide) ?_) (fun hi => br_t rfl ?_)
      · have him := zi_im (c := T n) hq8 (by omega) hi
        have B : ((1 ≤ q ∧ q ≤ 3) → zc_D (T n) < 8) → wX_feed_81 (fun r u' => wpY_feed (fun r' v' => r' = r ∧ i_Rel (k + 5) u' v') (fl, cl, ms, fu, cnt, opn, er, sz, dp, dep, ytr, nx, us, tk, lr, pa, lo, tb, re, sta, len, ops, ty, kd, bk, hh, dd, aF, aP, aZ, aL, lP, lF, vt, byt, imm, val, loc, glo, arg) (nI q) a1) (nI q) a1 fl cl ms fu cnt opn tu (nI (zc_S (T n))) (nI (zc_D (T n))) cu pu mk lr us dep top pc tr pa lo tb re sta len ops imm sT sF sM (zc_T (T n)) (zc_K (T n)) (zc_B (T n)) (zc_z (zc_H (T n))) (zc_U (T n)) (zc_z (zc_A (T n))) fC arg glo mem aF aA aT cel loc := fun hd => by
          refine zx_81 (im := zi_rec q a1) hok hsg g1 g2 (by omega) hq8 hd him (fun w => by rw [zi_rec1 w]) (fun r hr e x y z => ?_) (fun hr => ?_)
          · exact zy_feed hok hsg g1 (by omega) hq8 g2 g7 m1 m5 hn m6 hpl (by omega) g10 (fun w => absurd hi w) (fun _ r' hr' e' er sz dp ty kd bk hh dd => ⟨e'.trans e.symm, R _ _ _ _ _ _ _ _ _ _ _⟩) (fun _ e' => absurd (e.trans e') hr)
          · exact zr_feedO hnm' hdep hsg hby hgl hfn g1 g2 g3 hn g7 hok rfl g10 g11 g12 g13 (by omega) hq8 him hr (fun u' y0 y1 =>
              zy_feed hok hsg g1 (by omega) hq8 g2 g7 m1 m5 hn m6 hpl (by omega) g10 (fun w => absurd hi w) (fun _ r' hr' e' => absurd (e'.trans hr) hr') (fun _ _ er sz dp ty kd bk hh dd => ⟨fun w => ⟨rfl, y0 w er sz dp ty kd bk hh dd⟩, fun w => ⟨rfl, y1 w er sz dp ty kd bk hh dd⟩⟩))
        refine pk_lt q 1 (fun w => B (by omega)) (fun w1 => pk_lt 3 q (fun w => B (by omega)) (fun w2 => pk_lt (zc_D (T n)) 8 (fun w => B (fun _ => w)) (fun w => ?_)))
        have erc : zc_rc (zc_plan pa tb re f (T n) (zi_rec q a1) q) (T n) q = -5 := by unfold zc_rc; rw [if_pos ⟨by omega, w⟩]
        exact zy_feed hok hsg g1 (by omega) hq8 g2 g7 m1 m5 hn m6 hpl (by omega) g10 (fun w => absurd hi w) (fun _ r' hr' e' er sz dp ty kd bk hh dd => ⟨e'.trans erc, R _ _ _ _ _ _ _ _ _ _ _⟩) (fun _ e' => absurd (erc.symm.trans e') (by decide))
      · exact zy_feed hok hsg g1 (by omega) hq8 g2 g7 m1 m5 hn m6 hpl (by omega) g10 (fun w er sz dp ty kd bk hh dd => ⟨rfl, R _ _ _ _ _ _ _ _ _ _ _⟩) (fun w => absurd w hi) (fun w => absurd w hi)
    · refine br_t z0 (br_f z1 (br_f z2 (br_f z3 ⟨by rw [g2]; exact hin, ?_⟩)))
      rw [el]
      exact br_f (nI_nlt hn (by omega)) ⟨rfl, by rw [← m5]; exact R _ _ _ _ _ _ _ _ _ _ _⟩
  · exact br_f z0 (br_f z0 ⟨rfl, R _ _ _ _ _ _ _ _ _ _ _⟩)
end
section
/-! feedTable: the immediate and the component's walk -/
theorem zb_dg (m j : Nat) : m / 16 ^ j % 16 = m % 16 ^ (j + 1) / 16 ^ j := by rw [Nat.pow_succ, Nat.mod_mul_right_div_self]
def zb_im (N : Nat) (L : Int32) : Int64 := lN (N * 2 ^ 32 + L.toBitVec.toNat % 16 ^ (N + 1))
theorem zb_p8 {N : Nat} (hN : N ≤ 7) : 16 ^ (N + 1) ≤ 2 ^ 32 := Nat.le_trans (Nat.pow_le_pow_right (by decide) (show N + 1 ≤ 8 by omega)) (by decide)
theorem zb_r {N : Nat} {L : Int32} (hN : N ≤ 7) : L.toBitVec.toNat % 16 ^ (N + 1) < 2 ^ 32 := Nat.lt_of_lt_of_le (Nat.mod_lt _ (Nat.pow_pos (by decide))) (zb_p8 hN)
theorem zb_tn {N : Nat} {L : Int32} (hN : N ≤ 7) : (zb_im N L).toBitVec.toNat = N * 2 ^ 32 + L.toBitVec.toNat % 16 ^ (N + 1) := by
  have := zb_r (L := L) hN
  exact wb_tn (by omega)
theorem zb_imn {N : Nat} {L : Int32} (hN : N ≤ 7) : zc_n (zb_im N L) = N := by
  have := zb_r (L := L) hN
  unfold zc_n
  rw [zb_tn hN]; omega
theorem zb_iml {N j : Nat} {L : Int32} (hN : N ≤ 7) (hj : j ≤ N) : zc_lL L j = zc_lb (zb_im N L) j := by
  unfold zc_lL zc_lb
  rw [zb_tn hN, zb_dg, zb_dg]
  have d1 : (16 ^ (j + 1) : Nat) ∣ 16 ^ (N + 1) := Nat.pow_dvd_pow 16 (by omega)
  have d2 : (16 ^ (j + 1) : Nat) ∣ N * 2 ^ 32 := Nat.dvd_trans (Nat.pow_dvd_pow 16 (show j + 1 ≤ 8 by omega)) ⟨N, by rw [Nat.mul_comm]⟩
  obtain ⟨e, he⟩ := d2
  rw [he, Nat.mul_add_mod, Nat.mod_mod_of_dvd _ d1]
theorem zb_L64 (L : Int32) {k : Nat} (hk : k ≤ 32) : L.toInt64 &&& lN (2 ^ k - 1) = lN (L.toBitVec.toNat % 2 ^ k) := by
  obtain ⟨m, hm, e⟩ := wb_of L.toInt64
  rw [e, wb_mask hm (by omega)]
  have e2 : L = nI m := by
    have : L.toInt64.toInt32 = nI m := by rw [e, lN_i]
    rw [← this]; exact (Int32.toInt32_toInt64 L).symm
  have e3 : L.toBitVec.toNat = m % 2 ^ 32 := by rw [e2]; rfl
  rw [e3, Nat.mod_mod_of_dvd _ (Nat.pow_dvd_pow 2 hk)]
theorem zb_core (N : Nat) (L : Int32) (hN : N ≤ 7) : ((nI N).toInt64 <<< ((32 : Int32).toInt64 &&& 63)) + (L.toInt64 &&& (((1 : Int64) <<< ((nI (4 * (N + 1))).toInt64 &&& 63)) - 1)) = zb_im N L := by
  rw [nI_l (by omega), show (32 : Int32) = nI 32 from rfl, wb_shl N (by omega), show (1 : Int64) = lN 1 from rfl, wb_shl 1 (by omega), lN_sub (by rw [Nat.one_mul]; exact Nat.pow_pos (by decide)), Nat.one_mul, zb_L64 L (by omega), lN_add, zb_16]
  rfl
theorem zb_imX (N : Nat) (L : Int32) (hN : N ≤ 7) : ((nI N).toInt64 <<< ((32 : Int32).toInt64 &&& 63)) + (L.toInt64 &&& (((1 : Int64) <<< ((4 * (nI N + 1)).toInt64 &&& 63)) - 1)) = zb_im N L := by
  rw [show 4 * (nI N + 1) = nI (4 * (N + 1)) from by rw [nI_1]; exact pk_mul 4 (N + 1)]
  exact zb_core N L hN
theorem zb_imY (N : Nat) (L : Int32) (hN : N ≤ 7) : ((nI N).toInt64 <<< ((32 : Int32).toInt64 &&& 63)) + (L.toInt64 &&& (((1 : Int64) <<< (((4 * nI N) + 4).toInt64 &&& 63)) - 1)) = zb_im N L := by
  rw [show 4 * nI N + 4 = nI (4 * (N + 1)) from by rw [show (4 : Int32) * nI N = nI (4 * N) from pk_mul 4 N, show (4 : Int32) = nI 4 from rfl, nI_add]; exact congrArg nI (by omega)]
  exact zb_core N L hN
section
variable {fl cl ms fu cnt opn tu oc fc cu pu mk us dep top pc tr : Int32} {lr : Int64} {pa lo tb re sta len ops sT sF sM oT fK fT fH fU fS fC mem aF aA aT : Nat → Int32} {imm arg glo cel loc : Nat → Int64} {c c1 : zc_C} {f n N : Nat} {Lb : Int32} {post : Int32 → SX → Prop} {L : Nat → List Nat}
/-- the links of a table -/
theorem zx_162 {b : Nat} {sT0 sF0 sM0 fC0 : Nat → Int32} {L0 : Nat → List Nat} (hok : zc_ok c) (hf : f < 4) (ho : opn = nI f) (hN : N ≤ 7) (hb : b + 64 + N < 96) (htu : tu = nI b) (hl : ∀ j, j ≤ N → zc_lL Lb j < zc_D c)
    (hfr : ∀ d, d < zc_D c → ∀ s, s ∈ L0 d → s < 64 + b ∨ 64 + b + N < s)
    (hp : ∀ (sT sF sM fC : Nat → Int32) (L' : Nat → List Nat), zw_lks c (64 + b) (N + 1) (fun x => zc_D c - 1 - zc_lL Lb x) (fun s => sT0 (96 * f + s)) fC0 L0 (fun s => sT (96 * f + s)) fC L' →
      zw_fms c (64 + b) (N + 1) (fun x => zc_D c - 1 - zc_lL Lb x) (fun s => sF0 (96 * f + s)) (fun s => sM0 (96 * f + s)) (fun s => sF (96 * f + s)) (fun s => sM (96 * f + s)) →
      (∀ g s, g ≠ f → s < 96 → sT (96 * g + s) = sT0 (96 * g + s) ∧ sF (96 * g + s) = sF0 (96 * g + s) ∧ sM (96 * g + s) = sM0 (96 * g + s)) → post 0 (fl, cl, ms, fu, cnt, opn, nI (b + (N + 1)), nI (zc_S c), nI (zc_D c), cu, pu, mk, lr, us, dep, top, pc, tr, pa, lo, tb, re, sta, len, ops, imm, sT, sF, sM, zc_T c, zc_K c, zc_B c, zc_z (zc_H c), zc_U c, zc_z (zc_A c), fC, arg, glo, mem, aF, aA, aT, cel, loc)) :
    ∀ (m j fuel : Nat) (sT sF sM fC : Nat → Int32) (L' : Nat → List Nat), j + m = N + 1 → m < fuel →
      zw_lks c (64 + b) j (fun x => zc_D c - 1 - zc_lL Lb x) (fun s => sT0 (96 * f + s)) fC0 L0 (fun s => sT (96 * f + s)) fC L' →
      zw_fms c (64 + b) j (fun x => zc_D c - 1 - zc_lL Lb x) (fun s => sF0 (96 * f + s)) (fun s => sM0 (96 * f + s)) (fun s => sF (96 * f + s)) (fun s => sM (96 * f + s)) →
      (∀ g s, g ≠ f → s < 96 → sT (96 * g + s) = sT0 (96 * g + s) ∧ sF (96 * g + s) = sF0 (96 * g + s) ∧ sM (96 * g + s) = sM0 (96 * g + s)) →
      wX_feedTable_162 post (nI N) Lb fuel (nI j) fl cl ms fu cnt opn tu (nI (zc_S c)) (nI (zc_D c)) cu pu mk lr us dep top pc tr pa lo tb re sta len ops imm sT sF sM (zc_T c) (zc_K c) (zc_B c) (zc_z (zc_H c)) (zc_U c) (zc_z (zc_A c)) fC arg glo mem aF aA aT cel loc
  | 0, j, fuel + 1, sT, sF, sM, fC, L', hj, _, K, F, hs => by
    have e : j = N + 1 := by omega
    subst e
    refine pk_lt N (N + 1) (fun _ => nm_r (e' := nI (b + (N + 1))) (by rw [htu, nI_1, nI_add]) (hp sT sF sM fC L' K F hs)) (fun _ => by omega)
  | m + 1, j, fuel + 1, sT, sF, sM, fC, L', hj, hfu, K, F, hs => by
    have hD8 := hok.2.1
    have hlj := hl j (by omega)
    refine pk_lt N j (fun _ => by omega) (fun _ => nm_r (e' := nI (zc_lL Lb j)) (zb_lL Lb (by omega)) ?_)
    have es : 64 + tu + nI j = nI (64 + b + j) := by rw [htu, show (64 : Int32) + nI b = nI (64 + b) from nI_add 64 b, nI_add]
    rw [es]
    refine zx_lbr hok hf ho (by omega) hlj (nm_r (nI_1 j) ?_)
    have K' := zw_lks1 K (by show zc_D c - 1 - zc_lL Lb j < _; omega) (fun d hd s hs => by have := hfr d hd s hs; omega)
    have F' := zw_fms1 F
    refine zx_162 hok hf ho hN hb htu hl hfr hp m (j + 1) fuel _ _ _ _ (zw_lL c (zc_D c - 1 - zc_lL Lb j) (64 + b + j) L') (by omega) (by omega) ?_ ?_ (fun g s hg hs' => ?_)
    · rw [zr_sh]; exact K'
    · rw [zr_sh, zr_sh]; exact F'
    · obtain ⟨a1, a2, a3⟩ := hs g s hg hs'
      rw [zr_s1 (by omega) hg hs', zr_s1 (by omega) hg hs', zr_s1 (by omega) hg hs']
      exact ⟨a1, a2, a3⟩
theorem zx_56 (hok : zc_ok c) (hN : N ≤ 7)
    (hbad : (∃ j, j ≤ N ∧ zc_D c ≤ zc_lL Lb j) → post (-4) (fl, cl, ms, fu, cnt, opn, tu, nI (zc_S c), nI (zc_D c), cu, pu, mk, lr, us, dep, top, pc, tr, pa, lo, tb, re, sta, len, ops, imm, sT, sF, sM, zc_T c, zc_K c, zc_B c, zc_z (zc_H c), zc_U c, zc_z (zc_A c), fC, arg, glo, mem, aF, aA, aT, cel, loc))
    (hgood : (∀ j, j ≤ N → zc_lL Lb j < zc_D c) → ∀ fuel, wX_feedTable_56 post (nI N) Lb fl cl ms fu cnt opn tu (nI (zc_S c)) (nI (zc_D c)) cu pu mk lr us dep top pc tr pa lo tb re sta len ops imm sT sF sM (zc_T c) (zc_K c) (zc_B c) (zc_z (zc_H c)) (zc_U c) (zc_z (zc_A c)) fC arg glo mem aF aA aT cel loc (fuel + 1) (nI (N + 1))) :
    ∀ (m j fuel : Nat), j + m = N + 1 → m < fuel → (∀ x, x < j → zc_lL Lb x < zc_D c) → wX_feedTable_56 post (nI N) Lb fl cl ms fu cnt opn tu (nI (zc_S c)) (nI (zc_D c)) cu pu mk lr us dep top pc tr pa lo tb re sta len ops imm sT sF sM (zc_T c) (zc_K c) (zc_B c) (zc_z (zc_H c)) (zc_U c) (zc_z (zc_A c)) fC arg glo mem aF aA aT cel loc fuel (nI j)
  | 0, j, fuel + 1, hj, _, h => by
    have e : j = N + 1 := by omega
    subst e
    exact hgood (fun x hx => h x (by omega)) fuel
  | m + 1, j, fuel + 1, hj, hfu, h => by
    have hD8 := hok.2.1
    have l16 : zc_lL Lb j < 16 := Nat.mod_lt _ (by decide)
    refine pk_lt N j (fun _ => by omega) (fun _ => ?_)
    rw [zb_lL Lb (by omega)]
    refine pk_lt (zc_lL Lb j) (zc_D c) (fun w => nm_r (nI_1 j) (zx_56 hok hN hbad hgood m (j + 1) fuel (by omega) (by omega) (fun x hx => ?_))) (fun w => hbad ⟨j, by omega, w⟩)
    by_cases z : x = j
    · rw [z]; exact w
    · exact h x (by omega)
/-- from the labels' check to the end -/
theorem zx_tab1 {b : Nat} {fuel : Nat} (hok : zc_ok c) (hf : f < 4) (ho : opn = nI f) (hN : N ≤ 7) (hn : n < 64) (hl : len f = nI n) (hb : b + N < 32) (htu : tu = nI b) (hlab : ∀ j, j ≤ N → zc_lL Lb j < zc_D c)
    (hch : ∀ d, d < zc_D c → zw_lk (fun s => sT (96 * f + s)) (fC d) (L d) ∧ (L d).Nodup ∧ ∀ s, s ∈ L d → s < n ∨ (64 ≤ s ∧ s < 64 + b))
    (hE : (zc_plan pa tb re f c (zb_im N Lb) 8).1 ≠ 0 → ∀ x y z, post (zc_plan pa tb re f c (zb_im N Lb) 8).1 (fl, cl, ms, fu, cnt, opn, tu, nI (zc_S c), nI (zc_D c), x, y, z, lr, us, dep, top, pc, tr, pa, lo, tb, re, sta, len, ops, imm, sT, sF, sM, zc_T c, zc_K c, zc_B c, zc_z (zc_H c), zc_U c, zc_z (zc_A c), fC, arg, glo, mem, aF, aA, aT, cel, loc))
    (hO : (zc_plan pa tb re f c (zb_im N Lb) 8).1 = 0 → ∀ (c1 : zc_C), c1 = zc_set c (zc_plan pa tb re f c (zb_im N Lb) 8).2.1 0 1 → ∀ (sT' sF' sM' fC' : Nat → Int32) (L' : Nat → List Nat),
      zw_lks c (64 + b) (N + 1) (fun x => zc_D c - 1 - zc_lL Lb x) (upd (fun s => sT (96 * f + s)) n (nI b)) fC L (fun s => sT' (96 * f + s)) fC' L' →
      zw_fms c (64 + b) (N + 1) (fun x => zc_D c - 1 - zc_lL Lb x) (fun s => sF (96 * f + s)) (fun s => sM (96 * f + s)) (fun s => sF' (96 * f + s)) (fun s => sM' (96 * f + s)) →
      (∀ g s, g ≠ f → s < 96 → sT' (96 * g + s) = sT (96 * g + s) ∧ sF' (96 * g + s) = sF (96 * g + s) ∧ sM' (96 * g + s) = sM (96 * g + s)) →
      ∀ cu' pu' mk', post 0 (fl, cl, ms, fu, cnt, opn, nI (b + (N + 1)), nI (zc_S c1), nI (zc_D c1), cu', pu', mk', lr, us, dep, top, pc, tr, pa, lo, tb, re, sta, upd len f (nI (n + 1)), upd ops (64 * f + n) (nI 8), vp_updL imm (64 * f + n) (zb_im N Lb), sT', sF', sM', zc_T c1, zc_K c1, zc_B c1, zc_z (zc_H c1), zc_U c1, zc_z (zc_A c1), fC', arg, glo, mem, aF, aA, aT, cel, loc)) :
    wX_feedTable_56 post (nI N) Lb fl cl ms fu cnt opn tu (nI (zc_S c)) (nI (zc_D c)) cu pu mk lr us dep top pc tr pa lo tb re sta len ops imm sT sF sM (zc_T c) (zc_K c) (zc_B c) (zc_z (zc_H c)) (zc_U c) (zc_z (zc_A c)) fC arg glo mem aF aA aT cel loc (fuel + 1) (nI (N + 1)) := by
  have hq1 := zp_cur (pa := pa) (tb := tb) (re := re) (f := f) (im := zb_im N Lb) hok.2.2.2.2.2.1 8
  refine pk_lt N (N + 1) (fun _ => ?_) (fun _ => by omega)
  refine zx_tab (pa := pa) (tb := tb) (re := re) (f := f) (im := zb_im N Lb) hok (zb_imn hN) hN (fun j hj => zb_iml hN hj) (fun j hj => by rw [← zb_iml hN hj]; exact hlab j hj) (fun e x y z => br_f e (hE e x y z)) (fun e => br_t rfl ?_)
  refine nm_e (nm_r (e' := zb_im N Lb) (zb_imX N Lb hN) ?_)
  refine zx_append (f := f) (n := n) hf hn ho hl (zx_settle (c1 := zc_set c (zc_plan pa tb re f c (zb_im N Lb) 8).2.1 0 1) hok (fun z => absurd (show (1 : Int32) = 0 from z) (by decide)) rfl ?_)
  obtain ⟨ea, hin4, ec4⟩ := zx_sa (f := f) (s := n) hf (by omega)
  have ea' : opn * 96 + nI n = nI (96 * f + n) := by rw [ho]; exact ea
  refine ⟨by rw [ea']; exact hin4, nm_r (e' := upd sT (96 * f + n) (nI b)) (by rw [ea', ec4, htu]) ⟨N + 2, ?_⟩⟩
  have hs1 : zc_ok (zc_set c (zc_plan pa tb re f c (zb_im N Lb) 8).2.1 0 1) := zq_set hok hq1.1 hq1.2 (Or.inr rfl) (Or.inl (Or.inl rfl)) (fun z => absurd z (by decide))
  have hh : ∀ {j st fC0 L0 st' fC' L'}, zw_lks (zc_set c (zc_plan pa tb re f c (zb_im N Lb) 8).2.1 0 1) (64 + b) j (fun x => zc_D (zc_set c (zc_plan pa tb re f c (zb_im N Lb) 8).2.1 0 1) - 1 - zc_lL Lb x) st fC0 L0 st' fC' L' → zw_lks c (64 + b) j (fun x => zc_D c - 1 - zc_lL Lb x) st fC0 L0 st' fC' L' := fun h => by
    unfold zw_lks at h ⊢
    rw [zs_D, zs_K, zs_A] at h
    exact h
  have hf2 : ∀ {j sf sm sf' sm'}, zw_fms (zc_set c (zc_plan pa tb re f c (zb_im N Lb) 8).2.1 0 1) (64 + b) j (fun x => zc_D (zc_set c (zc_plan pa tb re f c (zb_im N Lb) 8).2.1 0 1) - 1 - zc_lL Lb x) sf sm sf' sm' → zw_fms c (64 + b) j (fun x => zc_D c - 1 - zc_lL Lb x) sf sm sf' sm' := fun h => by
    unfold zw_fms zw_fm zw_f0 zw_ld at h ⊢
    rw [zs_D, zs_K, zs_H, zs_B] at h
    exact h
  have hne : ∀ d, d < zc_D c → ∀ s, s ∈ L d → s ≠ n := fun d hd s hs => by
    have := (hch d hd).2.2 s hs; omega
  refine zx_162 (b := b) (sT0 := upd sT (96 * f + n) (nI b)) (sF0 := sF) (sM0 := sM) (fC0 := fC) (L0 := L) hs1 hf ho hN (by omega) htu (fun j hj => by rw [zs_D]; exact hlab j hj) (fun d hd s hs => ?_) (fun sT' sF' sM' fC' L' K F hs => ?_) (N + 1) 0 (N + 2) _ _ _ _ L (by omega) (by omega) ?_ ?_ (fun _ _ _ _ => ⟨rfl, rfl, rfl⟩)
  · rw [zs_D] at hd
    have := (hch d hd).2.2 s hs; omega
  · refine hO e _ rfl sT' sF' sM' fC' L' (by rw [← zr_sh]; exact hh K) (hf2 F) (fun g s hg hs' => ?_) _ _ _
    obtain ⟨a1, a2, a3⟩ := hs g s hg hs'
    rw [a1, zr_s1 (by omega) hg hs']
    exact ⟨rfl, a2, a3⟩
  · refine zw_lks0 (fun d hd => ?_)
    rw [zs_D] at hd
    obtain ⟨k1, k2, k3⟩ := hch d hd
    refine ⟨?_, k2⟩
    rw [zr_sh]
    exact zw_lkc (fun s hs => pk_un (hne d hd s hs)) k1
  · exact ⟨fun _ _ => ⟨rfl, rfl⟩, fun x hx => by omega⟩
end
end
section
/-! feedTable -/
theorem zw_lksc {c : zc_C} {b j : Nat} {dx dx' : Nat → Nat} {st fC st' fC' : Nat → Int32} {L L' : Nat → List Nat} (h : ∀ x, x < j → dx' x = dx x) (K : zw_lks c b j dx st fC L st' fC' L') : zw_lks c b j dx' st fC L st' fC' L' := by
  obtain ⟨k1, k2, k3⟩ := K
  refine ⟨k1, fun d hd => ?_, fun x hx => by rw [h x hx]; exact k3 x hx⟩
  obtain ⟨a1, a2, a3, a4⟩ := k2 d hd
  refine ⟨a1, a2, a3, fun s hs => ?_⟩
  rcases a4 s hs with w | ⟨x, w1, w2, w3, w4⟩
  · exact Or.inl w
  · exact Or.inr ⟨x, w1, w2, by rw [h x w1]; exact w3, w4⟩
theorem zw_fmsc {c : zc_C} {b j : Nat} {dx dx' : Nat → Nat} {sf sm sf' sm' : Nat → Int32} (h : ∀ x, x < j → dx' x = dx x) (F : zw_fms c b j dx sf sm sf' sm') : zw_fms c b j dx' sf sm sf' sm' :=
  ⟨F.1, fun x hx => by rw [h x hx]; exact F.2 x hx⟩
theorem zb_him {nc N : Nat} {c : zc_C} {Lb : Int32} (hN : N ≤ 7) (hl : ∀ j, j ≤ N → zc_lL Lb j < zc_D c) : zc_im nc c 8 (zb_im N Lb) := by
  refine ⟨fun z => by omega, fun z => by omega, fun z => by omega, fun z => by omega, fun z => by omega, fun z => by omega, fun _ => ⟨by rw [zb_imn hN]; exact hN, fun j hj => ?_⟩, fun z => by omega⟩
  rw [zb_imn hN] at hj
  rw [← zb_iml hN hj]; exact hl j hj
section
variable {fl cl ms fu cnt opn er sz dp dep ytr nx us tk : Int32} {lr : Int64} {pa lo tb re sta len ops ty kd bk hh dd aF aP aZ aL lP lF vt byt : Nat → Int32} {imm val loc glo arg : Nat → Int64} {c : zc_C} {f n N nc ncl : Nat} {Lb : Int32} {post : Int32 → SY → Prop}
theorem zy_53 (hf : f < 4) (hn : n ≤ 64) (hN : N ≤ 7) (h32 : zw_sum (fun i => ops (64 * f + i)) (fun i => imm (64 * f + i)) n ≤ 32)
    (hp : ∀ fuel, wY_feedTable_53 post (nI N) Lb (nI (64 * f + n)) fl cl ms fu cnt opn er sz dp dep ytr nx us tk lr pa lo tb re sta len ops ty kd bk hh dd aF aP aZ aL lP lF vt byt imm val loc glo arg (fuel + 1) (nI (N + 1 + zw_sum (fun i => ops (64 * f + i)) (fun i => imm (64 * f + i)) n)) (nI (64 * f + n))) :
    ∀ (m i fuel : Nat), i + m = n → m < fuel → wY_feedTable_53 post (nI N) Lb (nI (64 * f + n)) fl cl ms fu cnt opn er sz dp dep ytr nx us tk lr pa lo tb re sta len ops ty kd bk hh dd aF aP aZ aL lP lF vt byt imm val loc glo arg fuel (nI (N + 1 + zw_sum (fun i => ops (64 * f + i)) (fun i => imm (64 * f + i)) i)) (nI (64 * f + i))
  | 0, i, fuel + 1, hi, _ => by
    have e : i = n := by omega
    subst e
    exact hp fuel
  | m + 1, i, fuel + 1, hi, hfu => by
    have IH := zy_53 hf hn hN h32 hp m (i + 1) fuel (by omega) (by omega)
    have hin : vp_in (nI (64 * f + i)) 256 := vp_in_nI (by omega) (by decide)
    have ec : (nI (64 * f + i)).toNatClampNeg = 64 * f + i := nI_clamp (by omega)
    have eS : zw_sum (fun i => ops (64 * f + i)) (fun i => imm (64 * f + i)) (i + 1) = zw_sum (fun i => ops (64 * f + i)) (fun i => imm (64 * f + i)) i + (if ops (64 * f + i) = 8 then zc_n (imm (64 * f + i)) + 1 else 0) := rfl
    rw [eS] at IH
    refine pk_le (64 * f + n) (64 * f + i) (fun _ => by omega) (fun _ => ⟨hin, ?_⟩)
    rw [ec]
    by_cases z : ops (64 * f + i) = 8
    · rw [if_pos z] at IH
      refine br_t z ⟨hin, nm_r (e' := nI (N + 1 + (zw_sum (fun i => ops (64 * f + i)) (fun i => imm (64 * f + i)) i + (zc_n (imm (64 * f + i)) + 1)))) ?_ (nm_r (nI_1 (64 * f + i)) IH)⟩
      have en := zb_n (imm (64 * f + i))
      unfold zy_n at en
      rw [en, nI_1, nI_add]
      exact congrArg nI (by omega)
    · rw [if_neg z] at IH
      exact br_f z (nm_r (nI_1 (64 * f + i)) IH)
theorem zy_126 (hD8 : zc_D c ≤ 8) (hN : N ≤ 7)
    (hbad : (∃ j, j ≤ N ∧ zc_D c ≤ zc_lL Lb j) → post (-4) (fl, cl, ms, fu, cnt, opn, er, sz, nI (zc_D c), dep, ytr, nx, us, tk, lr, pa, lo, tb, re, sta, len, ops, ty, kd, bk, hh, dd, aF, aP, aZ, aL, lP, lF, vt, byt, imm, val, loc, glo, arg))
    (hgood : (∀ j, j ≤ N → zc_lL Lb j < zc_D c) → wpY_add post (fl, cl, ms, fu, cnt, opn, er, sz, nI (zc_D c), dep, ytr, nx, us, tk, lr, pa, lo, tb, re, sta, len, ops, ty, kd, bk, hh, dd, aF, aP, aZ, aL, lP, lF, vt, byt, imm, val, loc, glo, arg) 8 (zb_im N Lb)) :
    ∀ (m j fuel : Nat), j + m = N + 1 → m < fuel → (∀ x, x < j → zc_lL Lb x < zc_D c) → wY_feedTable_126 post (nI N) Lb fl cl ms fu cnt opn er sz (nI (zc_D c)) dep ytr nx us tk lr pa lo tb re sta len ops ty kd bk hh dd aF aP aZ aL lP lF vt byt imm val loc glo arg fuel (nI j)
  | 0, j, fuel + 1, hj, _, h => by
    have e : j = N + 1 := by omega
    subst e
    have q := hgood (fun x hx => h x (by omega))
    refine pk_lt N (N + 1) (fun _ => ?_) (fun _ => by omega)
    rw [zb_imY N Lb hN]
    exact q
  | m + 1, j, fuel + 1, hj, hfu, h => by
    have l16 : zc_lL Lb j < 16 := Nat.mod_lt _ (by decide)
    refine pk_lt N j (fun _ => by omega) (fun _ => ?_)
    rw [zb_lL Lb (by omega)]
    refine pk_lt (zc_lL Lb j) (zc_D c) (fun w => nm_r (nI_1 j) (zy_126 hD8 hN hbad hgood m (j + 1) fuel (by omega) (by omega) (fun x hx => ?_))) (fun w => hbad ⟨j, by omega, w⟩)
    by_cases z : x = j
    · rw [z]; exact w
    · exact h x (by omega)
theorem zy_ftab {T : Nat → zc_C} (hok : zc_ok (T n)) (hsg : zc_sg pa lo re nc) (hf : f < nc) (hN : N ≤ 7) (ho : opn = nI f) (hl : len f = nI n) (hcl : cl = nI ncl) (hn : n ≤ ncl) (h64 : ncl ≤ 64)
    (HF : zt_F pa tb re nc f (fun i => ops (64 * f + i)) (fun i => imm (64 * f + i)) T n) (h32 : zw_sum (fun i => ops (64 * f + i)) (fun i => imm (64 * f + i)) n ≤ 32)
    (hfull : (ncl ≤ n ∨ 32 < zw_sum (fun i => ops (64 * f + i)) (fun i => imm (64 * f + i)) n + N + 1) → post (-2) (fl, cl, ms, fu, cnt, opn, er, sz, dp, dep, ytr, nx, us, tk, lr, pa, lo, tb, re, sta, len, ops, ty, kd, bk, hh, dd, aF, aP, aZ, aL, lP, lF, vt, byt, imm, val, loc, glo, arg))
    (hbad : n < ncl → zw_sum (fun i => ops (64 * f + i)) (fun i => imm (64 * f + i)) n + N + 1 ≤ 32 → (∃ j, j ≤ N ∧ zc_D (T n) ≤ zc_lL Lb j) → ∀ (er sz dp : Int32) (ty kd bk hh dd : Nat → Int32), post (-4) (fl, cl, ms, fu, cnt, opn, er, sz, dp, dep, ytr, nx, us, tk, lr, pa, lo, tb, re, sta, len, ops, ty, kd, bk, hh, dd, aF, aP, aZ, aL, lP, lF, vt, byt, imm, val, loc, glo, arg))
    (hE : n < ncl → zw_sum (fun i => ops (64 * f + i)) (fun i => imm (64 * f + i)) n + N + 1 ≤ 32 → (∀ j, j ≤ N → zc_lL Lb j < zc_D (T n)) → ∀ r, r ≠ 0 → r = zc_rc (zc_plan pa tb re f (T n) (zb_im N Lb) 8) (T n) 8 → ∀ (er sz dp : Int32) (ty kd bk hh dd : Nat → Int32), post r (fl, cl, ms, fu, cnt, opn, er, sz, dp, dep, ytr, nx, us, tk, lr, pa, lo, tb, re, sta, len, ops, ty, kd, bk, hh, dd, aF, aP, aZ, aL, lP, lF, vt, byt, imm, val, loc, glo, arg))
    (hO : n < ncl → zw_sum (fun i => ops (64 * f + i)) (fun i => imm (64 * f + i)) n + N + 1 ≤ 32 → (∀ j, j ≤ N → zc_lL Lb j < zc_D (T n)) → zc_rc (zc_plan pa tb re f (T n) (zb_im N Lb) 8) (T n) 8 = 0 → ∀ (er sz dp : Int32) (ty kd bk hh dd : Nat → Int32),
      post 0 (fl, cl, ms, fu, cnt, opn, er, sz, dp, dep, ytr, nx, us, tk, lr, pa, lo, tb, re, sta, upd len f (nI (n + 1)), upd ops (64 * f + n) (nI 8), ty, kd, bk, hh, dd, aF, aP, aZ, aL, lP, lF, vt, byt, vp_updL imm (64 * f + n) (zb_im N Lb), val, loc, glo, arg)) : wpY_feedTable post (fl, cl, ms, fu, cnt, opn, er, sz, dp, dep, ytr, nx, us, tk, lr, pa, lo, tb, re, sta, len, ops, ty, kd, bk, hh, dd, aF, aP, aZ, aL, lP, lF, vt, byt, imm, val, loc, glo, arg) (nI N) Lb := by
  have h4 := hsg.1
  have hD1 := hok.1
  have hin : vp_in (nI f) 4 := vp_in_nI (by omega) (by decide)
  have ec : (nI f).toNatClampNeg = f := nI_clamp (by omega)
  have e64 : 64 * opn = nI (64 * f) := by rw [ho]; exact pk_mul 64 f
  refine br_t (by rw [ho]; exact nI_pos' (by omega)) (br_f (nI_pos (by omega)) (pk_le N 7 (fun _ => ?_) (fun _ => by omega)))
  refine nm_r (nI_1 N) (nm_r e64 ⟨by rw [ho]; exact hin, nm_r (e' := nI (64 * f + n)) (by rw [ho, ec, hl, nI_add]) ⟨n + 1, ?_⟩⟩)
  refine zy_53 (by omega) (by omega) hN h32 (fun fuel => ?_) n 0 (n + 1) (by omega) (by omega)
  refine pk_le (64 * f + n) (64 * f + n) (fun _ => ⟨by rw [ho]; exact hin, ?_⟩) (fun _ => by omega)
  have el : len opn.toNatClampNeg = nI n := by rw [ho, ec, hl]
  rw [el, hcl]
  refine pk_le ncl n (fun w => by rw [← hcl]; exact hfull (Or.inl w)) (fun w => pk_le (N + 1 + zw_sum (fun i => ops (64 * f + i)) (fun i => imm (64 * f + i)) n) 32 (fun w2 => ?_) (fun w2 => by rw [← hcl]; exact hfull (Or.inr (by omega))))
  rw [← hcl]
  refine zy_replay hsg hf (by omega) hl ho HF (fun er ty kd bk hh dd hA => ⟨N + 2, ?_⟩)
  refine zy_126 hok.2.1 hN (fun z => hbad w (by omega) z _ _ _ _ _ _ _ _) (fun z => ?_) (N + 1) 0 (N + 2) (by omega) (by omega) (fun x hx => by omega)
  refine zy_add (k := 8) hok hA hsg hf (by omega) (zb_him hN z) ho hl (by omega) (fun r hr e er sz dp ty kd bk hh dd => hE w (by omega) z r hr e er sz dp ty kd bk hh dd) (fun e er sz dp ty kd bk hh dd => ⟨fun y => ?_, fun _ => hO w (by omega) z e er sz dp ty kd bk hh dd⟩)
  unfold zc_nxt zc_ctl at y
  rw [if_neg (by omega), if_neg (by omega), if_neg (by omega), zs_D] at y
  omega
end
theorem i_vc_feedTable {k : Nat} {u : SX} {v : SY} (I : i_Rel k u v) (hk : k + 5 ≤ 2564) (v1 : Int32) (v2 : Int32) : wpX_feedTable (fun r u' => wpY_feedTable (fun r' v' => r' = r ∧ i_Rel (k + 5) u' v') v v1 v2) u v1 v2 := by
  refine zz_el (P := fun u v => wpX_feedTable (fun r u' => wpY_feedTable (fun r' v' => r' = r ∧ i_Rel (k + 5) u' v') v v1 v2) u v1 v2) ?_ I
  intro fl cl ms fu cnt opn tu oc fc cu pu mk us dep top pc tr er sz dp ytr nx tk lr pa lo tb re sta len ops sT sF sM oT fK fT fH fU fS fC mem aF aA aT ty kd bk hh dd aP aZ aL lP lF vt byt imm arg glo cel loc val h
  have R : ∀ (cu pu mk er sz dp : Int32) (ty kd bk hh dd : Nat → Int32), i_Rel (k + 5) (fl, cl, ms, fu, cnt, opn, tu, oc, fc, cu, pu, mk, lr, us, dep, top, pc, tr, pa, lo, tb, re, sta, len, ops, imm, sT, sF, sM, oT, fK, fT, fH, fU, fS, fC, arg, glo, mem, aF, aA, aT, cel, loc) (fl, cl, ms, fu, cnt, opn, er, sz, dp, dep, ytr, nx, us, tk, lr, pa, lo, tb, re, sta, len, ops, ty, kd, bk, hh, dd, aF, aP, aZ, aL, lP, lF, vt, byt, imm, val, loc, glo, arg) := fun _ _ _ _ _ _ _ _ _ _ _ => zz_in h
  by_cases z0 : 0 ≤ opn
  · by_cases z1 : v1 < 0
    · exact br_t z0 (br_t z1 (br_t z0 (br_t z1 ⟨rfl, R _ _ _ _ _ _ _ _ _ _ _⟩)))
    by_cases z2 : v1 ≤ 7
    · obtain ⟨N, hN, rfl⟩ := nI_of2 (M := 7) (n := 7) (by decide) z1 z2
      obtain ⟨nc, nl, ncl, nms, nfu, nd, hnm, hdep, hsg, hby, hgl, hfn, hop⟩ := h
      have hnm' := hnm
      obtain ⟨m1, m2, m3, m4, m5, m6, m7⟩ := hnm
      rcases hop with ⟨c1, c2⟩ | ⟨f, c, n, g1, g2, g3, g4, ⟨x1, x2, x3, x4, x5, x6, x7, x8⟩, g6, g7, g8, T, sI, sD, L, g9, g10, g11, g12, g13⟩
      · rw [c1] at z0; exact absurd z0 (by decide)
      have h4 := hsg.1
      have ec : (nI f).toNatClampNeg = f := nI_clamp (by omega)
      have hin : vp_in (nI f) 4 := vp_in_nI (by omega) (by decide)
      have hok : zc_ok (T n) := by rw [g9]; exact g8
      have hD8 := hok.2.1
      have hD1 := hok.1
      subst g9
      subst x1 x2 x3 x4 x5 x6 x7 x8
      have el : len opn.toNatClampNeg = nI n := by rw [g2, ec, g7]
      refine br_t z0 (br_f z1 (br_t z2 ⟨by rw [g2]; exact hin, ?_⟩))
      rw [el, m5]
      have es : tu + nI N + 1 = nI (zw_sum (fun i => ops (64 * f + i)) (fun i => imm (64 * f + i)) n + N + 1) := by rw [g11, nI_add, nI_1]
      rw [es]
      refine pk_le ncl n (fun w => ?_) (fun w => pk_le (zw_sum (fun i => ops (64 * f + i)) (fun i => imm (64 * f + i)) n + N + 1) 32 (fun w2 => ⟨N + 2, ?_⟩) (fun w2 => ?_))
      · rw [← m5]
        exact zy_ftab hok hsg g1 hN g2 g7 m5 g4 m6 g10 g12 (fun _ => ⟨rfl, R _ _ _ _ _ _ _ _ _ _ _⟩) (fun a => by omega) (fun a => by omega) (fun a => by omega)
      · rw [← m5]
        obtain ⟨X1, X2, X3, X4, X5⟩ := g13
        have hch : ∀ d, d < zc_D (T n) → zw_lk (fun s => sT (96 * f + s)) (fC d) (L d) ∧ (L d).Nodup ∧ ∀ s, s ∈ L d → s < n ∨ (64 ≤ s ∧ s < 64 + zw_sum (fun i => ops (64 * f + i)) (fun i => imm (64 * f + i)) n) := fun d hd => by
          obtain ⟨a1, a2, a3⟩ := X3 d hd
          exact ⟨a1, a2, fun s hs => zw_us (by omega) (a3 s hs).1⟩
        refine zx_56 (c := T n) hok hN (fun hb => ?_) (fun hlab fuel => ?_) (N + 1) 0 (N + 2) (by omega) (by omega) (fun x hx => by omega)
        · refine zy_ftab hok hsg g1 hN g2 g7 m5 g4 m6 g10 g12 (fun a => by omega) (fun _ _ _ er sz dp ty kd bk hh dd => ⟨rfl, R _ _ _ _ _ _ _ _ _ _ _⟩) (fun _ _ a => ?_) (fun _ _ a => ?_)
          · obtain ⟨j, hj, hj2⟩ := hb
            have := a j hj; omega
          · obtain ⟨j, hj, hj2⟩ := hb
            have := a j hj; omega
        · have hrc : zc_rc (zc_plan pa tb re f (T n) (zb_im N v2) 8) (T n) 8 = if (zc_plan pa tb re f (T n) (zb_im N v2) 8).1 ≠ 0 then (zc_plan pa tb re f (T n) (zb_im N v2) 8).1 else 0 := by
            rw [zq_rcE (by omega) (by omega) (by omega)]
            by_cases y : (zc_plan pa tb re f (T n) (zb_im N v2) 8).1 ≠ 0
            · rw [if_pos y, if_pos y]
            · rw [if_neg y, if_neg y, if_neg (fun q => absurd (show (1 : Int32) = 0 from q.1) (by decide))]
          have nbad : ¬ ∃ j, j ≤ N ∧ zc_D (T n) ≤ zc_lL v2 j := fun ⟨j, a, b⟩ => by have := hlab j a; omega
          refine zx_tab1 (b := zw_sum (fun i => ops (64 * f + i)) (fun i => imm (64 * f + i)) n) (L := L) hok (by omega) g2 hN (by omega) g7 (by omega) g11 hlab hch (fun e x y z => ?_) (fun e c1 ec1 sT' sF' sM' fC' L' K F hso cu' pu' mk' => ?_)
          · refine zy_ftab hok hsg g1 hN g2 g7 m5 g4 m6 g10 g12 (fun a => by omega) (fun _ _ a => absurd a nbad) (fun _ _ _ r' hr' e' er sz dp ty kd bk hh dd => ⟨?_, R _ _ _ _ _ _ _ _ _ _ _⟩) (fun _ _ _ e' => ?_)
            · rw [e', hrc, if_pos e]
            · rw [hrc, if_pos e] at e'; exact absurd e' e
          · have hr0 : zc_rc (zc_plan pa tb re f (T n) (zb_im N v2) 8) (T n) 8 = 0 := by rw [hrc, if_neg (fun q => q e)]
            refine zy_ftab hok hsg g1 hN g2 g7 m5 g4 m6 g10 g12 (fun a => by omega) (fun _ _ a => absurd a nbad) (fun _ _ _ r' hr' e' => absurd (e'.trans hr0) hr') (fun _ _ _ _ er sz dp ty kd bk hh dd => ⟨rfl, zz_in ?_⟩)
            have him := zb_him (nc := nc) hN hlab
            obtain ⟨T', t1, t2, HF', X', H⟩ := zr_pre h4 g1 g10 ⟨X1, X2, X3, X4, X5⟩ hok (by omega) him hr0
            have HFs := zt_Fs (op := fun i => upd ops (64 * f + n) (nI 8) (64 * f + i)) (im := fun i => vp_updL imm (64 * f + n) (zb_im N v2) (64 * f + i)) HF' H
            have ei : vp_updL imm (64 * f + n) (zb_im N v2) (64 * f + n) = zb_im N v2 := pk_uLs
            have en : zc_n (vp_updL imm (64 * f + n) (zb_im N v2) (64 * f + n)) = N := by rw [ei, zb_imn hN]
            have eSn : zw_sum (fun i => upd ops (64 * f + n) (nI 8) (64 * f + i)) (fun i => vp_updL imm (64 * f + n) (zb_im N v2) (64 * f + i)) n = zw_sum (fun i => ops (64 * f + i)) (fun i => imm (64 * f + i)) n :=
              zw_sumc (n := n) (fun i hi => zr_opn hi) n (Nat.le_refl _)
            have eS : zw_sum (fun i => upd ops (64 * f + n) (nI 8) (64 * f + i)) (fun i => vp_updL imm (64 * f + n) (zb_im N v2) (64 * f + i)) (n + 1) = zw_sum (fun i => ops (64 * f + i)) (fun i => imm (64 * f + i)) n + (N + 1) := by
              show zw_sum _ _ n + (if upd ops (64 * f + n) (nI 8) (64 * f + n) = 8 then zc_n (vp_updL imm (64 * f + n) (zb_im N v2) (64 * f + n)) + 1 else 0) = _
              rw [eSn, en, if_pos (show upd ops (64 * f + n) (nI 8) (64 * f + n) = 8 from pk_us)]
            have edx : ∀ x, x < N + 1 → (fun x => zc_D (T n) - 1 - zc_lb (zb_im N v2) x) x = (fun x => zc_D (T n) - 1 - zc_lL v2 x) x := fun x hx => by
              show zc_D (T n) - 1 - zc_lb (zb_im N v2) x = zc_D (T n) - 1 - zc_lL v2 x
              rw [zb_iml hN (by omega)]
            have hX := zw_table (st' := fun s => sT' (96 * f + s)) (sf' := fun s => sF' (96 * f + s)) (sm' := fun s => sM' (96 * f + s)) (fC' := fC') (L' := L') H (by omega) X' (by
              show ∀ j, j ≤ zc_n (vp_updL imm (64 * f + n) (zb_im N v2) (64 * f + n)) → zc_lb (vp_updL imm (64 * f + n) (zb_im N v2) (64 * f + n)) j < _
              rw [en, ei, t1]
              intro j hj
              rw [← zb_iml hN hj]; exact hlab j hj) (by
              show zw_lks (T' n) (64 + zw_sum (fun i => upd ops (64 * f + n) (nI 8) (64 * f + i)) (fun i => vp_updL imm (64 * f + n) (zb_im N v2) (64 * f + i)) n) (zc_n (vp_updL imm (64 * f + n) (zb_im N v2) (64 * f + n)) + 1) (fun x => zc_D (T' n) - 1 - zc_lb (vp_updL imm (64 * f + n) (zb_im N v2) (64 * f + n)) x) (upd (fun s => sT (96 * f + s)) n (nI (zw_sum (fun i => upd ops (64 * f + n) (nI 8) (64 * f + i)) (fun i => vp_updL imm (64 * f + n) (zb_im N v2) (64 * f + i)) n))) fC L (fun s => sT' (96 * f + s)) fC' L'
              rw [en, ei, t1, eSn]
              exact zw_lksc edx K) (by
              show zw_fms (T' n) (64 + zw_sum (fun i => upd ops (64 * f + n) (nI 8) (64 * f + i)) (fun i => vp_updL imm (64 * f + n) (zb_im N v2) (64 * f + i)) n) (zc_n (vp_updL imm (64 * f + n) (zb_im N v2) (64 * f + n)) + 1) (fun x => zc_D (T' n) - 1 - zc_lb (vp_updL imm (64 * f + n) (zb_im N v2) (64 * f + n)) x) (fun s => sF (96 * f + s)) (fun s => sM (96 * f + s)) (fun s => sF' (96 * f + s)) (fun s => sM' (96 * f + s))
              rw [en, ei, t1, eSn]
              exact zw_fmsc edx F)
            have eN : zc_nxt (zc_plan pa tb re f (T n) (zb_im N v2) 8) (T n) 8 n (zb_im N v2) = c1 := by
              rw [ec1]
              unfold zc_nxt zc_ctl
              rw [if_neg (by omega), if_neg (by omega), if_neg (by omega)]
              rfl
            have okc : zc_ok c1 := by rw [← eN]; exact zq_nxt hok hsg him hr0 (by omega)
            refine ⟨nc, nl, ncl, nms, nfu, nd, hnm', hdep, hsg, hby, hgl, zr_fng hsg g1 (by omega) hfn g3 hso, Or.inr ⟨f, c1, n + 1, g1, g2, g3, by omega, ⟨rfl, rfl, rfl, rfl, rfl, rfl, rfl, rfl⟩, by omega, pk_us, okc, T', _, _, L', by rw [t2, eN], HFs, by rw [eS], by rw [eS]; omega, hX⟩⟩
      · rw [← m5]
        exact zy_ftab hok hsg g1 hN g2 g7 m5 g4 m6 g10 g12 (fun _ => ⟨rfl, R _ _ _ _ _ _ _ _ _ _ _⟩) (fun a b => by omega) (fun a b => by omega) (fun a b => by omega)
    · exact br_t z0 (br_f z1 (br_f z2 (br_t z0 (br_f z1 (br_f z2 ⟨rfl, R _ _ _ _ _ _ _ _ _ _ _⟩)))))
  · exact br_f z0 (br_f z0 ⟨rfl, R _ _ _ _ _ _ _ _ _ _ _⟩)
end
section
/-! the run: stacks, cells, heads of steps -/
def zu_sx (v : Int64) : Prop := v = v.toInt32.toInt64
def zu_cut (t : Int32) (v : Int64) : Int64 := if t = 1 then v.toInt32.toInt64 else v
theorem zu_cut1 {t : Int32} {v : Int64} (h : t = 1 → zu_sx v) : zu_cut t v = v := by
  unfold zu_cut; split
  · rename_i e; exact (h e).symm
  · rfl
section
variable {fl cl ms fu cnt opn tu oc fc cu pu mk us dep top pc tr er sz dp ytr nx tk : Int32} {lr : Int64} {pa lo tb re sta len ops sT sF sM oT fK fT fH fU fS fC mem aF aA aT ty kd bk hh dd aP aZ aL lP lF vt byt : Nat → Int32} {imm arg glo cel loc val : Nat → Int64} {a z f n k p : Nat} {t : Int32} {v im : Int64}
theorem zx_d1 {a : Nat} : nI (a + 1) - 1 = nI a := nI_pred a
theorem zx_d12 {a : Nat} : (nI (a + 1) - 1) * 12 = nI (12 * a) := by
  rw [nI_pred, show nI a * 12 = nI (a * 12) from pk_mul a 12, Nat.mul_comm]
theorem zx_take {post : Int64 → SX → Prop} (ha : a ≤ 7) (hz : 1 ≤ z) (hz2 : z ≤ 12) (hd : dep = nI (a + 1)) (ht : top = nI (12 * a + z)) (hp : post (cel (12 * a + (z - 1))) (fl, cl, ms, fu, cnt, opn, tu, oc, fc, cu, pu, mk, lr, us, dep, nI (12 * a + (z - 1)), pc, tr, pa, lo, tb, re, sta, len, ops, imm, sT, sF, sM, oT, fK, fT, fH, fU, fS, fC, arg, glo, mem, aF, aA, aT, cel, loc)) : wpX_take post (fl, cl, ms, fu, cnt, opn, tu, oc, fc, cu, pu, mk, lr, us, dep, top, pc, tr, pa, lo, tb, re, sta, len, ops, imm, sT, sF, sM, oT, fK, fT, fH, fU, fS, fC, arg, glo, mem, aF, aA, aT, cel, loc) := by
  subst hd ht
  have e : nI (12 * a + z) - 1 = nI (12 * a + (z - 1)) := by
    rw [show nI (12 * a + z) - 1 = nI (12 * a + z - 1) from pk_sub (b := 1) (by omega)]
    exact congrArg nI (by omega)
  refine br_t (by rw [zx_d12]; exact nI_lt (by omega) (by omega)) (nm_r e ⟨vp_in_nI (by omega) (by decide), ?_⟩)
  rw [nI_clamp (by omega)]
  exact hp
theorem zx_put {post : SX → Prop} (ha : a ≤ 7) (hz : z < 12) (hd : dep = nI (a + 1)) (ht : top = nI (12 * a + z)) (hp : post (fl, cl, ms, fu, cnt, opn, tu, oc, fc, cu, pu, mk, lr, us, dep, nI (12 * a + (z + 1)), pc, tr, pa, lo, tb, re, sta, len, ops, imm, sT, sF, sM, oT, fK, fT, fH, fU, fS, fC, arg, glo, mem, aF, aA, aT, vp_updL cel (12 * a + z) v, loc)) : wpX_put post (fl, cl, ms, fu, cnt, opn, tu, oc, fc, cu, pu, mk, lr, us, dep, top, pc, tr, pa, lo, tb, re, sta, len, ops, imm, sT, sF, sM, oT, fK, fT, fH, fU, fS, fC, arg, glo, mem, aF, aA, aT, cel, loc) v := by
  subst hd ht
  have e : nI (a + 1) * 12 = nI (12 * a + 12) := by
    rw [show nI (a + 1) * 12 = nI ((a + 1) * 12) from pk_mul (a + 1) 12]
    exact congrArg nI (by omega)
  refine br_t (by rw [e]; exact nI_lt (by omega) (by omega)) ⟨vp_in_nI (by omega) (by decide), nm_r (e' := vp_updL cel (12 * a + z) v) (by rw [nI_clamp (by omega)]) (nm_r (e' := nI (12 * a + (z + 1))) (by rw [nI_1]; exact congrArg nI (by omega)) hp)⟩
theorem zy_take {post : Int64 → SY → Prop} (ha : a ≤ 7) (hz : 1 ≤ z) (hz2 : z ≤ 12) (hd : dep = nI (a + 1)) (hy : ytr = 0) (hA : aZ a = nI z) (h0 : t ≠ 0) (hv : t = 4 ∨ vt (16 * a + (z - 1)) = t)
    (hp : post (val (16 * a + (z - 1))) (fl, cl, ms, fu, cnt, opn, er, sz, dp, dep, ytr, nx, us, vt (16 * a + (z - 1)), lr, pa, lo, tb, re, sta, len, ops, ty, kd, bk, hh, dd, aF, aP, upd aZ a (nI (z - 1)), aL, lP, lF, vt, byt, imm, val, loc, glo, arg)) : wpY_take post (fl, cl, ms, fu, cnt, opn, er, sz, dp, dep, ytr, nx, us, tk, lr, pa, lo, tb, re, sta, len, ops, ty, kd, bk, hh, dd, aF, aP, aZ, aL, lP, lF, vt, byt, imm, val, loc, glo, arg) t := by
  subst hd hy
  have hin : vp_in (nI a) 8 := vp_in_nI (by omega) (by decide)
  have ec : (nI a).toNatClampNeg = a := nI_clamp (by omega)
  have e3 : 16 * nI a + aZ (nI a).toNatClampNeg - 1 = nI (16 * a + (z - 1)) := by
    rw [ec, hA, show (16 : Int32) * nI a = nI (16 * a) from pk_mul 16 a, nI_add, show nI (16 * a + z) - 1 = nI (16 * a + z - 1) from pk_sub (b := 1) (by omega)]
    exact congrArg nI (by omega)
  have hin3 : vp_in (nI (16 * a + (z - 1))) 128 := vp_in_nI (by omega) (by decide)
  have ec3 : (nI (16 * a + (z - 1))).toNatClampNeg = 16 * a + (z - 1) := nI_clamp (by omega)
  have e1 : nI z - 1 = nI (z - 1) := pk_sub (b := 1) hz
  have A : wY_take_67 post (nI a) (nI (16 * a + (z - 1))) fl cl ms fu cnt opn er sz dp (nI (a + 1)) 0 nx us tk lr pa lo tb re sta len ops ty kd bk hh dd aF aP aZ aL lP lF vt byt imm val loc glo arg := by
    refine ⟨hin, hin, nm_r (e' := upd aZ a (nI (z - 1))) (by rw [ec, hA, e1]) ⟨hin3, nm_r (e' := vt (16 * a + (z - 1))) (by rw [ec3]) ⟨hin3, ?_⟩⟩⟩
    rw [ec3]
    exact hp
  refine br_f h0 (br_t rfl (nm_r zx_d1 ⟨hin, nm_r e3 ⟨hin, ?_⟩⟩))
  rw [ec, hA]
  refine br_f (nI_nlt (b := 1) hz (by omega)) ?_
  by_cases h4 : t = 4
  · exact br_t h4 A
  · refine br_f h4 ⟨hin3, ?_⟩
    rw [ec3]
    exact br_t (hv.resolve_left h4) A
theorem zy_take0 {post : Int64 → SY → Prop} (h0 : t = 0) (hp : post 0 (fl, cl, ms, fu, cnt, opn, er, sz, dp, dep, ytr, nx, us, tk, lr, pa, lo, tb, re, sta, len, ops, ty, kd, bk, hh, dd, aF, aP, aZ, aL, lP, lF, vt, byt, imm, val, loc, glo, arg)) : wpY_take post (fl, cl, ms, fu, cnt, opn, er, sz, dp, dep, ytr, nx, us, tk, lr, pa, lo, tb, re, sta, len, ops, ty, kd, bk, hh, dd, aF, aP, aZ, aL, lP, lF, vt, byt, imm, val, loc, glo, arg) t := br_t h0 hp
theorem zy_put {post : SY → Prop} (ha : a ≤ 7) (hz : z < 12) (hd : dep = nI (a + 1)) (hy : ytr = 0) (hA : aZ a = nI z) (h0 : t ≠ 0)
    (hp : post (fl, cl, ms, fu, cnt, opn, er, sz, dp, dep, ytr, nx, us, tk, lr, pa, lo, tb, re, sta, len, ops, ty, kd, bk, hh, dd, aF, aP, upd aZ a (nI (z + 1)), aL, lP, lF, upd vt (16 * a + z) t, byt, imm, vp_updL val (16 * a + z) (zu_cut t v), loc, glo, arg)) : wpY_put post (fl, cl, ms, fu, cnt, opn, er, sz, dp, dep, ytr, nx, us, tk, lr, pa, lo, tb, re, sta, len, ops, ty, kd, bk, hh, dd, aF, aP, aZ, aL, lP, lF, vt, byt, imm, val, loc, glo, arg) t v := by
  subst hd hy
  have hin : vp_in (nI a) 8 := vp_in_nI (by omega) (by decide)
  have ec : (nI a).toNatClampNeg = a := nI_clamp (by omega)
  have e3 : 16 * nI a + aZ (nI a).toNatClampNeg = nI (16 * a + z) := by
    rw [ec, hA, show (16 : Int32) * nI a = nI (16 * a) from pk_mul 16 a, nI_add]
  have hin3 : vp_in (nI (16 * a + z)) 128 := vp_in_nI (by omega) (by decide)
  have ec3 : (nI (16 * a + z)).toNatClampNeg = 16 * a + z := nI_clamp (by omega)
  refine br_f h0 (br_t rfl (nm_r zx_d1 ⟨hin, nm_r e3 ⟨hin, ?_⟩⟩))
  rw [ec, hA]
  refine br_t (nI_lt (b := 12) hz (by decide)) ⟨hin3, nm_r (e' := upd vt (16 * a + z) t) (by rw [ec3]) ?_⟩
  have A : ∀ v', zu_cut t v = v' → wY_put_82 post (nI a) v' (nI (16 * a + z)) fl cl ms fu cnt opn er sz dp (nI (a + 1)) 0 nx us tk lr pa lo tb re sta len ops ty kd bk hh dd aF aP aZ aL lP lF (upd vt (16 * a + z) t) byt imm val loc glo arg := by
    intro v' e
    subst e
    exact ⟨hin3, nm_r (e' := vp_updL val (16 * a + z) (zu_cut t v)) (by rw [ec3]) ⟨hin, hin, nm_r (e' := upd aZ a (nI (z + 1))) (by rw [ec, hA, nI_1]) hp⟩⟩
  by_cases h1 : t = 1
  · exact br_t h1 (A _ (if_pos h1))
  · exact br_f h1 (A _ (if_neg h1))
theorem zy_put0 {post : SY → Prop} (h0 : t = 0) (hp : post (fl, cl, ms, fu, cnt, opn, er, sz, dp, dep, ytr, nx, us, tk, lr, pa, lo, tb, re, sta, len, ops, ty, kd, bk, hh, dd, aF, aP, aZ, aL, lP, lF, vt, byt, imm, val, loc, glo, arg)) : wpY_put post (fl, cl, ms, fu, cnt, opn, er, sz, dp, dep, ytr, nx, us, tk, lr, pa, lo, tb, re, sta, len, ops, ty, kd, bk, hh, dd, aF, aP, aZ, aL, lP, lF, vt, byt, imm, val, loc, glo, arg) t v := br_t h0 hp
/-- the head of a step: the component -/
theorem zx_hd {post : SX → Prop} (ha : a ≤ 7) (hd : dep = nI (a + 1)) (hpc : pc = nI p) (hf : f < 4) (hF : aF a = nI f) (hl : len f = nI n) (hn : n ≤ 64) (hpn : p < n) (hk : k < 42) (ho : ops (64 * f + p) = nI k) (hi : imm (64 * f + p) = im)
    (h1 : k ≤ 10 → wpX_runControl (fun u => match u with | (fl, cl, ms, fu, cnt, opn, tu, oc, fc, cu, pu, mk, lr, us, dep, top, pc, tr, pa, lo, tb, re, sta, len, ops, imm, sT, sF, sM, oT, fK, fT, fH, fU, fS, fC, arg, glo, mem, aF, aA, aT, cel, loc) => post (fl, cl, ms, fu, cnt, opn, tu, oc, fc, cu, pu, mk, lr, us, dep, top, pc, tr, pa, lo, tb, re, sta, len, ops, imm, sT, sF, sM, oT, fK, fT, fH, fU, fS, fC, arg, glo, mem, aF, aA, aT, cel, loc)) (fl, cl, ms, fu, cnt, opn, tu, oc, fc, cu, pu, mk, lr, us, dep, top, nI (p + 1), tr, pa, lo, tb, re, sta, len, ops, imm, sT, sF, sM, oT, fK, fT, fH, fU, fS, fC, arg, glo, mem, aF, upd aA a (nI p), aT, cel, loc) (nI f) (nI p) (nI k) im)
    (h2 : 11 ≤ k → k ≤ 19 → wpX_runData (fun u => match u with | (fl, cl, ms, fu, cnt, opn, tu, oc, fc, cu, pu, mk, lr, us, dep, top, pc, tr, pa, lo, tb, re, sta, len, ops, imm, sT, sF, sM, oT, fK, fT, fH, fU, fS, fC, arg, glo, mem, aF, aA, aT, cel, loc) => post (fl, cl, ms, fu, cnt, opn, tu, oc, fc, cu, pu, mk, lr, us, dep, top, pc, tr, pa, lo, tb, re, sta, len, ops, imm, sT, sF, sM, oT, fK, fT, fH, fU, fS, fC, arg, glo, mem, aF, aA, aT, cel, loc)) (fl, cl, ms, fu, cnt, opn, tu, oc, fc, cu, pu, mk, lr, us, dep, top, nI (p + 1), tr, pa, lo, tb, re, sta, len, ops, imm, sT, sF, sM, oT, fK, fT, fH, fU, fS, fC, arg, glo, mem, aF, upd aA a (nI p), aT, cel, loc) (nI k) im)
    (h3 : 20 ≤ k → k ≤ 37 → wpX_runNumeric (fun u => match u with | (fl, cl, ms, fu, cnt, opn, tu, oc, fc, cu, pu, mk, lr, us, dep, top, pc, tr, pa, lo, tb, re, sta, len, ops, imm, sT, sF, sM, oT, fK, fT, fH, fU, fS, fC, arg, glo, mem, aF, aA, aT, cel, loc) => post (fl, cl, ms, fu, cnt, opn, tu, oc, fc, cu, pu, mk, lr, us, dep, top, pc, tr, pa, lo, tb, re, sta, len, ops, imm, sT, sF, sM, oT, fK, fT, fH, fU, fS, fC, arg, glo, mem, aF, aA, aT, cel, loc)) (fl, cl, ms, fu, cnt, opn, tu, oc, fc, cu, pu, mk, lr, us, dep, top, nI (p + 1), tr, pa, lo, tb, re, sta, len, ops, imm, sT, sF, sM, oT, fK, fT, fH, fU, fS, fC, arg, glo, mem, aF, upd aA a (nI p), aT, cel, loc) (nI k))
    (h4 : 38 ≤ k → wpX_runMemory (fun u => match u with | (fl, cl, ms, fu, cnt, opn, tu, oc, fc, cu, pu, mk, lr, us, dep, top, pc, tr, pa, lo, tb, re, sta, len, ops, imm, sT, sF, sM, oT, fK, fT, fH, fU, fS, fC, arg, glo, mem, aF, aA, aT, cel, loc) => post (fl, cl, ms, fu, cnt, opn, tu, oc, fc, cu, pu, mk, lr, us, dep, top, pc, tr, pa, lo, tb, re, sta, len, ops, imm, sT, sF, sM, oT, fK, fT, fH, fU, fS, fC, arg, glo, mem, aF, aA, aT, cel, loc)) (fl, cl, ms, fu, cnt, opn, tu, oc, fc, cu, pu, mk, lr, us, dep, top, nI (p + 1), tr, pa, lo, tb, re, sta, len, ops, imm, sT, sF, sM, oT, fK, fT, fH, fU, fS, fC, arg, glo, mem, aF, upd aA a (nI p), aT, cel, loc) (nI k) im) : wpX_step post (fl, cl, ms, fu, cnt, opn, tu, oc, fc, cu, pu, mk, lr, us, dep, top, pc, tr, pa, lo, tb, re, sta, len, ops, imm, sT, sF, sM, oT, fK, fT, fH, fU, fS, fC, arg, glo, mem, aF, aA, aT, cel, loc) := by
  subst hd hpc
  have hin : vp_in (nI a) 8 := vp_in_nI (by omega) (by decide)
  have ec : (nI a).toNatClampNeg = a := nI_clamp (by omega)
  have hin4 : vp_in (nI f) 4 := vp_in_nI hf (by decide)
  have ec4 : (nI f).toNatClampNeg = f := nI_clamp (by omega)
  have hinA : vp_in (nI (64 * f + p)) 256 := vp_in_nI (by omega) (by decide)
  have ecA : (nI (64 * f + p)).toNatClampNeg = 64 * f + p := nI_clamp (by omega)
  have ea : nI f * 64 + nI p = nI (64 * f + p) := by
    rw [show nI f * 64 = nI (f * 64) from pk_mul f 64, nI_add, Nat.mul_comm f 64]
  refine nm_r zx_d1 ⟨hin, nm_r (e' := nI f) (by rw [ec, hF]) (br_f (nI_pos (by omega)) ⟨hin4, ?_⟩)⟩
  rw [ec4, hl]
  refine br_t (nI_lt hpn (by omega)) ⟨hin, nm_r (e' := upd aA a (nI p)) (by rw [ec]) (nm_r (nI_1 p) (nm_r ea ⟨hinA, nm_r (e' := nI k) (by rw [ecA, ho]) ⟨hinA, nm_r (e' := im) (by rw [ecA, hi]) ?_⟩⟩))⟩
  exact pk_lt 10 k (fun a1 => pk_lt 19 k (fun a2 => pk_lt 37 k (fun a3 => h4 a3) (fun a3 => h3 a2 a3)) (fun a2 => h2 a1 a2)) (fun a1 => h1 a1)
/-- the head of a step: the reference -/
theorem zy_hd {post : SY → Prop} (ha : a ≤ 7) (hd : dep = nI (a + 1)) (hF : aF a = nI f) (hP : aP a = nI p) (hk : k < 42) (hn : k ≠ 3 ∧ k ≠ 7 ∧ k ≠ 8 ∧ k ≠ 12)
    (h : wY_run_69 post (nI k) im (nI a) (nI f) (nI p) im.toInt32 (zy_n im) 1 fl cl ms fu cnt opn er sz dp dep ytr nx us tk lr pa lo tb re sta len ops ty kd bk hh dd aF aP aZ aL lP lF vt byt imm val loc glo arg) : wpY_run post (fl, cl, ms, fu, cnt, opn, er, sz, dp, dep, ytr, nx, us, tk, lr, pa, lo, tb, re, sta, len, ops, ty, kd, bk, hh, dd, aF, aP, aZ, aL, lP, lF, vt, byt, imm, val, loc, glo, arg) (nI k) im := by
  subst hd
  have hin : vp_in (nI a) 8 := vp_in_nI (by omega) (by decide)
  have ec : (nI a).toNatClampNeg = a := nI_clamp (by omega)
  refine nm_r zx_d1 ⟨hin, nm_r (e' := nI f) (by rw [ec, hF]) ⟨hin, nm_r (e' := nI p) (by rw [ec, hP]) (nm_e ?_)⟩⟩
  exact pk_eq k 3 (fun _ => by omega) (fun _ => pk_eq k 7 (fun _ => by omega) (fun _ => pk_eq k 8 (fun _ => by omega) (fun _ => pk_eq k 12 (fun _ => by omega) (fun _ => h))))
theorem zy_hdt {post : SY → Prop} (ha : a ≤ 7) (hd : dep = nI (a + 1)) (hF : aF a = nI f) (hP : aP a = nI p) (hk : k < 42) (hn : k = 3 ∨ k = 7 ∨ k = 8 ∨ k = 12)
    (hz : 1 ≤ z) (hz2 : z ≤ 12) (hy : ytr = 0) (hA : aZ a = nI z) (hv : vt (16 * a + (z - 1)) = 1)
    (h : wY_run_69 post (nI k) im (nI a) (nI f) (nI p) im.toInt32 (zy_n im) (val (16 * a + (z - 1))) fl cl ms fu cnt opn er sz dp dep ytr nx us (vt (16 * a + (z - 1))) lr pa lo tb re sta len ops ty kd bk hh dd aF aP (upd aZ a (nI (z - 1))) aL lP lF vt byt imm val loc glo arg) : wpY_run post (fl, cl, ms, fu, cnt, opn, er, sz, dp, dep, ytr, nx, us, tk, lr, pa, lo, tb, re, sta, len, ops, ty, kd, bk, hh, dd, aF, aP, aZ, aL, lP, lF, vt, byt, imm, val, loc, glo, arg) (nI k) im := by
  have A : wY_run_60 post (nI k) im (nI a) (nI f) (nI p) im.toInt32 (zy_n im) fl cl ms fu cnt opn er sz dp dep ytr nx us tk lr pa lo tb re sta len ops ty kd bk hh dd aF aP aZ aL lP lF vt byt imm val loc glo arg := zy_take ha hz hz2 hd hy hA (by decide) (Or.inr hv) h
  subst hd
  have hin : vp_in (nI a) 8 := vp_in_nI (by omega) (by decide)
  have ec : (nI a).toNatClampNeg = a := nI_clamp (by omega)
  refine nm_r zx_d1 ⟨hin, nm_r (e' := nI f) (by rw [ec, hF]) ⟨hin, nm_r (e' := nI p) (by rw [ec, hP]) (nm_e ?_)⟩⟩
  exact pk_eq k 3 (fun _ => A) (fun _ => pk_eq k 7 (fun _ => A) (fun _ => pk_eq k 8 (fun _ => A) (fun _ => pk_eq k 12 (fun _ => A) (fun _ => by omega))))
/-- from the reference's first join to its second -/
theorem zy_277 {post : SY → Prop} {x2 z0 : Int64} {x4 x5 x6 x7 x8 : Int32} (hk : k < 42) (h6 : 6 ≤ k) (h : wY_run_277 post (nI k) x2 x4 x5 x7 x8 z0 fl cl ms fu cnt opn er sz dp dep ytr nx us tk lr pa lo tb re sta len ops ty kd bk hh dd aF aP aZ aL lP lF vt byt imm val loc glo arg) : wY_run_69 post (nI k) x2 x4 x5 x6 x7 x8 z0 fl cl ms fu cnt opn er sz dp dep ytr nx us tk lr pa lo tb re sta len ops ty kd bk hh dd aF aP aZ aL lP lF vt byt imm val loc glo arg :=
  pk_eq k 0 (fun _ => by omega) (fun _ => pk_lt 3 k (fun _ => pk_eq k 4 (fun _ => by omega) (fun _ => pk_eq k 5 (fun _ => by omega) (fun _ => h))) (fun _ => by omega))
end
end
section
/-! the relation of the two runs -/
def zu_V (b z : Nat) (c : zc_C) (cel val : Nat → Int64) (vt : Nat → Int32) : Prop :=
  ∀ i, i < z → vt (16 * b + i) = zc_T c i ∧ val (16 * b + i) = cel (12 * b + i) ∧ (zc_T c i = 1 → zu_sx (cel (12 * b + i)))
def zu_Lb (b : Nat) (c : zc_C) (aL lP lF : Nat → Int32) : Prop :=
  aL b = nI (zc_D c - 1) ∧ ∀ j, j + 1 < zc_D c → lP (8 * b + j) = nI (zc_A c (j + 1)) ∧ lF (8 * b + j) = nI (zc_H c (j + 1))
def zu_live (c : zc_C) : Prop := ∀ d, d < zc_D c → zc_U c d = 0
def zu_lc (b f : Nat) (tb : Nat → Int32) (loc : Nat → Int64) : Prop := ∀ i, i < 8 → zc_ly tb f (nI i) = 1 → zu_sx (loc (8 * b + i))
/-- all functions complete -/
def zu_S (pa tb re len ops sT sF sM : Nat → Int32) (imm : Nat → Int64) (nc : Nat) (T : Nat → Nat → zc_C) (N : Nat → Nat) : Prop :=
  ∀ g, g < nc → N g ≤ 64 ∧ len g = nI (N g) ∧ zt_F pa tb re nc g (fun i => ops (64 * g + i)) (fun i => imm (64 * g + i)) (T g) (N g) ∧ zc_D (T g (N g)) = 0 ∧
    zw_R (fun i => ops (64 * g + i)) (fun i => imm (64 * g + i)) (T g) (N g) (fun s => sT (96 * g + s)) (fun s => sF (96 * g + s)) (fun s => sM (96 * g + s))
def zu_C (nc : Nat) (T : Nat → Nat → zc_C) (N : Nat → Nat) (tb re aF aA aT aP aZ aL lP lF vt : Nat → Int32) (cel val loc : Nat → Int64) (b : Nat) : Prop :=
  ∃ f g p z, (f < nc ∧ g < nc ∧ aF b = nI f ∧ aF (b + 1) = nI g ∧ aA b = nI p ∧ aP b = nI p ∧ aT b = nI (12 * b + z) ∧ aZ b = nI z ∧ p + 1 < N f ∧ z ≤ 12) ∧
    zu_V b z (T f (p + 1)) cel val vt ∧ zu_Lb b (T f (p + 1)) aL lP lF ∧ zu_live (T f (p + 1)) ∧ zc_S (T f (p + 1)) = z + zc_o (re g) ∧ (re g ≠ 0 → zc_T (T f (p + 1)) z = re g) ∧ zu_lc b f tb loc
def zu_Tp (nc : Nat) (T : Nat → Nat → zc_C) (N : Nat → Nat) (tb aF aP aZ aL lP lF vt : Nat → Int32) (cel val loc : Nat → Int64) (a f p : Nat) : Prop :=
  f < nc ∧ aF a = nI f ∧ aP a = nI p ∧ p < N f ∧ aZ a = nI (zc_S (T f p)) ∧ zu_V a (zc_S (T f p)) (T f p) cel val vt ∧ zu_Lb a (T f p) aL lP lF ∧ zu_live (T f p) ∧ zu_lc a f tb loc
def zu_R (nc nfu : Nat) (T : Nat → Nat → zc_C) (N : Nat → Nat) (tb re aF aA aT aP aZ aL lP lF vt : Nat → Int32) (cel val loc glo : Nat → Int64) (a f p w : Nat) : Prop :=
  a ≤ 7 ∧ w ≤ nfu ∧ (∀ b, b < a → zu_C nc T N tb re aF aA aT aP aZ aL lP lF vt cel val loc b) ∧ zu_Tp nc T N tb aF aP aZ aL lP lF vt cel val loc a f p ∧ zu_sx (glo 0)
/-- what is left to do -/
def zu_w (aA : Nat → Int32) : Nat → Nat
  | 0 => 0
  | b + 1 => zu_w aA b + (63 - (aA b).toNatClampNeg)
def zu_P (nfu w p : Nat) (aA : Nat → Int32) (a : Nat) : Nat := 64 * (nfu - w) + (64 - p) + zu_w aA a
theorem zu_wc {aA aA' : Nat → Int32} : ∀ a, (∀ b, b < a → aA' b = aA b) → zu_w aA' a = zu_w aA a
  | 0, _ => rfl
  | a + 1, h => by
    show zu_w aA' a + (63 - (aA' a).toNatClampNeg) = zu_w aA a + (63 - (aA a).toNatClampNeg)
    rw [zu_wc a (fun b hb => h b (by omega)), h a (by omega)]
section
variable {pa tb re len ops sT sF sM : Nat → Int32} {imm : Nat → Int64} {nc nfu : Nat} {T : Nat → Nat → zc_C} {N : Nat → Nat}
variable {aF aA aT aP aZ aL lP lF vt aF' aA' aT' aP' aZ' aL' lP' lF' vt' : Nat → Int32} {cel val loc glo cel' val' loc' glo' : Nat → Int64} {a f p w b : Nat}
theorem zu_ok (H : zu_S pa tb re len ops sT sF sM imm nc T N) {g i : Nat} (hg : g < nc) (hi : i < N g) : zc_ok (T g i) := by
  obtain ⟨k, q⟩ := (H g hg).2.2.1.2 i hi
  exact q.2.2.1
theorem zu_lt (H : zu_S pa tb re len ops sT sF sM imm nc T N) {g i : Nat} (hg : g < nc) (hi : i ≤ N g) (hD : 1 ≤ zc_D (T g i)) : i < N g := by
  rcases Nat.lt_or_ge i (N g) with z | z
  · exact z
  · have e : i = N g := by omega
    rw [e, (H g hg).2.2.2.1] at hD; omega
theorem zu_Cf (H : zu_S pa tb re len ops sT sF sM imm nc T N) (hb : b < a) (hF : ∀ x, x ≤ a → aF' x = aF x) (hA : ∀ x, x < a → aA' x = aA x) (hT : ∀ x, x < a → aT' x = aT x) (hP : ∀ x, x < a → aP' x = aP x) (hZ : ∀ x, x < a → aZ' x = aZ x) (hL : ∀ x, x < a → aL' x = aL x)
    (hl : ∀ y, y < 8 * a → lP' y = lP y ∧ lF' y = lF y ∧ loc' y = loc y) (hc : ∀ y, y < 12 * a → cel' y = cel y) (hv : ∀ y, y < 16 * a → vt' y = vt y ∧ val' y = val y)
    (h : zu_C nc T N tb re aF aA aT aP aZ aL lP lF vt cel val loc b) : zu_C nc T N tb re aF' aA' aT' aP' aZ' aL' lP' lF' vt' cel' val' loc' b := by
  obtain ⟨f, g, p, z, ⟨h1, h2, h3, h4, h5, h6, h7, h8, h9, h10⟩, h11, ⟨l1, l2⟩, h13, h14, h15, h16⟩ := h
  have hok := zu_ok H h1 h9
  have hD8 := hok.2.1
  refine ⟨f, g, p, z, ⟨h1, h2, by rw [hF b (by omega)]; exact h3, by rw [hF (b + 1) (by omega)]; exact h4, by rw [hA b hb]; exact h5, by rw [hP b hb]; exact h6, by rw [hT b hb]; exact h7, by rw [hZ b hb]; exact h8, h9, h10⟩, fun i hi => ?_, ⟨by rw [hL b hb]; exact l1, fun j hj => ?_⟩, h13, h14, h15, fun i hi e => ?_⟩
  · obtain ⟨q1, q2, q3⟩ := h11 i hi
    rw [(hv (16 * b + i) (by omega)).1, (hv (16 * b + i) (by omega)).2, hc (12 * b + i) (by omega)]
    exact ⟨q1, q2, q3⟩
  · rw [(hl (8 * b + j) (by omega)).1, (hl (8 * b + j) (by omega)).2.1]
    exact l2 j hj
  · rw [(hl (8 * b + i) (by omega)).2.2]
    exact h16 i hi e
/-- a plain instruction: pops to cur, then perhaps one push -/
theorem zu_plain {o : Int32} {cur : Nat} (H : zu_S pa tb re len ops sT sF sM imm nc T N) (R : zu_R nc nfu T N tb re aF aA aT aP aZ aL lP lF vt cel val loc glo a f p w)
    (hp : p + 1 ≤ N f) (ec : T f (p + 1) = zc_set (T f p) cur o 0) (hcur : cur ≤ zc_S (T f p))
    (hcel : ∀ y, y < 12 * a + cur → cel' y = cel y) (hvt : ∀ y, y < 16 * a + cur → vt' y = vt y ∧ val' y = val y)
    (hnew : o ≠ 0 → vt' (16 * a + cur) = o ∧ val' (16 * a + cur) = cel' (12 * a + cur) ∧ (o = 1 → zu_sx (cel' (12 * a + cur))))
    (hZa : aZ' a = nI (cur + zc_o o)) (hZ : ∀ x, x < a → aZ' x = aZ x) (hloc : ∀ y, y < 8 * a → loc' y = loc y) (hlc : zu_lc a f tb loc') (hg : zu_sx (glo' 0)) :
    zu_R nc nfu T N tb re aF (upd aA a (nI p)) aT (upd aP a (nI (p + 1))) aZ' aL lP lF vt' cel' val' loc' glo' a f (p + 1) w := by
  obtain ⟨r1, r2, r3, ⟨t1, t2, t3, t4, t5, t6, t7, t8, t9⟩, r5⟩ := R
  have hok := zu_ok H t1 t4
  have hD : zc_D (T f (p + 1)) = zc_D (T f p) := by rw [ec, zs_D]
  have hlt := zu_lt H t1 hp (by rw [hD]; exact hok.1)
  refine ⟨r1, r2, fun b hb => ?_, ⟨t1, t2, pk_us, hlt, ?_, fun i hi => ?_, ⟨by rw [hD]; exact t7.1, fun j hj => ?_⟩, fun d hd => ?_, hlc⟩, hg⟩
  · exact zu_Cf H hb (fun _ _ => rfl) (fun x hx => pk_un (by omega)) (fun _ _ => rfl) (fun x hx => pk_un (by omega)) hZ (fun _ _ => rfl) (fun y hy => ⟨rfl, rfl, hloc y hy⟩) (fun y hy => hcel y (by omega)) (fun y hy => hvt y (by omega)) (r3 b hb)
  · rw [ec, zs_S rfl]; exact hZa
  · rw [ec, zs_S rfl] at hi
    rw [ec]
    by_cases z : i < cur
    · rw [zs_T i z, (hvt (16 * a + i) (by omega)).1, (hvt (16 * a + i) (by omega)).2, hcel (12 * a + i) (by omega)]
      exact t6 i (by omega)
    · have l := zq_oo o
      have e : i = cur := by omega
      have o0 : o ≠ 0 := fun w => by rw [zc_o0 w] at hi; omega
      subst e
      rw [zs_Tc rfl o0]
      exact hnew o0
  · rw [hD] at hj
    rw [ec, zs_A, zs_H]
    exact t7.2 j hj
  · rw [hD] at hd
    rw [ec, zs_U rfl]
    exact t8 d hd
theorem zu_Pp (h : p < 64) : zu_P nfu w (p + 1) (upd aA a (nI p)) a < zu_P nfu w p aA a := by
  unfold zu_P
  rw [zu_wc (aA := aA) a (fun b hb => pk_un (by omega))]
  omega
end
/-- pops in a live state -/
theorem zu_p {c : zc_C} (hok : zc_ok c) (hl : zu_live c) {t : Int32} {s : Nat} (hs : s ≤ zc_S c) (h : zc_h c ≤ s) (ht : t ≠ 0) (e : (zc_p c t (0, s)).2.1 = 0) :
    zc_h c < s ∧ zc_p c t (0, s) = (zc_T c (s - 1), 0, s - 1) ∧ (t ≠ 4 → zc_T c (s - 1) = t) ∧ (zc_T c (s - 1) = 1 ∨ zc_T c (s - 1) = 2) := by
  have hD := hok.1
  have n0 : ¬ (t = 0 ∨ ((0 : Int32), s).1 ≠ 0) := fun z => z.elim ht (fun w => w rfl)
  have h1 : s ≠ zc_h c := fun z => by
    unfold zc_p at e
    rw [if_neg n0, if_pos z, if_pos (hl (zc_D c - 1) (by omega))] at e
    exact absurd (show (-7 : Int32) = 0 from e) (by decide)
  have h3 : zc_T c (s - 1) ≠ 3 := fun z => by
    obtain ⟨d, q1, q2, q3⟩ := hok.2.2.2.2.2.2.2.2.2.2.2 (s - 1) (by omega) z
    exact q2 (hl d q1)
  have e2 : zc_p c t (0, s) = if t = 4 ∨ zc_T c (s - 1) = t ∨ zc_T c (s - 1) = 3 then (zc_T c (s - 1), 0, s - 1) else (zc_T c (s - 1), -8, s) := by
    unfold zc_p; rw [if_neg n0, if_neg h1]
  have hT := hok.2.2.2.2.2.2.1 (s - 1) (by omega)
  have h12 : zc_T c (s - 1) = 1 ∨ zc_T c (s - 1) = 2 := by
    rcases hT with z | z | z
    · exact Or.inl z
    · exact Or.inr z
    · exact absurd z h3
  by_cases y : t = 4 ∨ zc_T c (s - 1) = t ∨ zc_T c (s - 1) = 3
  · rw [if_pos y] at e2
    refine ⟨by omega, e2, fun z => ?_, h12⟩
    rcases y with y | y | y
    · exact absurd y z
    · exact y
    · exact absurd y h3
  · rw [if_neg y] at e2
    rw [e2] at e
    exact absurd (show (-8 : Int32) = 0 from e) (by decide)
end
section
/-! what one turn of the two runs gives -/
def zu_XS (Q : Prop) (u u' : SX) : Prop := (∀ post : SX → Prop, post u' → wpX_step post u) ∨ Q ∧ ∃ u1 : SX, (u1.2.2.2.2.2.2.2.2.2.2.2.2.2.2.2.2.2.1 = 0 ∧ u1.2.2.2.2.2.2.2.2.2.2.2.2.2.2.1 ≠ 0) ∧ (∀ post : SX → Prop, post u1 → wpX_step post u) ∧ (∀ post : SX → Prop, post u' → wpX_step post u1)
def zu_F (nc nfu : Nat) (T : Nat → Nat → zc_C) (N : Nat → Nat) (tb re aP : Nat → Int32) (us dep top pc tr ytr nx : Int32) (aF aA aT aZ aL lP lF vt : Nat → Int32) (glo cel loc val : Nat → Int64) (a P : Nat) : Prop :=
  (tr ≠ 0 ∧ ytr = tr ∧ dep = nI (a + 1) ∧ (∀ b, b ≤ a → aA b = aP b) ∧ zu_sx (glo 0)) ∨
  (tr = 0 ∧ ytr = 0 ∧ dep = 0 ∧ zu_sx (glo 0)) ∨
  ∃ a' f' p' w', tr = 0 ∧ ytr = 0 ∧ us = nI w' ∧ dep = nI (a' + 1) ∧ top = nI (12 * a' + zc_S (T f' p')) ∧ pc = nI p' ∧ nx = nI p' ∧
    zu_R nc nfu T N tb re aF aA aT (upd aP a' (nI p')) aZ aL lP lF vt cel val loc glo a' f' p' w' ∧ zu_P nfu w' p' aA a' < P
theorem zu_Fm {nc nfu : Nat} {T : Nat → Nat → zc_C} {N : Nat → Nat} {tb re aP : Nat → Int32} {us dep top pc tr ytr nx : Int32} {aF aA aT aZ aL lP lF vt : Nat → Int32} {glo cel loc val : Nat → Int64} {a P P' : Nat}
    (h : zu_F nc nfu T N tb re aP us dep top pc tr ytr nx aF aA aT aZ aL lP lF vt glo cel loc val a P) (hP : P ≤ P') : zu_F nc nfu T N tb re aP us dep top pc tr ytr nx aF aA aT aZ aL lP lF vt glo cel loc val a P' := by
  rcases h with h | h | ⟨a', f', p', w', h1, h2, h3, h4, h5, h6, h7, h8, h9⟩
  · exact Or.inl h
  · exact Or.inr (Or.inl h)
  · exact Or.inr (Or.inr ⟨a', f', p', w', h1, h2, h3, h4, h5, h6, h7, h8, Nat.lt_of_lt_of_le h9 hP⟩)
section
variable {fl cl ms fu cnt opn tu oc fc cu pu mk us dep top pc tr er sz dp ytr nx tk : Int32} {lr : Int64} {pa lo tb re sta len ops sT sF sM oT fK fT fH fU fS fC mem aF aA aT ty kd bk hh dd aP aZ aL lP lF vt byt : Nat → Int32} {imm arg glo cel loc val : Nat → Int64} {nc nfu : Nat} {T : Nat → Nat → zc_C} {N : Nat → Nat} {a f p w k : Nat} {im : Int64}
/-- a trap in both -/
theorem zu_trap {lP' lF' aL' aZ' vt' : Nat → Int32} {cel' val' loc' : Nat → Int64} {t us' top' pc' nx' : Int32} (ht : t ≠ 0) (R : zu_R nc nfu T N tb re aF aA aT aP aZ aL lP lF vt cel val loc glo a f p w) :
    zu_F nc nfu T N tb re aP us' (nI (a + 1)) top' pc' t t nx' aF (upd aA a (nI p)) aT aZ' aL' lP' lF' vt' glo cel' loc' val' a (zu_P nfu w p aA a) := by
  obtain ⟨r1, r2, r3, ⟨t1, t2, t3, t4⟩, r5⟩ := R
  refine Or.inl ⟨ht, rfl, rfl, fun b hb => ?_, r5⟩
  by_cases z : b = a
  · rw [z, pk_us, t3]
  · obtain ⟨f', g', p', z', ⟨h1, h2, h3, h4, h5, h6, h7⟩, h8⟩ := r3 b (by omega)
    rw [pk_un z, h5, h6]
/-- a plain instruction's next state of the checker -/
theorem zu_st (H1 : zt_1 pa tb re nc f (ops (64 * f + p)) im (T f p) (T f (p + 1)) p k) (hk : ¬ (1 ≤ k ∧ k ≤ 5)) (hm : (zc_plan pa tb re f (T f p) im k).2.2.2 = 0) :
    T f (p + 1) = zc_set (T f p) (zc_plan pa tb re f (T f p) im k).2.1 (zc_plan pa tb re f (T f p) im k).2.2.1 0 ∧ (zc_plan pa tb re f (T f p) im k).1 = 0 ∧ (zc_plan pa tb re f (T f p) im k).2.1 + zc_o (zc_plan pa tb re f (T f p) im k).2.2.1 ≤ 12 ∧ (zc_plan pa tb re f (T f p) im k).2.1 ≤ zc_S (T f p) ∧ zc_h (T f p) ≤ (zc_plan pa tb re f (T f p) im k).2.1 := by
  have e := zn_e H1 hk
  obtain ⟨r1, r2, r3, r4, r5⟩ := zq_rc0 H1.2.2.2.2.1
  have q := zp_cur (pa := pa) (tb := tb) (re := re) (f := f) (im := im) H1.2.2.1.2.2.2.2.2.1 k
  rw [hm] at e
  exact ⟨e, r4, r5 hm, q.2, q.1⟩
/-- one pop of a live state -/
theorem zu_p1 {t : Int32} (H1 : zt_1 pa tb re nc f (ops (64 * f + p)) im (T f p) (T f (p + 1)) p k) (hl : zu_live (T f p)) (ht : t ≠ 0) (e : (zc_pl (T f p) [t] (0, zc_S (T f p))).1 = 0) :
    1 ≤ zc_S (T f p) ∧ zc_pl (T f p) [t] (0, zc_S (T f p)) = (0, zc_S (T f p) - 1) ∧ (t ≠ 4 → zc_T (T f p) (zc_S (T f p) - 1) = t) ∧ (zc_T (T f p) (zc_S (T f p) - 1) = 1 ∨ zc_T (T f p) (zc_S (T f p) - 1) = 2) ∧ zc_h (T f p) ≤ zc_S (T f p) - 1 := by
  have hok := H1.2.2.1
  obtain ⟨q1, q2, q3, q4⟩ := zu_p hok hl (Nat.le_refl _) hok.2.2.2.2.2.1 ht e
  refine ⟨by omega, ?_, q3, q4, by omega⟩
  show (zc_p (T f p) t (0, zc_S (T f p))).2 = _
  rw [q2]
/-- two pops -/
theorem zu_p2 {t s : Int32} (H1 : zt_1 pa tb re nc f (ops (64 * f + p)) im (T f p) (T f (p + 1)) p k) (hl : zu_live (T f p)) (ht : t ≠ 0) (hs : s ≠ 0) (e : (zc_pl (T f p) [t, s] (0, zc_S (T f p))).1 = 0) :
    2 ≤ zc_S (T f p) ∧ zc_pl (T f p) [t, s] (0, zc_S (T f p)) = (0, zc_S (T f p) - 2) ∧ (t ≠ 4 → zc_T (T f p) (zc_S (T f p) - 1) = t) ∧ (s ≠ 4 → zc_T (T f p) (zc_S (T f p) - 2) = s) ∧
      (zc_T (T f p) (zc_S (T f p) - 1) = 1 ∨ zc_T (T f p) (zc_S (T f p) - 1) = 2) ∧ (zc_T (T f p) (zc_S (T f p) - 2) = 1 ∨ zc_T (T f p) (zc_S (T f p) - 2) = 2) := by
  have hok := H1.2.2.1
  have e0 : (zc_p (T f p) t (0, zc_S (T f p))).2.1 = 0 := Classical.byContradiction fun z => by
    have y : zc_pl (T f p) [t, s] (0, zc_S (T f p)) = (zc_p (T f p) s (zc_p (T f p) t (0, zc_S (T f p))).2).2 := rfl
    rw [y, zp_err _ _ _ z] at e
    exact z e
  obtain ⟨q1, q2, q3, q4⟩ := zu_p hok hl (Nat.le_refl _) hok.2.2.2.2.2.1 ht e0
  have y : zc_pl (T f p) [t, s] (0, zc_S (T f p)) = (zc_p (T f p) s (0, zc_S (T f p) - 1)).2 := by
    show (zc_p (T f p) s (zc_p (T f p) t (0, zc_S (T f p))).2).2 = _
    rw [q2]
  rw [y] at e
  obtain ⟨p1, p2, p3, p4⟩ := zu_p hok hl (s := zc_S (T f p) - 1) (by omega) (by omega) hs e
  have e3 : zc_S (T f p) - 1 - 1 = zc_S (T f p) - 2 := by omega
  rw [e3] at p2 p3 p4
  refine ⟨by omega, ?_, q3, p3, q4, p4⟩
  rw [y, p2]
end
end
section
/-! the run: data instructions -/
section
variable {fl cl ms fu cnt opn tu oc fc cu pu mk us dep top pc tr er sz dp ytr nx tk : Int32} {lr : Int64} {pa lo tb re sta len ops sT sF sM oT fK fT fH fU fS fC mem aF aA aT ty kd bk hh dd aP aZ aL lP lF vt byt : Nat → Int32} {imm arg glo cel loc val : Nat → Int64} {nc nfu : Nat} {T : Nat → Nat → zc_C} {N : Nat → Nat} {a f p w k cur : Nat} {im v v' : Int64} {o tk' : Int32} {aZ' : Nat → Int32} {loc' glo' : Nat → Int64} {mem' : Nat → Int32}
theorem zu_finN (H : zu_S pa tb re len ops sT sF sM imm nc T N) (R : zu_R nc nfu T N tb re aF aA aT aP aZ aL lP lF vt cel val loc glo a f p w) (ec : T f (p + 1) = zc_set (T f p) cur 0 0) (hcur : cur ≤ zc_S (T f p))
    (hZa : aZ' a = nI cur) (hZ : ∀ x, x < a → aZ' x = aZ x) (hloc : ∀ y, y < 8 * a → loc' y = loc y) (hlc : zu_lc a f tb loc') (hg : zu_sx (glo' 0)) :
    zu_F nc nfu T N tb re aP (nI w) (nI (a + 1)) (nI (12 * a + cur)) (nI (p + 1)) 0 0 (nI (p + 1)) aF (upd aA a (nI p)) aT aZ' aL lP lF vt glo' cel loc' val a (zu_P nfu w p aA a) := by
  have t1 := R.2.2.2.1.1
  have t4 := R.2.2.2.1.2.2.2.1
  have hN := (H f t1).1
  refine Or.inr (Or.inr ⟨a, f, p + 1, w, rfl, rfl, rfl, rfl, ?_, rfl, rfl, zu_plain H R (by omega) ec hcur (fun _ _ => rfl) (fun _ _ => ⟨rfl, rfl⟩) (fun z => absurd rfl z) (by rw [zc_o0 rfl]; exact hZa) hZ hloc hlc hg, zu_Pp (by omega)⟩)
  rw [ec, zs_S rfl, zc_o0 rfl]; rfl
theorem zu_finP (H : zu_S pa tb re len ops sT sF sM imm nc T N) (R : zu_R nc nfu T N tb re aF aA aT aP aZ aL lP lF vt cel val loc glo a f p w) (ho : o ≠ 0) (ec : T f (p + 1) = zc_set (T f p) cur o 0) (hcur : cur ≤ zc_S (T f p))
    (hv : zu_cut o v' = v) (hsx : o = 1 → zu_sx v) (hZa : aZ' a = nI (cur + 1)) (hZ : ∀ x, x < a → aZ' x = aZ x) (hloc : ∀ y, y < 8 * a → loc' y = loc y) (hlc : zu_lc a f tb loc') (hg : zu_sx (glo' 0)) :
    zu_F nc nfu T N tb re aP (nI w) (nI (a + 1)) (nI (12 * a + (cur + 1))) (nI (p + 1)) 0 0 (nI (p + 1)) aF (upd aA a (nI p)) aT aZ' aL lP lF (upd vt (16 * a + cur) o) glo' (vp_updL cel (12 * a + cur) v) loc' (vp_updL val (16 * a + cur) (zu_cut o v')) a (zu_P nfu w p aA a) := by
  have t1 := R.2.2.2.1.1
  have t4 := R.2.2.2.1.2.2.2.1
  have hN := (H f t1).1
  refine Or.inr (Or.inr ⟨a, f, p + 1, w, rfl, rfl, rfl, rfl, ?_, rfl, rfl, zu_plain H R (by omega) ec hcur (fun y hy => pk_uLn (by omega)) (fun y hy => ⟨pk_un (by omega), pk_uLn (by omega)⟩) (fun _ => ⟨pk_us, by rw [pk_uLs, pk_uLs]; exact hv, fun z => by rw [pk_uLs]; exact hsx z⟩) (by rw [zc_o1 ho]; exact hZa) hZ hloc hlc hg, zu_Pp (by omega)⟩)
  rw [ec, zs_S rfl, zc_o1 ho]
theorem zu_z1 {g : Nat → Int32} {x : Int32} : ∀ y, y < a → upd g a x y = g y := fun y hy => pk_un (by omega)
theorem zu_z2 {g : Nat → Int32} {x x2 : Int32} : ∀ y, y < a → upd (upd g a x) a x2 y = g y := fun y hy => by rw [pk_un (by omega), pk_un (by omega)]
theorem zu_z3 {g : Nat → Int32} {x x2 x3 : Int32} : ∀ y, y < a → upd (upd (upd g a x) a x2) a x3 y = g y := fun y hy => by rw [pk_un (by omega), pk_un (by omega), pk_un (by omega)]
theorem zu_z4 {g : Nat → Int32} {x x2 x3 x4 : Int32} : ∀ y, y < a → upd (upd (upd (upd g a x) a x2) a x3) a x4 y = g y := fun y hy => by rw [pk_un (by omega), pk_un (by omega), pk_un (by omega), pk_un (by omega)]
/-- the address of a local -/
theorem zu_la {j : Nat} (ha : a ≤ 7) (hj : j < 8) : nI j &&& 7 = nI j ∧ (nI (a + 1) - 1) * 8 + nI j = nI (8 * a + j) ∧ 8 * nI a + nI j = nI (8 * a + j) ∧ vp_in (nI (8 * a + j)) 64 ∧ (nI (8 * a + j)).toNatClampNeg = 8 * a + j := by
  refine ⟨?_, ?_, ?_, vp_in_nI (by omega) (by decide), nI_clamp (by omega)⟩
  · rw [pk_andN (by omega) 3 (by decide)]; exact congrArg nI (by omega)
  · rw [nI_pred, show nI a * 8 = nI (a * 8) from pk_mul a 8, nI_add, Nat.mul_comm]
  · rw [show (8 : Int32) * nI a = nI (8 * a) from pk_mul 8 a, nI_add]
theorem zu_o11 (H : zu_S pa tb re len ops sT sF sM imm nc T N) (hsg : zc_sg pa lo re nc) (R : zu_R nc nfu T N tb re aF aA aT aP aZ aL lP lF vt cel val loc glo a f p w) (hi : imm (64 * f + p) = im) (H1 : zt_1 pa tb re nc f (ops (64 * f + p)) im (T f p) (T f (p + 1)) p 11) : ∃ (us' dep' top' pc' tr' ytr' nx' tk' : Int32) (lr' : Int64) (mem' aF' aA' aT' aZ' aL' lP' lF' vt' : Nat → Int32) (glo' cel' loc' val' : Nat → Int64), zu_XS (zu_F nc nfu T N tb re aP us' dep' top' pc' tr' ytr' nx' aF' aA' aT' aZ' aL' lP' lF' vt' glo' cel' loc' val' a (zu_P nfu w p aA a - 1)) (fl, cl, ms, fu, cnt, opn, tu, oc, fc, cu, pu, mk, lr, nI w, nI (a + 1), nI (12 * a + zc_S (T f p)), nI p, 0, pa, lo, tb, re, sta, len, ops, imm, sT, sF, sM, oT, fK, fT, fH, fU, fS, fC, arg, glo, mem, aF, aA, aT, cel, loc) (fl, cl, ms, fu, cnt, opn, tu, oc, fc, cu, pu, mk, lr', us', dep', top', pc', tr', pa, lo, tb, re, sta, len, ops, imm, sT, sF, sM, oT, fK, fT, fH, fU, fS, fC, arg, glo', mem', aF', aA', aT', cel', loc') ∧ (∀ post : SY → Prop, post (fl, cl, ms, fu, cnt, opn, er, sz, dp, dep', ytr', nx', us', tk', lr', pa, lo, tb, re, sta, len, ops, ty, kd, bk, hh, dd, aF', aP, aZ', aL', lP', lF', vt', (fun j => mem' j &&& 255), imm, val', loc', glo', arg) → wpY_run post (fl, cl, ms, fu, cnt, opn, er, sz, dp, nI (a + 1), 0, nI (p + 1), nI w, tk, lr, pa, lo, tb, re, sta, len, ops, ty, kd, bk, hh, dd, aF, aP, aZ, aL, lP, lF, vt, (fun j => mem j &&& 255), imm, val, loc, glo, arg) (nI 11) im) ∧ zu_F nc nfu T N tb re aP us' dep' top' pc' tr' ytr' nx' aF' aA' aT' aZ' aL' lP' lF' vt' glo' cel' loc' val' a (zu_P nfu w p aA a) := by
  obtain ⟨r1, r2, r3, ⟨t1, t2, t3, t4, t5, t6, t7, t8, t9⟩, r5⟩ := id R
  have hS := H1.2.2.1.2.2.1
  have hN := H f t1
  have h4 := hsg.1
  obtain ⟨s1, s2, s3, s4, s5⟩ := zu_st H1 (by decide) rfl
  obtain ⟨p1, p2, p3, p4, p5⟩ := zu_p1 H1 t8 (t := 4) (by decide) s2
  have ecur : (zc_plan pa tb re f (T f p) im 11).2.1 = zc_S (T f p) - 1 := by show (zc_pl (T f p) [4] (0, zc_S (T f p))).2 = _; rw [p2]
  rw [ecur] at s1
  refine ⟨nI w, nI (a + 1), nI (12 * a + (zc_S (T f p) - 1)), nI (p + 1), 0, 0, nI (p + 1), vt (16 * a + (zc_S (T f p) - 1)), lr, mem, aF, upd aA a (nI p), aT, upd aZ a (nI (zc_S (T f p) - 1)), aL, lP, lF, vt, glo, cel, loc, val, Or.inl (fun post hp => ?_), fun post hp => ?_, ?_⟩
  · refine zx_hd r1 rfl rfl (by omega) t2 hN.2.1 hN.1 t4 (by decide) H1.2.1 hi (fun z => by omega) (fun _ _ => ?_) (fun z => by omega) (fun z => by omega)
    refine nm_e (nm_e ?_)
    refine br_f (by decide) (br_f (by decide) (br_t (by decide) ?_))
    exact zx_take r1 p1 hS rfl rfl hp
  · refine zy_hd r1 rfl t2 t3 (by decide) (by decide) (zy_277 (by decide) (by decide) ?_)
    refine br_f (by decide) (br_f (by decide) (br_f (by decide) (br_f (by decide) (br_f (by decide) (br_f (by decide) (br_f (by decide) (br_f (by decide) (br_t (by decide) ?_))))))))
    refine br_f (by decide) (br_f (by decide) (br_t (by decide) ?_))
    refine zy_take r1 p1 hS rfl rfl t5 (by decide) (Or.inl rfl) ?_
    refine br_f (by decide) (br_f (by decide) (br_f (by decide) (br_t (by decide) (br_f (by decide) (br_f (by decide) (br_f (by decide) ?_))))))
    exact hp
  · exact zu_finN H R s1 (by omega) pk_us zu_z1 (fun _ _ => rfl) t9 r5
theorem zu_o13 (H : zu_S pa tb re len ops sT sF sM imm nc T N) (hsg : zc_sg pa lo re nc) (R : zu_R nc nfu T N tb re aF aA aT aP aZ aL lP lF vt cel val loc glo a f p w) (hi : imm (64 * f + p) = im) (H1 : zt_1 pa tb re nc f (ops (64 * f + p)) im (T f p) (T f (p + 1)) p 13) : ∃ (us' dep' top' pc' tr' ytr' nx' tk' : Int32) (lr' : Int64) (mem' aF' aA' aT' aZ' aL' lP' lF' vt' : Nat → Int32) (glo' cel' loc' val' : Nat → Int64), zu_XS (zu_F nc nfu T N tb re aP us' dep' top' pc' tr' ytr' nx' aF' aA' aT' aZ' aL' lP' lF' vt' glo' cel' loc' val' a (zu_P nfu w p aA a - 1)) (fl, cl, ms, fu, cnt, opn, tu, oc, fc, cu, pu, mk, lr, nI w, nI (a + 1), nI (12 * a + zc_S (T f p)), nI p, 0, pa, lo, tb, re, sta, len, ops, imm, sT, sF, sM, oT, fK, fT, fH, fU, fS, fC, arg, glo, mem, aF, aA, aT, cel, loc) (fl, cl, ms, fu, cnt, opn, tu, oc, fc, cu, pu, mk, lr', us', dep', top', pc', tr', pa, lo, tb, re, sta, len, ops, imm, sT, sF, sM, oT, fK, fT, fH, fU, fS, fC, arg, glo', mem', aF', aA', aT', cel', loc') ∧ (∀ post : SY → Prop, post (fl, cl, ms, fu, cnt, opn, er, sz, dp, dep', ytr', nx', us', tk', lr', pa, lo, tb, re, sta, len, ops, ty, kd, bk, hh, dd, aF', aP, aZ', aL', lP', lF', vt', (fun j => mem' j &&& 255), imm, val', loc', glo', arg) → wpY_run post (fl, cl, ms, fu, cnt, opn, er, sz, dp, nI (a + 1), 0, nI (p + 1), nI w, tk, lr, pa, lo, tb, re, sta, len, ops, ty, kd, bk, hh, dd, aF, aP, aZ, aL, lP, lF, vt, (fun j => mem j &&& 255), imm, val, loc, glo, arg) (nI 13) im) ∧ zu_F nc nfu T N tb re aP us' dep' top' pc' tr' ytr' nx' aF' aA' aT' aZ' aL' lP' lF' vt' glo' cel' loc' val' a (zu_P nfu w p aA a) := by
  obtain ⟨r1, r2, r3, ⟨t1, t2, t3, t4, t5, t6, t7, t8, t9⟩, r5⟩ := id R
  have hS := H1.2.2.1.2.2.1
  have hN := H f t1
  have h4 := hsg.1
  obtain ⟨s1, s2, s3, s4, s5⟩ := zu_st H1 (by decide) rfl
  obtain ⟨j, hj, ej⟩ := H1.2.2.2.1.2.2.2.1 (Or.inl rfl)
  have ei : im.toInt32 = nI j := by rw [ej, lN_i]
  obtain ⟨l1, l2, l3, l4, l5⟩ := zu_la (a := a) r1 hj
  have l3' : 8 * nI a + im.toInt32 = nI (8 * a + j) := by rw [ei]; exact l3
  have o0 : zc_ly tb f im.toInt32 ≠ 0 := by rcases zp_ly3 tb f im.toInt32 with z | z <;> rw [z] <;> decide
  have s1' : T f (p + 1) = zc_set (T f p) (zc_S (T f p)) (zc_ly tb f im.toInt32) 0 := s1
  have s3' : zc_S (T f p) + zc_o (zc_ly tb f im.toInt32) ≤ 12 := s3
  rw [zc_o1 o0] at s3'
  have hsx : zc_ly tb f im.toInt32 = 1 → zu_sx (loc (8 * a + j)) := fun z => t9 j hj (by rw [ei] at z; exact z)
  refine ⟨nI w, nI (a + 1), nI (12 * a + (zc_S (T f p) + 1)), nI (p + 1), 0, 0, nI (p + 1), tk, lr, mem, aF, upd aA a (nI p), aT, upd aZ a (nI (zc_S (T f p) + 1)), aL, lP, lF, upd vt (16 * a + zc_S (T f p)) (zc_ly tb f im.toInt32), glo, vp_updL cel (12 * a + zc_S (T f p)) (loc (8 * a + j)), loc, vp_updL val (16 * a + zc_S (T f p)) (zu_cut (zc_ly tb f im.toInt32) (loc (8 * a + j))), Or.inl (fun post hp => ?_), fun post hp => ?_, ?_⟩
  · refine zx_hd r1 rfl rfl (by omega) t2 hN.2.1 hN.1 t4 (by decide) H1.2.1 hi (fun z => by omega) (fun _ _ => ?_) (fun z => by omega) (fun z => by omega)
    refine nm_r (e' := nI j) (by rw [ei]; exact l1) (nm_r l2 ?_)
    refine br_f (by decide) (br_f (by decide) (br_f (by decide) (br_f (by decide) (br_t (by decide) ?_))))
    refine ⟨l4, ?_⟩
    rw [l5]
    exact zx_put r1 (by omega) rfl rfl hp
  · refine zy_hd r1 rfl t2 t3 (by decide) (by decide) (zy_277 (by decide) (by decide) ?_)
    refine br_f (by decide) (br_f (by decide) (br_f (by decide) (br_f (by decide) (br_f (by decide) (br_f (by decide) (br_f (by decide) (br_f (by decide) (br_f (by decide) (br_f (by decide) ?_)))))))))
    refine zy_ly (by omega) ?_
    refine br_t (by decide) ?_
    rw [l3']
    refine ⟨l4, ?_⟩
    refine br_t (by decide) ?_
    rw [l5]
    refine zy_put r1 (by omega) rfl rfl t5 o0 ?_
    refine br_f (by decide) (br_f (by decide) (br_f (by decide) ?_))
    exact hp
  · exact zu_finP H R o0 s1' (Nat.le_refl _) (zu_cut1 hsx) hsx pk_us zu_z1 (fun _ _ => rfl) t9 r5
theorem zu_lcu {j : Nat} (h : zu_lc a f tb loc) (hv : zc_ly tb f (nI j) = 1 → zu_sx v) : zu_lc a f tb (vp_updL loc (8 * a + j) v) := fun i hi e => by
  by_cases z : i = j
  · subst z; rw [pk_uLs]; exact hv e
  · rw [pk_uLn (by omega)]; exact h i hi e
theorem zu_o14 (H : zu_S pa tb re len ops sT sF sM imm nc T N) (hsg : zc_sg pa lo re nc) (R : zu_R nc nfu T N tb re aF aA aT aP aZ aL lP lF vt cel val loc glo a f p w) (hi : imm (64 * f + p) = im) (H1 : zt_1 pa tb re nc f (ops (64 * f + p)) im (T f p) (T f (p + 1)) p 14) : ∃ (us' dep' top' pc' tr' ytr' nx' tk' : Int32) (lr' : Int64) (mem' aF' aA' aT' aZ' aL' lP' lF' vt' : Nat → Int32) (glo' cel' loc' val' : Nat → Int64), zu_XS (zu_F nc nfu T N tb re aP us' dep' top' pc' tr' ytr' nx' aF' aA' aT' aZ' aL' lP' lF' vt' glo' cel' loc' val' a (zu_P nfu w p aA a - 1)) (fl, cl, ms, fu, cnt, opn, tu, oc, fc, cu, pu, mk, lr, nI w, nI (a + 1), nI (12 * a + zc_S (T f p)), nI p, 0, pa, lo, tb, re, sta, len, ops, imm, sT, sF, sM, oT, fK, fT, fH, fU, fS, fC, arg, glo, mem, aF, aA, aT, cel, loc) (fl, cl, ms, fu, cnt, opn, tu, oc, fc, cu, pu, mk, lr', us', dep', top', pc', tr', pa, lo, tb, re, sta, len, ops, imm, sT, sF, sM, oT, fK, fT, fH, fU, fS, fC, arg, glo', mem', aF', aA', aT', cel', loc') ∧ (∀ post : SY → Prop, post (fl, cl, ms, fu, cnt, opn, er, sz, dp, dep', ytr', nx', us', tk', lr', pa, lo, tb, re, sta, len, ops, ty, kd, bk, hh, dd, aF', aP, aZ', aL', lP', lF', vt', (fun j => mem' j &&& 255), imm, val', loc', glo', arg) → wpY_run post (fl, cl, ms, fu, cnt, opn, er, sz, dp, nI (a + 1), 0, nI (p + 1), nI w, tk, lr, pa, lo, tb, re, sta, len, ops, ty, kd, bk, hh, dd, aF, aP, aZ, aL, lP, lF, vt, (fun j => mem j &&& 255), imm, val, loc, glo, arg) (nI 14) im) ∧ zu_F nc nfu T N tb re aP us' dep' top' pc' tr' ytr' nx' aF' aA' aT' aZ' aL' lP' lF' vt' glo' cel' loc' val' a (zu_P nfu w p aA a) := by
  obtain ⟨r1, r2, r3, ⟨t1, t2, t3, t4, t5, t6, t7, t8, t9⟩, r5⟩ := id R
  have hS := H1.2.2.1.2.2.1
  have hN := H f t1
  have h4 := hsg.1
  obtain ⟨s1, s2, s3, s4, s5⟩ := zu_st H1 (by decide) rfl
  obtain ⟨j, hj, ej⟩ := H1.2.2.2.1.2.2.2.1 (Or.inr (Or.inl rfl))
  have ei : im.toInt32 = nI j := by rw [ej, lN_i]
  obtain ⟨l1, l2, l3, l4, l5⟩ := zu_la (a := a) r1 hj
  have l3' : 8 * nI a + im.toInt32 = nI (8 * a + j) := by rw [ei]; exact l3
  have o0 : zc_ly tb f im.toInt32 ≠ 0 := by rcases zp_ly3 tb f im.toInt32 with z | z <;> rw [z] <;> decide
  have o4 : zc_ly tb f im.toInt32 ≠ 4 := by rcases zp_ly3 tb f im.toInt32 with z | z <;> rw [z] <;> decide
  obtain ⟨p1, p2, p3, p4, p5⟩ := zu_p1 H1 t8 o0 s2
  have ecur : (zc_plan pa tb re f (T f p) im 14).2.1 = zc_S (T f p) - 1 := by show (zc_pl (T f p) [zc_ly tb f im.toInt32] (0, zc_S (T f p))).2 = _; rw [p2]
  rw [ecur] at s1
  obtain ⟨v1, v2, v3⟩ := t6 (zc_S (T f p) - 1) (by omega)
  have hlc := zu_lcu (v := cel (12 * a + (zc_S (T f p) - 1))) (j := j) t9 (fun z => v3 (by rw [p3 o4, ei]; exact z))
  refine ⟨nI w, nI (a + 1), nI (12 * a + (zc_S (T f p) - 1)), nI (p + 1), 0, 0, nI (p + 1), vt (16 * a + (zc_S (T f p) - 1)), lr, mem, aF, upd aA a (nI p), aT, upd aZ a (nI (zc_S (T f p) - 1)), aL, lP, lF, vt, glo, cel, vp_updL loc (8 * a + j) (cel (12 * a + (zc_S (T f p) - 1))), val, Or.inl (fun post hp => ?_), fun post hp => ?_, ?_⟩
  · refine zx_hd r1 rfl rfl (by omega) t2 hN.2.1 hN.1 t4 (by decide) H1.2.1 hi (fun z => by omega) (fun _ _ => ?_) (fun z => by omega) (fun z => by omega)
    refine nm_r (e' := nI j) (by rw [ei]; exact l1) (nm_r l2 ?_)
    refine br_f (by decide) (br_f (by decide) (br_f (by decide) (br_f (by decide) (br_f (by decide) (br_t (by decide) ?_)))))
    exact zx_take r1 p1 hS rfl rfl ⟨l4, nm_r (e' := vp_updL loc (8 * a + j) (cel (12 * a + (zc_S (T f p) - 1)))) (by rw [l5]) hp⟩
  · refine zy_hd r1 rfl t2 t3 (by decide) (by decide) (zy_277 (by decide) (by decide) ?_)
    refine br_f (by decide) (br_f (by decide) (br_f (by decide) (br_f (by decide) (br_f (by decide) (br_f (by decide) (br_f (by decide) (br_f (by decide) (br_f (by decide) (br_f (by decide) ?_)))))))))
    refine zy_ly (by omega) ?_
    refine br_f (by decide) (br_f (by decide) (br_t (by decide) ?_))
    refine zy_take r1 p1 hS rfl rfl t5 o0 (Or.inr (by rw [v1, p3 o4])) ?_
    refine br_f (by decide) (br_f (by decide) (br_f (by decide) (br_t (by decide) ?_)))
    refine br_t (by decide) ?_
    refine ⟨by rw [l3']; exact l4, nm_r (e' := vp_updL loc (8 * a + j) (cel (12 * a + (zc_S (T f p) - 1)))) (by rw [l3', l5, v2]) (br_f (by decide) hp)⟩
  · exact zu_finN H R s1 (by omega) pk_us zu_z1 (fun y hy => pk_uLn (by omega)) hlc r5
theorem zu_o15 (H : zu_S pa tb re len ops sT sF sM imm nc T N) (hsg : zc_sg pa lo re nc) (R : zu_R nc nfu T N tb re aF aA aT aP aZ aL lP lF vt cel val loc glo a f p w) (hi : imm (64 * f + p) = im) (H1 : zt_1 pa tb re nc f (ops (64 * f + p)) im (T f p) (T f (p + 1)) p 15) : ∃ (us' dep' top' pc' tr' ytr' nx' tk' : Int32) (lr' : Int64) (mem' aF' aA' aT' aZ' aL' lP' lF' vt' : Nat → Int32) (glo' cel' loc' val' : Nat → Int64), zu_XS (zu_F nc nfu T N tb re aP us' dep' top' pc' tr' ytr' nx' aF' aA' aT' aZ' aL' lP' lF' vt' glo' cel' loc' val' a (zu_P nfu w p aA a - 1)) (fl, cl, ms, fu, cnt, opn, tu, oc, fc, cu, pu, mk, lr, nI w, nI (a + 1), nI (12 * a + zc_S (T f p)), nI p, 0, pa, lo, tb, re, sta, len, ops, imm, sT, sF, sM, oT, fK, fT, fH, fU, fS, fC, arg, glo, mem, aF, aA, aT, cel, loc) (fl, cl, ms, fu, cnt, opn, tu, oc, fc, cu, pu, mk, lr', us', dep', top', pc', tr', pa, lo, tb, re, sta, len, ops, imm, sT, sF, sM, oT, fK, fT, fH, fU, fS, fC, arg, glo', mem', aF', aA', aT', cel', loc') ∧ (∀ post : SY → Prop, post (fl, cl, ms, fu, cnt, opn, er, sz, dp, dep', ytr', nx', us', tk', lr', pa, lo, tb, re, sta, len, ops, ty, kd, bk, hh, dd, aF', aP, aZ', aL', lP', lF', vt', (fun j => mem' j &&& 255), imm, val', loc', glo', arg) → wpY_run post (fl, cl, ms, fu, cnt, opn, er, sz, dp, nI (a + 1), 0, nI (p + 1), nI w, tk, lr, pa, lo, tb, re, sta, len, ops, ty, kd, bk, hh, dd, aF, aP, aZ, aL, lP, lF, vt, (fun j => mem j &&& 255), imm, val, loc, glo, arg) (nI 15) im) ∧ zu_F nc nfu T N tb re aP us' dep' top' pc' tr' ytr' nx' aF' aA' aT' aZ' aL' lP' lF' vt' glo' cel' loc' val' a (zu_P nfu w p aA a) := by
  obtain ⟨r1, r2, r3, ⟨t1, t2, t3, t4, t5, t6, t7, t8, t9⟩, r5⟩ := id R
  have hS := H1.2.2.1.2.2.1
  have hN := H f t1
  have h4 := hsg.1
  obtain ⟨s1, s2, s3, s4, s5⟩ := zu_st H1 (by decide) rfl
  obtain ⟨j, hj, ej⟩ := H1.2.2.2.1.2.2.2.1 (Or.inr (Or.inr rfl))
  have ei : im.toInt32 = nI j := by rw [ej, lN_i]
  obtain ⟨l1, l2, l3, l4, l5⟩ := zu_la (a := a) r1 hj
  have l3' : 8 * nI a + im.toInt32 = nI (8 * a + j) := by rw [ei]; exact l3
  have o0 : zc_ly tb f im.toInt32 ≠ 0 := by rcases zp_ly3 tb f im.toInt32 with z | z <;> rw [z] <;> decide
  have o4 : zc_ly tb f im.toInt32 ≠ 4 := by rcases zp_ly3 tb f im.toInt32 with z | z <;> rw [z] <;> decide
  obtain ⟨p1, p2, p3, p4, p5⟩ := zu_p1 H1 t8 o0 s2
  have ecur : (zc_plan pa tb re f (T f p) im 15).2.1 = zc_S (T f p) - 1 := by show (zc_pl (T f p) [zc_ly tb f im.toInt32] (0, zc_S (T f p))).2 = _; rw [p2]
  rw [ecur] at s1
  obtain ⟨v1, v2, v3⟩ := t6 (zc_S (T f p) - 1) (by omega)
  have hsx : zc_ly tb f im.toInt32 = 1 → zu_sx (cel (12 * a + (zc_S (T f p) - 1))) := fun z => v3 (by rw [p3 o4]; exact z)
  have hlc := zu_lcu (v := cel (12 * a + (zc_S (T f p) - 1))) (j := j) t9 (fun z => hsx (by rw [ei]; exact z))
  refine ⟨nI w, nI (a + 1), nI (12 * a + (zc_S (T f p) - 1 + 1)), nI (p + 1), 0, 0, nI (p + 1), vt (16 * a + (zc_S (T f p) - 1)), lr, mem, aF, upd aA a (nI p), aT, upd (upd aZ a (nI (zc_S (T f p) - 1))) a (nI (zc_S (T f p) - 1 + 1)), aL, lP, lF, upd vt (16 * a + (zc_S (T f p) - 1)) (zc_ly tb f im.toInt32), glo, vp_updL cel (12 * a + (zc_S (T f p) - 1)) (cel (12 * a + (zc_S (T f p) - 1))), vp_updL loc (8 * a + j) (cel (12 * a + (zc_S (T f p) - 1))), vp_updL val (16 * a + (zc_S (T f p) - 1)) (zu_cut (zc_ly tb f im.toInt32) (cel (12 * a + (zc_S (T f p) - 1)))), Or.inl (fun post hp => ?_), fun post hp => ?_, ?_⟩
  · refine zx_hd r1 rfl rfl (by omega) t2 hN.2.1 hN.1 t4 (by decide) H1.2.1 hi (fun z => by omega) (fun _ _ => ?_) (fun z => by omega) (fun z => by omega)
    refine nm_r (e' := nI j) (by rw [ei]; exact l1) (nm_r l2 ?_)
    refine br_f (by decide) (br_f (by decide) (br_f (by decide) (br_f (by decide) (br_f (by decide) (br_f (by decide) (br_t (by decide) ?_))))))
    exact zx_take r1 p1 hS rfl rfl ⟨l4, nm_r (e' := vp_updL loc (8 * a + j) (cel (12 * a + (zc_S (T f p) - 1)))) (by rw [l5]) (zx_put r1 (by omega) rfl rfl hp)⟩
  · refine zy_hd r1 rfl t2 t3 (by decide) (by decide) (zy_277 (by decide) (by decide) ?_)
    refine br_f (by decide) (br_f (by decide) (br_f (by decide) (br_f (by decide) (br_f (by decide) (br_f (by decide) (br_f (by decide) (br_f (by decide) (br_f (by decide) (br_f (by decide) ?_)))))))))
    refine zy_ly (by omega) ?_
    refine br_f (by decide) (br_f (by decide) (br_t (by decide) ?_))
    refine zy_take r1 p1 hS rfl rfl t5 o0 (Or.inr (by rw [v1, p3 o4])) ?_
    refine br_f (by decide) (br_t (by decide) ?_)
    rw [v2]
    refine zy_put r1 (by omega) rfl rfl pk_us o0 ?_
    refine br_f (by decide) (br_t (by decide) ?_)
    refine ⟨by rw [l3']; exact l4, nm_r (e' := vp_updL loc (8 * a + j) (cel (12 * a + (zc_S (T f p) - 1)))) (by rw [l3', l5]) (br_f (by decide) hp)⟩
  · exact zu_finP H R o0 s1 (by omega) (zu_cut1 hsx) hsx pk_us zu_z2 (fun y hy => pk_uLn (by omega)) hlc r5
/-- the address of a global -/
theorem zu_ga {j : Nat} (hj : j < 2) : (nI j &&& 7) &&& 1 = nI j ∧ vp_in (nI j) 2 ∧ (nI j).toNatClampNeg = j := by
  refine ⟨?_, vp_in_nI hj (by decide), nI_clamp (by omega)⟩
  have : j = 0 ∨ j = 1 := by omega
  rcases this with rfl | rfl <;> decide
theorem zu_o16 (H : zu_S pa tb re len ops sT sF sM imm nc T N) (hsg : zc_sg pa lo re nc) (R : zu_R nc nfu T N tb re aF aA aT aP aZ aL lP lF vt cel val loc glo a f p w) (hi : imm (64 * f + p) = im) (H1 : zt_1 pa tb re nc f (ops (64 * f + p)) im (T f p) (T f (p + 1)) p 16) : ∃ (us' dep' top' pc' tr' ytr' nx' tk' : Int32) (lr' : Int64) (mem' aF' aA' aT' aZ' aL' lP' lF' vt' : Nat → Int32) (glo' cel' loc' val' : Nat → Int64), zu_XS (zu_F nc nfu T N tb re aP us' dep' top' pc' tr' ytr' nx' aF' aA' aT' aZ' aL' lP' lF' vt' glo' cel' loc' val' a (zu_P nfu w p aA a - 1)) (fl, cl, ms, fu, cnt, opn, tu, oc, fc, cu, pu, mk, lr, nI w, nI (a + 1), nI (12 * a + zc_S (T f p)), nI p, 0, pa, lo, tb, re, sta, len, ops, imm, sT, sF, sM, oT, fK, fT, fH, fU, fS, fC, arg, glo, mem, aF, aA, aT, cel, loc) (fl, cl, ms, fu, cnt, opn, tu, oc, fc, cu, pu, mk, lr', us', dep', top', pc', tr', pa, lo, tb, re, sta, len, ops, imm, sT, sF, sM, oT, fK, fT, fH, fU, fS, fC, arg, glo', mem', aF', aA', aT', cel', loc') ∧ (∀ post : SY → Prop, post (fl, cl, ms, fu, cnt, opn, er, sz, dp, dep', ytr', nx', us', tk', lr', pa, lo, tb, re, sta, len, ops, ty, kd, bk, hh, dd, aF', aP, aZ', aL', lP', lF', vt', (fun j => mem' j &&& 255), imm, val', loc', glo', arg) → wpY_run post (fl, cl, ms, fu, cnt, opn, er, sz, dp, nI (a + 1), 0, nI (p + 1), nI w, tk, lr, pa, lo, tb, re, sta, len, ops, ty, kd, bk, hh, dd, aF, aP, aZ, aL, lP, lF, vt, (fun j => mem j &&& 255), imm, val, loc, glo, arg) (nI 16) im) ∧ zu_F nc nfu T N tb re aP us' dep' top' pc' tr' ytr' nx' aF' aA' aT' aZ' aL' lP' lF' vt' glo' cel' loc' val' a (zu_P nfu w p aA a) := by
  obtain ⟨r1, r2, r3, ⟨t1, t2, t3, t4, t5, t6, t7, t8, t9⟩, r5⟩ := id R
  have hS := H1.2.2.1.2.2.1
  have hN := H f t1
  have h4 := hsg.1
  obtain ⟨s1, s2, s3, s4, s5⟩ := zu_st H1 (by decide) rfl
  obtain ⟨j, hj, ej⟩ := H1.2.2.2.1.2.2.2.2.1 (Or.inl rfl)
  have ei : im.toInt32 = nI j := by rw [ej, lN_i]
  obtain ⟨l1, l2, l3⟩ := zu_ga hj
  have l1' : (im.toInt32 &&& 7) &&& 1 = nI j := by rw [ei]; exact l1
  have o0 : im.toInt32 + 1 ≠ 0 := by
    rw [ei, nI_1]; exact nI_ne0 (by omega) (by omega)
  have s1' : T f (p + 1) = zc_set (T f p) (zc_S (T f p)) (im.toInt32 + 1) 0 := s1
  have s3' : zc_S (T f p) + zc_o (im.toInt32 + 1) ≤ 12 := s3
  rw [zc_o1 o0] at s3'
  have hsx : im.toInt32 + 1 = 1 → zu_sx (glo j) := fun z => by
    rw [ei, nI_1] at z
    have := (nI_eq (b := 1) (by omega) (by decide)).mp z
    have e : j = 0 := by omega
    rw [e]; exact r5
  refine ⟨nI w, nI (a + 1), nI (12 * a + (zc_S (T f p) + 1)), nI (p + 1), 0, 0, nI (p + 1), tk, lr, mem, aF, upd aA a (nI p), aT, upd aZ a (nI (zc_S (T f p) + 1)), aL, lP, lF, upd vt (16 * a + zc_S (T f p)) (im.toInt32 + 1), glo, vp_updL cel (12 * a + zc_S (T f p)) (glo j), loc, vp_updL val (16 * a + zc_S (T f p)) (zu_cut (im.toInt32 + 1) (glo j)), Or.inl (fun post hp => ?_), fun post hp => ?_, ?_⟩
  · refine zx_hd r1 rfl rfl (by omega) t2 hN.2.1 hN.1 t4 (by decide) H1.2.1 hi (fun z => by omega) (fun _ _ => ?_) (fun z => by omega) (fun z => by omega)
    refine nm_e (nm_e ?_)
    refine br_f (by decide) (br_f (by decide) (br_f (by decide) (br_f (by decide) (br_f (by decide) (br_f (by decide) (br_f (by decide) (br_t (by decide) ?_)))))))
    rw [l1', l3]
    exact ⟨l2, zx_put r1 (by omega) rfl rfl hp⟩
  · refine zy_hd r1 rfl t2 t3 (by decide) (by decide) (zy_277 (by decide) (by decide) ?_)
    refine br_f (by decide) (br_f (by decide) (br_f (by decide) (br_f (by decide) (br_f (by decide) (br_f (by decide) (br_f (by decide) (br_f (by decide) (br_f (by decide) (br_t (by decide) (br_f (by decide) ?_))))))))))
    refine br_f (by decide) (br_t (by decide) ?_)
    have l2' : vp_in im.toInt32 2 := by rw [ei]; exact l2
    have l3' : im.toInt32.toNatClampNeg = j := by rw [ei]; exact l3
    refine ⟨l2', ?_⟩
    rw [l3']
    refine br_f (by decide) (br_f (by decide) (br_t (by decide) ?_))
    refine zy_put r1 (by omega) rfl rfl t5 o0 ?_
    refine br_f (by decide) (br_f (by decide) (br_f (by decide) ?_))
    exact hp
  · exact zu_finP H R o0 s1' (Nat.le_refl _) (zu_cut1 hsx) hsx pk_us zu_z1 (fun _ _ => rfl) t9 r5
theorem zu_o17 (H : zu_S pa tb re len ops sT sF sM imm nc T N) (hsg : zc_sg pa lo re nc) (R : zu_R nc nfu T N tb re aF aA aT aP aZ aL lP lF vt cel val loc glo a f p w) (hi : imm (64 * f + p) = im) (H1 : zt_1 pa tb re nc f (ops (64 * f + p)) im (T f p) (T f (p + 1)) p 17) : ∃ (us' dep' top' pc' tr' ytr' nx' tk' : Int32) (lr' : Int64) (mem' aF' aA' aT' aZ' aL' lP' lF' vt' : Nat → Int32) (glo' cel' loc' val' : Nat → Int64), zu_XS (zu_F nc nfu T N tb re aP us' dep' top' pc' tr' ytr' nx' aF' aA' aT' aZ' aL' lP' lF' vt' glo' cel' loc' val' a (zu_P nfu w p aA a - 1)) (fl, cl, ms, fu, cnt, opn, tu, oc, fc, cu, pu, mk, lr, nI w, nI (a + 1), nI (12 * a + zc_S (T f p)), nI p, 0, pa, lo, tb, re, sta, len, ops, imm, sT, sF, sM, oT, fK, fT, fH, fU, fS, fC, arg, glo, mem, aF, aA, aT, cel, loc) (fl, cl, ms, fu, cnt, opn, tu, oc, fc, cu, pu, mk, lr', us', dep', top', pc', tr', pa, lo, tb, re, sta, len, ops, imm, sT, sF, sM, oT, fK, fT, fH, fU, fS, fC, arg, glo', mem', aF', aA', aT', cel', loc') ∧ (∀ post : SY → Prop, post (fl, cl, ms, fu, cnt, opn, er, sz, dp, dep', ytr', nx', us', tk', lr', pa, lo, tb, re, sta, len, ops, ty, kd, bk, hh, dd, aF', aP, aZ', aL', lP', lF', vt', (fun j => mem' j &&& 255), imm, val', loc', glo', arg) → wpY_run post (fl, cl, ms, fu, cnt, opn, er, sz, dp, nI (a + 1), 0, nI (p + 1), nI w, tk, lr, pa, lo, tb, re, sta, len, ops, ty, kd, bk, hh, dd, aF, aP, aZ, aL, lP, lF, vt, (fun j => mem j &&& 255), imm, val, loc, glo, arg) (nI 17) im) ∧ zu_F nc nfu T N tb re aP us' dep' top' pc' tr' ytr' nx' aF' aA' aT' aZ' aL' lP' lF' vt' glo' cel' loc' val' a (zu_P nfu w p aA a) := by
  obtain ⟨r1, r2, r3, ⟨t1, t2, t3, t4, t5, t6, t7, t8, t9⟩, r5⟩ := id R
  have hS := H1.2.2.1.2.2.1
  have hN := H f t1
  have h4 := hsg.1
  obtain ⟨s1, s2, s3, s4, s5⟩ := zu_st H1 (by decide) rfl
  obtain ⟨j, hj, ej⟩ := H1.2.2.2.1.2.2.2.2.1 (Or.inr rfl)
  have ei : im.toInt32 = nI j := by rw [ej, lN_i]
  obtain ⟨l1, l2, l3⟩ := zu_ga hj
  have l1' : (im.toInt32 &&& 7) &&& 1 = nI j := by rw [ei]; exact l1
  have o0 : im.toInt32 + 1 ≠ 0 := by
    rw [ei, nI_1]; exact nI_ne0 (by omega) (by omega)
  have o4 : im.toInt32 + 1 ≠ 4 := by
    rw [ei, nI_1]; intro z
    have := (nI_eq (b := 4) (by omega) (by decide)).mp z
    omega
  obtain ⟨p1, p2, p3, p4, p5⟩ := zu_p1 H1 t8 o0 s2
  have ecur : (zc_plan pa tb re f (T f p) im 17).2.1 = zc_S (T f p) - 1 := by show (zc_pl (T f p) [im.toInt32 + 1] (0, zc_S (T f p))).2 = _; rw [p2]
  rw [ecur] at s1
  obtain ⟨v1, v2, v3⟩ := t6 (zc_S (T f p) - 1) (by omega)
  have hg : zu_sx (vp_updL glo j (cel (12 * a + (zc_S (T f p) - 1))) 0) := by
    by_cases z : j = 0
    · subst z
      rw [pk_uLs]
      refine v3 ?_
      rw [p3 o4, ei]; rfl
    · rw [pk_uLn (by omega)]; exact r5
  refine ⟨nI w, nI (a + 1), nI (12 * a + (zc_S (T f p) - 1)), nI (p + 1), 0, 0, nI (p + 1), vt (16 * a + (zc_S (T f p) - 1)), lr, mem, aF, upd aA a (nI p), aT, upd aZ a (nI (zc_S (T f p) - 1)), aL, lP, lF, vt, vp_updL glo j (cel (12 * a + (zc_S (T f p) - 1))), cel, loc, val, Or.inl (fun post hp => ?_), fun post hp => ?_, ?_⟩
  · refine zx_hd r1 rfl rfl (by omega) t2 hN.2.1 hN.1 t4 (by decide) H1.2.1 hi (fun z => by omega) (fun _ _ => ?_) (fun z => by omega) (fun z => by omega)
    refine nm_e (nm_e ?_)
    refine br_f (by decide) (br_f (by decide) (br_f (by decide) (br_f (by decide) (br_f (by decide) (br_f (by decide) (br_f (by decide) (br_f (by decide) ?_)))))))
    refine br_t (by decide) (zx_take r1 p1 hS rfl rfl ?_)
    refine ⟨by rw [l1']; exact l2, nm_r (e' := vp_updL glo j (cel (12 * a + (zc_S (T f p) - 1)))) (by rw [l1', l3]) hp⟩
  · refine zy_hd r1 rfl t2 t3 (by decide) (by decide) (zy_277 (by decide) (by decide) ?_)
    refine br_f (by decide) (br_f (by decide) (br_f (by decide) (br_f (by decide) (br_f (by decide) (br_f (by decide) (br_f (by decide) (br_f (by decide) (br_f (by decide) (br_t (by decide) (br_f (by decide) ?_))))))))))
    refine br_f (by decide) (br_f (by decide) (br_t (by decide) ?_))
    refine zy_take r1 p1 hS rfl rfl t5 o0 (Or.inr (by rw [v1, p3 o4])) ?_
    refine br_f (by decide) (br_f (by decide) (br_f (by decide) (br_t (by decide) (br_f (by decide) (br_f (by decide) ?_)))))
    have l2' : vp_in im.toInt32 2 := by rw [ei]; exact l2
    have l3' : im.toInt32.toNatClampNeg = j := by rw [ei]; exact l3
    rw [v2]
    exact br_t (by decide) ⟨l2', nm_r (e' := vp_updL glo j (cel (12 * a + (zc_S (T f p) - 1)))) (by rw [l3']) hp⟩
  · exact zu_finN H R s1 (by omega) pk_us zu_z1 (fun _ _ => rfl) t9 hg
theorem zu_o18 (H : zu_S pa tb re len ops sT sF sM imm nc T N) (hsg : zc_sg pa lo re nc) (R : zu_R nc nfu T N tb re aF aA aT aP aZ aL lP lF vt cel val loc glo a f p w) (hi : imm (64 * f + p) = im) (H1 : zt_1 pa tb re nc f (ops (64 * f + p)) im (T f p) (T f (p + 1)) p 18) : ∃ (us' dep' top' pc' tr' ytr' nx' tk' : Int32) (lr' : Int64) (mem' aF' aA' aT' aZ' aL' lP' lF' vt' : Nat → Int32) (glo' cel' loc' val' : Nat → Int64), zu_XS (zu_F nc nfu T N tb re aP us' dep' top' pc' tr' ytr' nx' aF' aA' aT' aZ' aL' lP' lF' vt' glo' cel' loc' val' a (zu_P nfu w p aA a - 1)) (fl, cl, ms, fu, cnt, opn, tu, oc, fc, cu, pu, mk, lr, nI w, nI (a + 1), nI (12 * a + zc_S (T f p)), nI p, 0, pa, lo, tb, re, sta, len, ops, imm, sT, sF, sM, oT, fK, fT, fH, fU, fS, fC, arg, glo, mem, aF, aA, aT, cel, loc) (fl, cl, ms, fu, cnt, opn, tu, oc, fc, cu, pu, mk, lr', us', dep', top', pc', tr', pa, lo, tb, re, sta, len, ops, imm, sT, sF, sM, oT, fK, fT, fH, fU, fS, fC, arg, glo', mem', aF', aA', aT', cel', loc') ∧ (∀ post : SY → Prop, post (fl, cl, ms, fu, cnt, opn, er, sz, dp, dep', ytr', nx', us', tk', lr', pa, lo, tb, re, sta, len, ops, ty, kd, bk, hh, dd, aF', aP, aZ', aL', lP', lF', vt', (fun j => mem' j &&& 255), imm, val', loc', glo', arg) → wpY_run post (fl, cl, ms, fu, cnt, opn, er, sz, dp, nI (a + 1), 0, nI (p + 1), nI w, tk, lr, pa, lo, tb, re, sta, len, ops, ty, kd, bk, hh, dd, aF, aP, aZ, aL, lP, lF, vt, (fun j => mem j &&& 255), imm, val, loc, glo, arg) (nI 18) im) ∧ zu_F nc nfu T N tb re aP us' dep' top' pc' tr' ytr' nx' aF' aA' aT' aZ' aL' lP' lF' vt' glo' cel' loc' val' a (zu_P nfu w p aA a) := by
  obtain ⟨r1, r2, r3, ⟨t1, t2, t3, t4, t5, t6, t7, t8, t9⟩, r5⟩ := id R
  have hS := H1.2.2.1.2.2.1
  have hN := H f t1
  have h4 := hsg.1
  obtain ⟨s1, s2, s3, s4, s5⟩ := zu_st H1 (by decide) rfl
  have hsx : zu_sx im := H1.2.2.2.1.2.2.2.2.2.1 rfl
  have s1' : T f (p + 1) = zc_set (T f p) (zc_S (T f p)) 1 0 := s1
  have s3' : zc_S (T f p) + zc_o 1 ≤ 12 := s3
  rw [zc_o1 (by decide)] at s3'
  refine ⟨nI w, nI (a + 1), nI (12 * a + (zc_S (T f p) + 1)), nI (p + 1), 0, 0, nI (p + 1), tk, lr, mem, aF, upd aA a (nI p), aT, upd aZ a (nI (zc_S (T f p) + 1)), aL, lP, lF, upd vt (16 * a + zc_S (T f p)) 1, glo, vp_updL cel (12 * a + zc_S (T f p)) im, loc, vp_updL val (16 * a + zc_S (T f p)) (zu_cut 1 im), Or.inl (fun post hp => ?_), fun post hp => ?_, ?_⟩
  · refine zx_hd r1 rfl rfl (by omega) t2 hN.2.1 hN.1 t4 (by decide) H1.2.1 hi (fun z => by omega) (fun _ _ => ?_) (fun z => by omega) (fun z => by omega)
    refine nm_e (nm_e ?_)
    refine br_f (by decide) (br_t (by decide) ?_)
    exact zx_put r1 (by omega) rfl rfl hp
  · refine zy_hd r1 rfl t2 t3 (by decide) (by decide) (zy_277 (by decide) (by decide) ?_)
    refine br_f (by decide) (br_f (by decide) (br_f (by decide) (br_f (by decide) (br_f (by decide) (br_f (by decide) (br_f (by decide) (br_f (by decide) (br_f (by decide) (br_t (by decide) (br_t (by decide) ?_))))))))))
    refine br_f (by decide) (br_f (by decide) (br_f (by decide) ?_))
    rw [show nI 18 - 17 = 1 from by decide]
    refine br_f (by decide) (br_f (by decide) (br_f (by decide) (br_f (by decide) ?_)))
    refine zy_put r1 (by omega) rfl rfl t5 (by decide) ?_
    refine br_f (by decide) (br_f (by decide) (br_f (by decide) ?_))
    exact hp
  · exact zu_finP H R (by decide) s1' (Nat.le_refl _) (zu_cut1 (fun _ => hsx)) (fun _ => hsx) pk_us zu_z1 (fun _ _ => rfl) t9 r5
theorem zu_o19 (H : zu_S pa tb re len ops sT sF sM imm nc T N) (hsg : zc_sg pa lo re nc) (R : zu_R nc nfu T N tb re aF aA aT aP aZ aL lP lF vt cel val loc glo a f p w) (hi : imm (64 * f + p) = im) (H1 : zt_1 pa tb re nc f (ops (64 * f + p)) im (T f p) (T f (p + 1)) p 19) : ∃ (us' dep' top' pc' tr' ytr' nx' tk' : Int32) (lr' : Int64) (mem' aF' aA' aT' aZ' aL' lP' lF' vt' : Nat → Int32) (glo' cel' loc' val' : Nat → Int64), zu_XS (zu_F nc nfu T N tb re aP us' dep' top' pc' tr' ytr' nx' aF' aA' aT' aZ' aL' lP' lF' vt' glo' cel' loc' val' a (zu_P nfu w p aA a - 1)) (fl, cl, ms, fu, cnt, opn, tu, oc, fc, cu, pu, mk, lr, nI w, nI (a + 1), nI (12 * a + zc_S (T f p)), nI p, 0, pa, lo, tb, re, sta, len, ops, imm, sT, sF, sM, oT, fK, fT, fH, fU, fS, fC, arg, glo, mem, aF, aA, aT, cel, loc) (fl, cl, ms, fu, cnt, opn, tu, oc, fc, cu, pu, mk, lr', us', dep', top', pc', tr', pa, lo, tb, re, sta, len, ops, imm, sT, sF, sM, oT, fK, fT, fH, fU, fS, fC, arg, glo', mem', aF', aA', aT', cel', loc') ∧ (∀ post : SY → Prop, post (fl, cl, ms, fu, cnt, opn, er, sz, dp, dep', ytr', nx', us', tk', lr', pa, lo, tb, re, sta, len, ops, ty, kd, bk, hh, dd, aF', aP, aZ', aL', lP', lF', vt', (fun j => mem' j &&& 255), imm, val', loc', glo', arg) → wpY_run post (fl, cl, ms, fu, cnt, opn, er, sz, dp, nI (a + 1), 0, nI (p + 1), nI w, tk, lr, pa, lo, tb, re, sta, len, ops, ty, kd, bk, hh, dd, aF, aP, aZ, aL, lP, lF, vt, (fun j => mem j &&& 255), imm, val, loc, glo, arg) (nI 19) im) ∧ zu_F nc nfu T N tb re aP us' dep' top' pc' tr' ytr' nx' aF' aA' aT' aZ' aL' lP' lF' vt' glo' cel' loc' val' a (zu_P nfu w p aA a) := by
  obtain ⟨r1, r2, r3, ⟨t1, t2, t3, t4, t5, t6, t7, t8, t9⟩, r5⟩ := id R
  have hS := H1.2.2.1.2.2.1
  have hN := H f t1
  have h4 := hsg.1
  obtain ⟨s1, s2, s3, s4, s5⟩ := zu_st H1 (by decide) rfl
  have s1' : T f (p + 1) = zc_set (T f p) (zc_S (T f p)) 2 0 := s1
  have s3' : zc_S (T f p) + zc_o 2 ≤ 12 := s3
  rw [zc_o1 (by decide)] at s3'
  refine ⟨nI w, nI (a + 1), nI (12 * a + (zc_S (T f p) + 1)), nI (p + 1), 0, 0, nI (p + 1), tk, lr, mem, aF, upd aA a (nI p), aT, upd aZ a (nI (zc_S (T f p) + 1)), aL, lP, lF, upd vt (16 * a + zc_S (T f p)) 2, glo, vp_updL cel (12 * a + zc_S (T f p)) im, loc, vp_updL val (16 * a + zc_S (T f p)) (zu_cut 2 im), Or.inl (fun post hp => ?_), fun post hp => ?_, ?_⟩
  · refine zx_hd r1 rfl rfl (by omega) t2 hN.2.1 hN.1 t4 (by decide) H1.2.1 hi (fun z => by omega) (fun _ _ => ?_) (fun z => by omega) (fun z => by omega)
    refine nm_e (nm_e ?_)
    refine br_f (by decide) (br_t (by decide) ?_)
    exact zx_put r1 (by omega) rfl rfl hp
  · refine zy_hd r1 rfl t2 t3 (by decide) (by decide) (zy_277 (by decide) (by decide) ?_)
    refine br_f (by decide) (br_f (by decide) (br_f (by decide) (br_f (by decide) (br_f (by decide) (br_f (by decide) (br_f (by decide) (br_f (by decide) (br_f (by decide) (br_t (by decide) (br_t (by decide) ?_))))))))))
    refine br_f (by decide) (br_f (by decide) (br_f (by decide) ?_))
    rw [show nI 19 - 17 = 2 from by decide]
    refine br_f (by decide) (br_f (by decide) (br_f (by decide) (br_f (by decide) ?_)))
    refine zy_put r1 (by omega) rfl rfl t5 (by decide) ?_
    refine br_f (by decide) (br_f (by decide) (br_f (by decide) ?_))
    exact hp
  · exact zu_finP H R (by decide) s1' (Nat.le_refl _) (if_neg (by decide)) (fun z => absurd z (by decide)) pk_us zu_z1 (fun _ _ => rfl) t9 r5
theorem zu_o12 (H : zu_S pa tb re len ops sT sF sM imm nc T N) (hsg : zc_sg pa lo re nc) (R : zu_R nc nfu T N tb re aF aA aT aP aZ aL lP lF vt cel val loc glo a f p w) (hi : imm (64 * f + p) = im) (H1 : zt_1 pa tb re nc f (ops (64 * f + p)) im (T f p) (T f (p + 1)) p 12) : ∃ (us' dep' top' pc' tr' ytr' nx' tk' : Int32) (lr' : Int64) (mem' aF' aA' aT' aZ' aL' lP' lF' vt' : Nat → Int32) (glo' cel' loc' val' : Nat → Int64), zu_XS (zu_F nc nfu T N tb re aP us' dep' top' pc' tr' ytr' nx' aF' aA' aT' aZ' aL' lP' lF' vt' glo' cel' loc' val' a (zu_P nfu w p aA a - 1)) (fl, cl, ms, fu, cnt, opn, tu, oc, fc, cu, pu, mk, lr, nI w, nI (a + 1), nI (12 * a + zc_S (T f p)), nI p, 0, pa, lo, tb, re, sta, len, ops, imm, sT, sF, sM, oT, fK, fT, fH, fU, fS, fC, arg, glo, mem, aF, aA, aT, cel, loc) (fl, cl, ms, fu, cnt, opn, tu, oc, fc, cu, pu, mk, lr', us', dep', top', pc', tr', pa, lo, tb, re, sta, len, ops, imm, sT, sF, sM, oT, fK, fT, fH, fU, fS, fC, arg, glo', mem', aF', aA', aT', cel', loc') ∧ (∀ post : SY → Prop, post (fl, cl, ms, fu, cnt, opn, er, sz, dp, dep', ytr', nx', us', tk', lr', pa, lo, tb, re, sta, len, ops, ty, kd, bk, hh, dd, aF', aP, aZ', aL', lP', lF', vt', (fun j => mem' j &&& 255), imm, val', loc', glo', arg) → wpY_run post (fl, cl, ms, fu, cnt, opn, er, sz, dp, nI (a + 1), 0, nI (p + 1), nI w, tk, lr, pa, lo, tb, re, sta, len, ops, ty, kd, bk, hh, dd, aF, aP, aZ, aL, lP, lF, vt, (fun j => mem j &&& 255), imm, val, loc, glo, arg) (nI 12) im) ∧ zu_F nc nfu T N tb re aP us' dep' top' pc' tr' ytr' nx' aF' aA' aT' aZ' aL' lP' lF' vt' glo' cel' loc' val' a (zu_P nfu w p aA a) := by
  obtain ⟨r1, r2, r3, ⟨t1, t2, t3, t4, t5, t6, t7, t8, t9⟩, r5⟩ := id R
  have hok := H1.2.2.1
  have hS := hok.2.2.1
  have hN := H f t1
  have h4 := hsg.1
  obtain ⟨s1, s2, s3, s4, s5⟩ := zu_st H1 (by decide) rfl
  -- the three pops
  have e12 : zc_pl (T f p) [1, 4] (0, zc_S (T f p)) = (zc_p (T f p) 4 (zc_pl (T f p) [1] (0, zc_S (T f p)))).2 := rfl
  have y0 : (zc_p (T f p) 4 (zc_pl (T f p) [1, 4] (0, zc_S (T f p)))).2.1 = 0 := by
    have q : (if (zc_p (T f p) 4 (zc_pl (T f p) [1] (0, zc_S (T f p)))).1 ≠ (zc_p (T f p) 4 (zc_pl (T f p) [1, 4] (0, zc_S (T f p)))).1 ∧ (zc_p (T f p) 4 (zc_pl (T f p) [1] (0, zc_S (T f p)))).1 ≠ 3 ∧ (zc_p (T f p) 4 (zc_pl (T f p) [1, 4] (0, zc_S (T f p)))).1 ≠ 3 then -8 else (zc_p (T f p) 4 (zc_pl (T f p) [1, 4] (0, zc_S (T f p)))).2.1) = 0 := s2
    split at q
    · exact absurd q (by decide)
    · exact q
  have x0 : (zc_pl (T f p) [1, 4] (0, zc_S (T f p))).1 = 0 := Classical.byContradiction fun z => by
    rw [zp_err _ _ _ z] at y0; exact z y0
  obtain ⟨p1, p2, p3, p4, p5, p6⟩ := zu_p2 H1 t8 (t := 1) (s := 4) (by decide) (by decide) x0
  have w0 : (zc_pl (T f p) [1] (0, zc_S (T f p))).1 = 0 := Classical.byContradiction fun z => by
    rw [e12, zp_err _ _ _ z] at x0; exact z x0
  obtain ⟨a1, a2, a3, a4, a5⟩ := zu_p1 H1 t8 (t := 1) (by decide) w0
  rw [p2] at y0
  obtain ⟨g1, g2, g3, g4⟩ := zu_p hok t8 (s := zc_S (T f p) - 2) (by omega) (by have := zp_lge (T f p) [1, 4] (0, zc_S (T f p)) hok.2.2.2.2.2.1; rw [p2] at this; exact this) (by decide) y0
  have xq : zc_p (T f p) 4 (0, zc_S (T f p) - 1) = (zc_T (T f p) (zc_S (T f p) - 2), 0, zc_S (T f p) - 2) := by
    obtain ⟨_, b2, _, _⟩ := zu_p hok t8 (s := zc_S (T f p) - 1) (t := 4) (by omega) (by omega) (by decide) (by rw [e12, a2] at x0; exact x0)
    rw [b2]
    have e3 : zc_S (T f p) - 1 - 1 = zc_S (T f p) - 2 := by omega
    rw [e3]
  have e33 : zc_S (T f p) - 2 - 1 = zc_S (T f p) - 3 := by omega
  rw [e33] at g2 g3 g4
  have eP : zc_plan pa tb re f (T f p) im 12 = zc_sl (zc_T (T f p) (zc_S (T f p) - 2), 0, zc_S (T f p) - 2) (zc_T (T f p) (zc_S (T f p) - 3), 0, zc_S (T f p) - 3) := by
    show zc_sl (zc_p (T f p) 4 (zc_pl (T f p) [1] (0, zc_S (T f p)))) (zc_p (T f p) 4 (zc_pl (T f p) [1, 4] (0, zc_S (T f p)))) = _
    rw [a2, p2, xq, g2]
  rw [eP] at s1 s2
  have n3 : zc_T (T f p) (zc_S (T f p) - 2) ≠ 3 := by rcases p6 with z | z <;> rw [z] <;> decide
  have n3' : zc_T (T f p) (zc_S (T f p) - 3) ≠ 3 := by rcases g4 with z | z <;> rw [z] <;> decide
  have eT : zc_T (T f p) (zc_S (T f p) - 2) = zc_T (T f p) (zc_S (T f p) - 3) := Classical.byContradiction fun z => by
    have q : (if zc_T (T f p) (zc_S (T f p) - 2) ≠ zc_T (T f p) (zc_S (T f p) - 3) ∧ zc_T (T f p) (zc_S (T f p) - 2) ≠ 3 ∧ zc_T (T f p) (zc_S (T f p) - 3) ≠ 3 then (-8 : Int32) else 0) = 0 := s2
    rw [if_pos ⟨z, n3, n3'⟩] at q
    exact absurd q (by decide)
  have s1' : T f (p + 1) = zc_set (T f p) (zc_S (T f p) - 3) (zc_T (T f p) (zc_S (T f p) - 3)) 0 := by
    rw [s1]
    show zc_set (T f p) (zc_S (T f p) - 3) (if zc_T (T f p) (zc_S (T f p) - 2) = 3 then _ else zc_T (T f p) (zc_S (T f p) - 2)) 0 = _
    rw [if_neg n3, eT]
  have o0 : zc_T (T f p) (zc_S (T f p) - 3) ≠ 0 := by rcases g4 with z | z <;> rw [z] <;> decide
  obtain ⟨u1, u2, u3⟩ := t6 (zc_S (T f p) - 1) (by omega)
  obtain ⟨v1, v2, v3⟩ := t6 (zc_S (T f p) - 2) (by omega)
  obtain ⟨w1, w2, w3⟩ := t6 (zc_S (T f p) - 3) (by omega)
  have e1 : 12 * a + (zc_S (T f p) - 1 - 1) = 12 * a + (zc_S (T f p) - 2) := by omega
  have hc : ∃ r : Int64, ((cel (12 * a + (zc_S (T f p) - 1)) = 0 ∧ r = cel (12 * a + (zc_S (T f p) - 2))) ∨ (cel (12 * a + (zc_S (T f p) - 1)) ≠ 0 ∧ r = cel (12 * a + (zc_S (T f p) - 3)))) := by
    by_cases z : cel (12 * a + (zc_S (T f p) - 1)) = 0
    · exact ⟨_, Or.inl ⟨z, rfl⟩⟩
    · exact ⟨_, Or.inr ⟨z, rfl⟩⟩
  obtain ⟨r, hr⟩ := hc
  have hsx : zc_T (T f p) (zc_S (T f p) - 3) = 1 → zu_sx r := fun z => by
    rcases hr with ⟨_, hr⟩ | ⟨_, hr⟩ <;> rw [hr]
    · exact v3 (by rw [eT]; exact z)
    · exact w3 z
  have es2 : zc_S (T f p) - 1 - 1 = zc_S (T f p) - 2 := by omega
  have es3 : zc_S (T f p) - 2 - 1 = zc_S (T f p) - 3 := by omega
  have es4 : zc_S (T f p) - 3 + 1 = zc_S (T f p) - 2 := by omega
  refine ⟨nI w, nI (a + 1), nI (12 * a + (zc_S (T f p) - 3 + 1)), nI (p + 1), 0, 0, nI (p + 1), vt (16 * a + (zc_S (T f p) - 3)), lr, mem, aF, upd aA a (nI p), aT, upd (upd (upd (upd aZ a (nI (zc_S (T f p) - 1))) a (nI (zc_S (T f p) - 2))) a (nI (zc_S (T f p) - 3))) a (nI (zc_S (T f p) - 3 + 1)), aL, lP, lF, upd vt (16 * a + (zc_S (T f p) - 3)) (zc_T (T f p) (zc_S (T f p) - 3)), glo, vp_updL cel (12 * a + (zc_S (T f p) - 3)) r, loc, vp_updL val (16 * a + (zc_S (T f p) - 3)) (zu_cut (zc_T (T f p) (zc_S (T f p) - 3)) r), Or.inl (fun post hp => ?_), fun post hp => ?_, ?_⟩
  · refine zx_hd r1 rfl rfl (by omega) t2 hN.2.1 hN.1 t4 (by decide) H1.2.1 hi (fun z => by omega) (fun _ _ => ?_) (fun z => by omega) (fun z => by omega)
    refine nm_e (nm_e ?_)
    refine br_f (by decide) (br_f (by decide) (br_f (by decide) (br_t (by decide) ?_)))
    unfold wpX_runSelect
    refine zx_take r1 (z := zc_S (T f p)) (by omega) hS rfl rfl (zx_take r1 (z := zc_S (T f p) - 1) (by omega) (by omega) rfl rfl (zx_take r1 (z := zc_S (T f p) - 2) (by omega) (by omega) rfl (by rw [es2]) ?_))
    rw [es2, es3]
    rcases hr with ⟨h0, hr⟩ | ⟨h0, hr⟩ <;> rw [hr] at hp
    · exact br_t h0 (zx_put r1 (by omega) rfl rfl hp)
    · exact br_f h0 (zx_put r1 (by omega) rfl rfl hp)
  · refine zy_hdt r1 rfl t2 t3 (by decide) (by decide) (by omega) hS rfl t5 (by rw [u1, a3 (by decide)]) (zy_277 (by decide) (by decide) ?_)
    refine br_f (by decide) (br_f (by decide) (br_f (by decide) (br_f (by decide) (br_f (by decide) (br_f (by decide) (br_t (by decide) ?_))))))
    refine zy_take r1 (z := zc_S (T f p) - 1) (by omega) (by omega) rfl rfl pk_us (by decide) (Or.inl rfl) ?_
    rw [es2]
    refine zy_take r1 (z := zc_S (T f p) - 2) (by omega) (by omega) rfl rfl pk_us (by decide) (Or.inl rfl) ?_
    rw [es3, u2, v2, w2, w1]
    rw [w1] at hp
    rcases hr with ⟨h0, hr⟩ | ⟨h0, hr⟩ <;> rw [hr] at hp
    · exact br_t h0 (zy_put r1 (by omega) rfl rfl pk_us o0 hp)
    · exact br_f h0 (zy_put r1 (by omega) rfl rfl pk_us o0 hp)
  · exact zu_finP H R o0 s1' (by omega) (zu_cut1 hsx) hsx pk_us zu_z4 (fun _ _ => rfl) t9 r5
end
end
section
/-! the run: numeric instructions -/
section
variable {fl cl ms fu cnt opn tu oc fc cu pu mk us dep top pc tr er sz dp ytr nx tk : Int32} {lr : Int64} {pa lo tb re sta len ops sT sF sM oT fK fT fH fU fS fC mem aF aA aT ty kd bk hh dd aP aZ aL lP lF vt byt : Nat → Int32} {imm arg glo cel loc val : Nat → Int64} {nc nfu : Nat} {T : Nat → Nat → zc_C} {N : Nat → Nat} {a f p w k q fuel : Nat} {im r x9 x15 : Int64} {t x17 : Int32}
theorem zy_364 {post : SY → Prop} (hq : q < 38) (h : wpY_put (fun u => match u with | (fl, cl, ms, fu, cnt, opn, er, sz, dp, dep, ytr, nx, us, tk, lr, pa, lo, tb, re, sta, len, ops, ty, kd, bk, hh, dd, aF, aP, aZ, aL, lP, lF, vt, byt, imm, val, loc, glo, arg) => post (fl, cl, ms, fu, cnt, opn, er, sz, dp, dep, ytr, nx, us, tk, lr, pa, lo, tb, re, sta, len, ops, ty, kd, bk, hh, dd, aF, aP, aZ, aL, lP, lF, vt, byt, imm, val, loc, glo, arg)) (fl, cl, ms, fu, cnt, opn, er, sz, dp, dep, ytr, nx, us, tk, lr, pa, lo, tb, re, sta, len, ops, ty, kd, bk, hh, dd, aF, aP, aZ, aL, lP, lF, vt, byt, imm, val, loc, glo, arg) t r) : wY_numeric_364 post t (nI q) x9 x15 fl cl ms fu cnt opn er sz dp dep ytr nx us tk lr (fuel + 1) r x17 pa lo tb re sta len ops ty kd bk hh dd aF aP aZ aL lP lF vt byt imm val loc glo arg :=
  br_c (fun _ => h) (fun _ => pk_lt q 38 (fun _ => h) (fun _ => by omega))
theorem zy_putT {post : SY → Prop} (h : ytr ≠ 0) (hp : post (fl, cl, ms, fu, cnt, opn, er, sz, dp, dep, ytr, nx, us, tk, lr, pa, lo, tb, re, sta, len, ops, ty, kd, bk, hh, dd, aF, aP, aZ, aL, lP, lF, vt, byt, imm, val, loc, glo, arg)) : wpY_put post (fl, cl, ms, fu, cnt, opn, er, sz, dp, dep, ytr, nx, us, tk, lr, pa, lo, tb, re, sta, len, ops, ty, kd, bk, hh, dd, aF, aP, aZ, aL, lP, lF, vt, byt, imm, val, loc, glo, arg) t r := by
  by_cases z : t = 0
  · exact br_t z hp
  · exact br_f z (br_f h hp)
theorem zu_sx1 : zu_sx 1 := by unfold zu_sx; decide
theorem zu_sx0 : zu_sx 0 := by unfold zu_sx; decide
theorem zu_sxc (v : Int64) : zu_sx v.toInt32.toInt64 := by unfold zu_sx; rw [Int32.toInt32_toInt64]
theorem zu_sxi {v : Int64} : zu_sx v ↔ -2147483648 ≤ v.toInt ∧ v.toInt ≤ 2147483647 := by
  unfold zu_sx
  rw [zi_sx, Int64.lt_iff_toInt_lt, Int64.lt_iff_toInt_lt, show (-2147483648 : Int64).toInt = -2147483648 from by decide, show (2147483647 : Int64).toInt = 2147483647 from by decide]
  omega
theorem zu_o21 (H : zu_S pa tb re len ops sT sF sM imm nc T N) (hsg : zc_sg pa lo re nc) (R : zu_R nc nfu T N tb re aF aA aT aP aZ aL lP lF vt cel val loc glo a f p w) (hi : imm (64 * f + p) = im) (H1 : zt_1 pa tb re nc f (ops (64 * f + p)) im (T f p) (T f (p + 1)) p 21) : ∃ (us' dep' top' pc' tr' ytr' nx' tk' : Int32) (lr' : Int64) (mem' aF' aA' aT' aZ' aL' lP' lF' vt' : Nat → Int32) (glo' cel' loc' val' : Nat → Int64), zu_XS (zu_F nc nfu T N tb re aP us' dep' top' pc' tr' ytr' nx' aF' aA' aT' aZ' aL' lP' lF' vt' glo' cel' loc' val' a (zu_P nfu w p aA a - 1)) (fl, cl, ms, fu, cnt, opn, tu, oc, fc, cu, pu, mk, lr, nI w, nI (a + 1), nI (12 * a + zc_S (T f p)), nI p, 0, pa, lo, tb, re, sta, len, ops, imm, sT, sF, sM, oT, fK, fT, fH, fU, fS, fC, arg, glo, mem, aF, aA, aT, cel, loc) (fl, cl, ms, fu, cnt, opn, tu, oc, fc, cu, pu, mk, lr', us', dep', top', pc', tr', pa, lo, tb, re, sta, len, ops, imm, sT, sF, sM, oT, fK, fT, fH, fU, fS, fC, arg, glo', mem', aF', aA', aT', cel', loc') ∧ (∀ post : SY → Prop, post (fl, cl, ms, fu, cnt, opn, er, sz, dp, dep', ytr', nx', us', tk', lr', pa, lo, tb, re, sta, len, ops, ty, kd, bk, hh, dd, aF', aP, aZ', aL', lP', lF', vt', (fun j => mem' j &&& 255), imm, val', loc', glo', arg) → wpY_run post (fl, cl, ms, fu, cnt, opn, er, sz, dp, nI (a + 1), 0, nI (p + 1), nI w, tk, lr, pa, lo, tb, re, sta, len, ops, ty, kd, bk, hh, dd, aF, aP, aZ, aL, lP, lF, vt, (fun j => mem j &&& 255), imm, val, loc, glo, arg) (nI 21) im) ∧ zu_F nc nfu T N tb re aP us' dep' top' pc' tr' ytr' nx' aF' aA' aT' aZ' aL' lP' lF' vt' glo' cel' loc' val' a (zu_P nfu w p aA a) := by
  obtain ⟨r1, r2, r3, ⟨t1, t2, t3, t4, t5, t6, t7, t8, t9⟩, r5⟩ := id R
  have hok := H1.2.2.1
  have hS := hok.2.2.1
  have hN := H f t1
  have h4 := hsg.1
  obtain ⟨s1, s2, s3, s4, s5⟩ := zu_st H1 (by decide) rfl
  have s2' : (zc_pl (T f p) [1, 1] (0, zc_S (T f p))).1 = 0 := s2
  obtain ⟨p1, p2, p3, p4, p5, p6⟩ := zu_p2 H1 t8 (by decide) (by decide) s2'
  have ecur : (zc_plan pa tb re f (T f p) im 21).2.1 = zc_S (T f p) - 2 := by show (zc_pl (T f p) [1, 1] (0, zc_S (T f p))).2 = _; rw [p2]
  rw [ecur] at s1
  obtain ⟨u1, u2, u3⟩ := t6 (zc_S (T f p) - 1) (by omega)
  obtain ⟨v1, v2, v3⟩ := t6 (zc_S (T f p) - 2) (by omega)
  have es2 : zc_S (T f p) - 1 - 1 = zc_S (T f p) - 2 := by omega
  have y1 : vt (16 * a + (zc_S (T f p) - 1)) = 1 := by rw [u1, p3 (by decide)]
  have y2 : vt (16 * a + (zc_S (T f p) - 1 - 1)) = 1 := by rw [es2, v1, p4 (by decide)]
  have s1' : T f (p + 1) = zc_set (T f p) (zc_S (T f p) - 2) 1 0 := s1
  have hc : ∃ r : Int64, (((cel (12 * a + (zc_S (T f p) - 2))) = (cel (12 * a + (zc_S (T f p) - 1)))) ∧ r = 1) ∨ (¬ ((cel (12 * a + (zc_S (T f p) - 2))) = (cel (12 * a + (zc_S (T f p) - 1)))) ∧ r = 0) := by
    by_cases z : ((cel (12 * a + (zc_S (T f p) - 2))) = (cel (12 * a + (zc_S (T f p) - 1))))
    · exact ⟨1, Or.inl ⟨z, rfl⟩⟩
    · exact ⟨0, Or.inr ⟨z, rfl⟩⟩
  obtain ⟨r, hr⟩ := hc
  have hsx : zu_sx r := by
    rcases hr with ⟨_, hr⟩ | ⟨_, hr⟩ <;> rw [hr]
    · exact zu_sx1
    · exact zu_sx0
  refine ⟨nI w, nI (a + 1), nI (12 * a + (zc_S (T f p) - 2 + 1)), nI (p + 1), 0, 0, nI (p + 1), vt (16 * a + (zc_S (T f p) - 2)), lr, mem, aF, upd aA a (nI p), aT, upd (upd (upd aZ a (nI (zc_S (T f p) - 1))) a (nI (zc_S (T f p) - 2))) a (nI (zc_S (T f p) - 2 + 1)), aL, lP, lF, upd vt (16 * a + (zc_S (T f p) - 2)) 1, glo, vp_updL cel (12 * a + (zc_S (T f p) - 2)) r, loc, vp_updL val (16 * a + (zc_S (T f p) - 2)) (zu_cut 1 r), Or.inl (fun post hp => ?_), fun post hp => ?_, ?_⟩
  · refine zx_hd r1 rfl rfl (by omega) t2 hN.2.1 hN.1 t4 (by decide) H1.2.1 hi (fun z => by omega) (fun z => by omega) (fun _ _ => ?_) (fun z => by omega)
    refine br_f (by decide) (br_f (by decide) (br_f (by decide) (br_f (by decide) (br_t (by decide) (br_t (by decide) ?_)))))
    refine zx_take r1 (z := zc_S (T f p)) (by omega) hS rfl rfl (zx_take r1 (z := zc_S (T f p) - 1) (by omega) (by omega) rfl rfl ?_)
    rw [es2]
    refine br_t (by decide) (br_f (by decide) (br_f (by decide) (br_t (by decide) ?_)))
    rcases hr with ⟨h0, hr⟩ | ⟨h0, hr⟩ <;> subst hr
    · refine br_t h0 ?_
      refine br_t (by decide) ?_
      exact zx_put r1 (by omega) rfl rfl hp
    · refine br_f h0 ?_
      refine br_t (by decide) ?_
      exact zx_put r1 (by omega) rfl rfl hp
  · refine zy_hd r1 rfl t2 t3 (by decide) (by decide) (zy_277 (by decide) (by decide) ?_)
    refine br_f (by decide) (br_f (by decide) (br_f (by decide) (br_f (by decide) (br_f (by decide) (br_f (by decide) (br_f (by decide) (br_t (by decide) ?_)))))))
    unfold wpY_numeric
    refine zy_f1 (by decide) (zy_f2 (by decide) (by decide) (zy_f3 (by decide) ?_))
    rw [show zc_f1 21 = 1 from by decide, show zc_f2 21 = 1 from by decide, show zc_f3 21 = 1 from by decide]
    refine br_t (by decide) (br_f (by decide) ?_)
    refine zy_take r1 (z := zc_S (T f p)) (by omega) hS rfl rfl t5 (by decide) (Or.inr y1) (zy_take r1 (z := zc_S (T f p) - 1) (by omega) (by omega) rfl rfl pk_us (by decide) (Or.inr y2) ?_)
    rw [es2]
    refine br_f (by decide) (nm_e (br_t rfl ?_))
    rw [u2, v2]
    refine br_f (by decide) (br_f (by decide) (br_t (by decide) ?_))
    rcases hr with ⟨h0, hr⟩ | ⟨h0, hr⟩ <;> subst hr
    · exact br_t h0 (nm_e ⟨1, zy_364 (q := 21) (by decide) (zy_put r1 (by omega) rfl rfl pk_us (by decide) hp)⟩)
    · exact br_f h0 (nm_e ⟨1, zy_364 (q := 21) (by decide) (zy_put r1 (by omega) rfl rfl pk_us (by decide) hp)⟩)
  · exact zu_finP H R (by decide) s1' (by omega) (zu_cut1 (fun _ => hsx)) (fun _ => hsx) pk_us zu_z3 (fun _ _ => rfl) t9 r5
theorem zu_o22 (H : zu_S pa tb re len ops sT sF sM imm nc T N) (hsg : zc_sg pa lo re nc) (R : zu_R nc nfu T N tb re aF aA aT aP aZ aL lP lF vt cel val loc glo a f p w) (hi : imm (64 * f + p) = im) (H1 : zt_1 pa tb re nc f (ops (64 * f + p)) im (T f p) (T f (p + 1)) p 22) : ∃ (us' dep' top' pc' tr' ytr' nx' tk' : Int32) (lr' : Int64) (mem' aF' aA' aT' aZ' aL' lP' lF' vt' : Nat → Int32) (glo' cel' loc' val' : Nat → Int64), zu_XS (zu_F nc nfu T N tb re aP us' dep' top' pc' tr' ytr' nx' aF' aA' aT' aZ' aL' lP' lF' vt' glo' cel' loc' val' a (zu_P nfu w p aA a - 1)) (fl, cl, ms, fu, cnt, opn, tu, oc, fc, cu, pu, mk, lr, nI w, nI (a + 1), nI (12 * a + zc_S (T f p)), nI p, 0, pa, lo, tb, re, sta, len, ops, imm, sT, sF, sM, oT, fK, fT, fH, fU, fS, fC, arg, glo, mem, aF, aA, aT, cel, loc) (fl, cl, ms, fu, cnt, opn, tu, oc, fc, cu, pu, mk, lr', us', dep', top', pc', tr', pa, lo, tb, re, sta, len, ops, imm, sT, sF, sM, oT, fK, fT, fH, fU, fS, fC, arg, glo', mem', aF', aA', aT', cel', loc') ∧ (∀ post : SY → Prop, post (fl, cl, ms, fu, cnt, opn, er, sz, dp, dep', ytr', nx', us', tk', lr', pa, lo, tb, re, sta, len, ops, ty, kd, bk, hh, dd, aF', aP, aZ', aL', lP', lF', vt', (fun j => mem' j &&& 255), imm, val', loc', glo', arg) → wpY_run post (fl, cl, ms, fu, cnt, opn, er, sz, dp, nI (a + 1), 0, nI (p + 1), nI w, tk, lr, pa, lo, tb, re, sta, len, ops, ty, kd, bk, hh, dd, aF, aP, aZ, aL, lP, lF, vt, (fun j => mem j &&& 255), imm, val, loc, glo, arg) (nI 22) im) ∧ zu_F nc nfu T N tb re aP us' dep' top' pc' tr' ytr' nx' aF' aA' aT' aZ' aL' lP' lF' vt' glo' cel' loc' val' a (zu_P nfu w p aA a) := by
  obtain ⟨r1, r2, r3, ⟨t1, t2, t3, t4, t5, t6, t7, t8, t9⟩, r5⟩ := id R
  have hok := H1.2.2.1
  have hS := hok.2.2.1
  have hN := H f t1
  have h4 := hsg.1
  obtain ⟨s1, s2, s3, s4, s5⟩ := zu_st H1 (by decide) rfl
  have s2' : (zc_pl (T f p) [1, 1] (0, zc_S (T f p))).1 = 0 := s2
  obtain ⟨p1, p2, p3, p4, p5, p6⟩ := zu_p2 H1 t8 (by decide) (by decide) s2'
  have ecur : (zc_plan pa tb re f (T f p) im 22).2.1 = zc_S (T f p) - 2 := by show (zc_pl (T f p) [1, 1] (0, zc_S (T f p))).2 = _; rw [p2]
  rw [ecur] at s1
  obtain ⟨u1, u2, u3⟩ := t6 (zc_S (T f p) - 1) (by omega)
  obtain ⟨v1, v2, v3⟩ := t6 (zc_S (T f p) - 2) (by omega)
  have es2 : zc_S (T f p) - 1 - 1 = zc_S (T f p) - 2 := by omega
  have y1 : vt (16 * a + (zc_S (T f p) - 1)) = 1 := by rw [u1, p3 (by decide)]
  have y2 : vt (16 * a + (zc_S (T f p) - 1 - 1)) = 1 := by rw [es2, v1, p4 (by decide)]
  have s1' : T f (p + 1) = zc_set (T f p) (zc_S (T f p) - 2) 1 0 := s1
  have hc : ∃ r : Int64, ((¬ (cel (12 * a + (zc_S (T f p) - 1))) ≤ (cel (12 * a + (zc_S (T f p) - 2)))) ∧ r = 1) ∨ (¬ (¬ (cel (12 * a + (zc_S (T f p) - 1))) ≤ (cel (12 * a + (zc_S (T f p) - 2)))) ∧ r = 0) := by
    by_cases z : (¬ (cel (12 * a + (zc_S (T f p) - 1))) ≤ (cel (12 * a + (zc_S (T f p) - 2))))
    · exact ⟨1, Or.inl ⟨z, rfl⟩⟩
    · exact ⟨0, Or.inr ⟨z, rfl⟩⟩
  obtain ⟨r, hr⟩ := hc
  have hsx : zu_sx r := by
    rcases hr with ⟨_, hr⟩ | ⟨_, hr⟩ <;> rw [hr]
    · exact zu_sx1
    · exact zu_sx0
  refine ⟨nI w, nI (a + 1), nI (12 * a + (zc_S (T f p) - 2 + 1)), nI (p + 1), 0, 0, nI (p + 1), vt (16 * a + (zc_S (T f p) - 2)), lr, mem, aF, upd aA a (nI p), aT, upd (upd (upd aZ a (nI (zc_S (T f p) - 1))) a (nI (zc_S (T f p) - 2))) a (nI (zc_S (T f p) - 2 + 1)), aL, lP, lF, upd vt (16 * a + (zc_S (T f p) - 2)) 1, glo, vp_updL cel (12 * a + (zc_S (T f p) - 2)) r, loc, vp_updL val (16 * a + (zc_S (T f p) - 2)) (zu_cut 1 r), Or.inl (fun post hp => ?_), fun post hp => ?_, ?_⟩
  · refine zx_hd r1 rfl rfl (by omega) t2 hN.2.1 hN.1 t4 (by decide) H1.2.1 hi (fun z => by omega) (fun z => by omega) (fun _ _ => ?_) (fun z => by omega)
    refine br_f (by decide) (br_f (by decide) (br_f (by decide) (br_f (by decide) (br_t (by decide) (br_t (by decide) ?_)))))
    refine zx_take r1 (z := zc_S (T f p)) (by omega) hS rfl rfl (zx_take r1 (z := zc_S (T f p) - 1) (by omega) (by omega) rfl rfl ?_)
    rw [es2]
    refine br_t (by decide) (br_f (by decide) (br_f (by decide) (br_f (by decide) (br_t (by decide) ?_))))
    rcases hr with ⟨h0, hr⟩ | ⟨h0, hr⟩ <;> subst hr
    · refine br_f h0 ?_
      refine br_t (by decide) ?_
      exact zx_put r1 (by omega) rfl rfl hp
    · refine br_t (Classical.not_not.mp h0) ?_
      refine br_t (by decide) ?_
      exact zx_put r1 (by omega) rfl rfl hp
  · refine zy_hd r1 rfl t2 t3 (by decide) (by decide) (zy_277 (by decide) (by decide) ?_)
    refine br_f (by decide) (br_f (by decide) (br_f (by decide) (br_f (by decide) (br_f (by decide) (br_f (by decide) (br_f (by decide) (br_t (by decide) ?_)))))))
    unfold wpY_numeric
    refine zy_f1 (by decide) (zy_f2 (by decide) (by decide) (zy_f3 (by decide) ?_))
    rw [show zc_f1 22 = 1 from by decide, show zc_f2 22 = 1 from by decide, show zc_f3 22 = 1 from by decide]
    refine br_t (by decide) (br_f (by decide) ?_)
    refine zy_take r1 (z := zc_S (T f p)) (by omega) hS rfl rfl t5 (by decide) (Or.inr y1) (zy_take r1 (z := zc_S (T f p) - 1) (by omega) (by omega) rfl rfl pk_us (by decide) (Or.inr y2) ?_)
    rw [es2]
    refine br_f (by decide) (nm_e (br_t rfl ?_))
    rw [u2, v2]
    refine br_f (by decide) (br_f (by decide) (br_f (by decide) ?_))
    rcases hr with ⟨h0, hr⟩ | ⟨h0, hr⟩ <;> subst hr
    · exact br_f h0 (nm_e ⟨1, zy_364 (q := 22) (by decide) (zy_put r1 (by omega) rfl rfl pk_us (by decide) hp)⟩)
    · exact br_t (Classical.not_not.mp h0) (nm_e ⟨1, zy_364 (q := 22) (by decide) (zy_put r1 (by omega) rfl rfl pk_us (by decide) hp)⟩)
  · exact zu_finP H R (by decide) s1' (by omega) (zu_cut1 (fun _ => hsx)) (fun _ => hsx) pk_us zu_z3 (fun _ _ => rfl) t9 r5
theorem zu_o23 (H : zu_S pa tb re len ops sT sF sM imm nc T N) (hsg : zc_sg pa lo re nc) (R : zu_R nc nfu T N tb re aF aA aT aP aZ aL lP lF vt cel val loc glo a f p w) (hi : imm (64 * f + p) = im) (H1 : zt_1 pa tb re nc f (ops (64 * f + p)) im (T f p) (T f (p + 1)) p 23) : ∃ (us' dep' top' pc' tr' ytr' nx' tk' : Int32) (lr' : Int64) (mem' aF' aA' aT' aZ' aL' lP' lF' vt' : Nat → Int32) (glo' cel' loc' val' : Nat → Int64), zu_XS (zu_F nc nfu T N tb re aP us' dep' top' pc' tr' ytr' nx' aF' aA' aT' aZ' aL' lP' lF' vt' glo' cel' loc' val' a (zu_P nfu w p aA a - 1)) (fl, cl, ms, fu, cnt, opn, tu, oc, fc, cu, pu, mk, lr, nI w, nI (a + 1), nI (12 * a + zc_S (T f p)), nI p, 0, pa, lo, tb, re, sta, len, ops, imm, sT, sF, sM, oT, fK, fT, fH, fU, fS, fC, arg, glo, mem, aF, aA, aT, cel, loc) (fl, cl, ms, fu, cnt, opn, tu, oc, fc, cu, pu, mk, lr', us', dep', top', pc', tr', pa, lo, tb, re, sta, len, ops, imm, sT, sF, sM, oT, fK, fT, fH, fU, fS, fC, arg, glo', mem', aF', aA', aT', cel', loc') ∧ (∀ post : SY → Prop, post (fl, cl, ms, fu, cnt, opn, er, sz, dp, dep', ytr', nx', us', tk', lr', pa, lo, tb, re, sta, len, ops, ty, kd, bk, hh, dd, aF', aP, aZ', aL', lP', lF', vt', (fun j => mem' j &&& 255), imm, val', loc', glo', arg) → wpY_run post (fl, cl, ms, fu, cnt, opn, er, sz, dp, nI (a + 1), 0, nI (p + 1), nI w, tk, lr, pa, lo, tb, re, sta, len, ops, ty, kd, bk, hh, dd, aF, aP, aZ, aL, lP, lF, vt, (fun j => mem j &&& 255), imm, val, loc, glo, arg) (nI 23) im) ∧ zu_F nc nfu T N tb re aP us' dep' top' pc' tr' ytr' nx' aF' aA' aT' aZ' aL' lP' lF' vt' glo' cel' loc' val' a (zu_P nfu w p aA a) := by
  obtain ⟨r1, r2, r3, ⟨t1, t2, t3, t4, t5, t6, t7, t8, t9⟩, r5⟩ := id R
  have hok := H1.2.2.1
  have hS := hok.2.2.1
  have hN := H f t1
  have h4 := hsg.1
  obtain ⟨s1, s2, s3, s4, s5⟩ := zu_st H1 (by decide) rfl
  have s2' : (zc_pl (T f p) [1, 1] (0, zc_S (T f p))).1 = 0 := s2
  obtain ⟨p1, p2, p3, p4, p5, p6⟩ := zu_p2 H1 t8 (by decide) (by decide) s2'
  have ecur : (zc_plan pa tb re f (T f p) im 23).2.1 = zc_S (T f p) - 2 := by show (zc_pl (T f p) [1, 1] (0, zc_S (T f p))).2 = _; rw [p2]
  rw [ecur] at s1
  obtain ⟨u1, u2, u3⟩ := t6 (zc_S (T f p) - 1) (by omega)
  obtain ⟨v1, v2, v3⟩ := t6 (zc_S (T f p) - 2) (by omega)
  have es2 : zc_S (T f p) - 1 - 1 = zc_S (T f p) - 2 := by omega
  have y1 : vt (16 * a + (zc_S (T f p) - 1)) = 1 := by rw [u1, p3 (by decide)]
  have y2 : vt (16 * a + (zc_S (T f p) - 1 - 1)) = 1 := by rw [es2, v1, p4 (by decide)]
  have s1' : T f (p + 1) = zc_set (T f p) (zc_S (T f p) - 2) 1 0 := s1
  refine ⟨nI w, nI (a + 1), nI (12 * a + (zc_S (T f p) - 2 + 1)), nI (p + 1), 0, 0, nI (p + 1), vt (16 * a + (zc_S (T f p) - 2)), lr, mem, aF, upd aA a (nI p), aT, upd (upd (upd aZ a (nI (zc_S (T f p) - 1))) a (nI (zc_S (T f p) - 2))) a (nI (zc_S (T f p) - 2 + 1)), aL, lP, lF, upd vt (16 * a + (zc_S (T f p) - 2)) 1, glo, vp_updL cel (12 * a + (zc_S (T f p) - 2)) (((cel (12 * a + (zc_S (T f p) - 2))) + (cel (12 * a + (zc_S (T f p) - 1))))).toInt32.toInt64, loc, vp_updL val (16 * a + (zc_S (T f p) - 2)) (zu_cut 1 ((cel (12 * a + (zc_S (T f p) - 2))) + (cel (12 * a + (zc_S (T f p) - 1))))), Or.inl (fun post hp => ?_), fun post hp => ?_, ?_⟩
  · refine zx_hd r1 rfl rfl (by omega) t2 hN.2.1 hN.1 t4 (by decide) H1.2.1 hi (fun z => by omega) (fun z => by omega) (fun _ _ => ?_) (fun z => by omega)
    refine br_f (by decide) (br_f (by decide) (br_f (by decide) (br_f (by decide) (br_t (by decide) (br_t (by decide) ?_)))))
    refine zx_take r1 (z := zc_S (T f p)) (by omega) hS rfl rfl (zx_take r1 (z := zc_S (T f p) - 1) (by omega) (by omega) rfl rfl ?_)
    rw [es2]
    refine br_t (by decide) (br_f (by decide) (br_f (by decide) (br_f (by decide) (br_f (by decide) (br_t (by decide) ?_)))))
    refine nm_e ?_
    refine br_t (by decide) ?_
    exact zx_put r1 (by omega) rfl rfl hp
  · refine zy_hd r1 rfl t2 t3 (by decide) (by decide) (zy_277 (by decide) (by decide) ?_)
    refine br_f (by decide) (br_f (by decide) (br_f (by decide) (br_f (by decide) (br_f (by decide) (br_f (by decide) (br_f (by decide) (br_t (by decide) ?_)))))))
    unfold wpY_numeric
    refine zy_f1 (by decide) (zy_f2 (by decide) (by decide) (zy_f3 (by decide) ?_))
    rw [show zc_f1 23 = 1 from by decide, show zc_f2 23 = 1 from by decide, show zc_f3 23 = 1 from by decide]
    refine br_t (by decide) (br_f (by decide) ?_)
    refine zy_take r1 (z := zc_S (T f p)) (by omega) hS rfl rfl t5 (by decide) (Or.inr y1) (zy_take r1 (z := zc_S (T f p) - 1) (by omega) (by omega) rfl rfl pk_us (by decide) (Or.inr y2) ?_)
    rw [es2]
    refine br_f (by decide) (nm_e (br_t rfl ?_))
    rw [u2, v2]
    refine br_t (by decide) (br_f (by decide) (br_t (by decide) ?_))
    refine nm_e (nm_e ⟨1, zy_364 (q := 23) (by decide) ?_⟩)
    exact zy_put r1 (by omega) rfl rfl pk_us (by decide) hp
  · exact zu_finP H R (by decide) s1' (by omega) (if_pos rfl) (fun _ => zu_sxc _) pk_us zu_z3 (fun _ _ => rfl) t9 r5
theorem zu_o24 (H : zu_S pa tb re len ops sT sF sM imm nc T N) (hsg : zc_sg pa lo re nc) (R : zu_R nc nfu T N tb re aF aA aT aP aZ aL lP lF vt cel val loc glo a f p w) (hi : imm (64 * f + p) = im) (H1 : zt_1 pa tb re nc f (ops (64 * f + p)) im (T f p) (T f (p + 1)) p 24) : ∃ (us' dep' top' pc' tr' ytr' nx' tk' : Int32) (lr' : Int64) (mem' aF' aA' aT' aZ' aL' lP' lF' vt' : Nat → Int32) (glo' cel' loc' val' : Nat → Int64), zu_XS (zu_F nc nfu T N tb re aP us' dep' top' pc' tr' ytr' nx' aF' aA' aT' aZ' aL' lP' lF' vt' glo' cel' loc' val' a (zu_P nfu w p aA a - 1)) (fl, cl, ms, fu, cnt, opn, tu, oc, fc, cu, pu, mk, lr, nI w, nI (a + 1), nI (12 * a + zc_S (T f p)), nI p, 0, pa, lo, tb, re, sta, len, ops, imm, sT, sF, sM, oT, fK, fT, fH, fU, fS, fC, arg, glo, mem, aF, aA, aT, cel, loc) (fl, cl, ms, fu, cnt, opn, tu, oc, fc, cu, pu, mk, lr', us', dep', top', pc', tr', pa, lo, tb, re, sta, len, ops, imm, sT, sF, sM, oT, fK, fT, fH, fU, fS, fC, arg, glo', mem', aF', aA', aT', cel', loc') ∧ (∀ post : SY → Prop, post (fl, cl, ms, fu, cnt, opn, er, sz, dp, dep', ytr', nx', us', tk', lr', pa, lo, tb, re, sta, len, ops, ty, kd, bk, hh, dd, aF', aP, aZ', aL', lP', lF', vt', (fun j => mem' j &&& 255), imm, val', loc', glo', arg) → wpY_run post (fl, cl, ms, fu, cnt, opn, er, sz, dp, nI (a + 1), 0, nI (p + 1), nI w, tk, lr, pa, lo, tb, re, sta, len, ops, ty, kd, bk, hh, dd, aF, aP, aZ, aL, lP, lF, vt, (fun j => mem j &&& 255), imm, val, loc, glo, arg) (nI 24) im) ∧ zu_F nc nfu T N tb re aP us' dep' top' pc' tr' ytr' nx' aF' aA' aT' aZ' aL' lP' lF' vt' glo' cel' loc' val' a (zu_P nfu w p aA a) := by
  obtain ⟨r1, r2, r3, ⟨t1, t2, t3, t4, t5, t6, t7, t8, t9⟩, r5⟩ := id R
  have hok := H1.2.2.1
  have hS := hok.2.2.1
  have hN := H f t1
  have h4 := hsg.1
  obtain ⟨s1, s2, s3, s4, s5⟩ := zu_st H1 (by decide) rfl
  have s2' : (zc_pl (T f p) [1, 1] (0, zc_S (T f p))).1 = 0 := s2
  obtain ⟨p1, p2, p3, p4, p5, p6⟩ := zu_p2 H1 t8 (by decide) (by decide) s2'
  have ecur : (zc_plan pa tb re f (T f p) im 24).2.1 = zc_S (T f p) - 2 := by show (zc_pl (T f p) [1, 1] (0, zc_S (T f p))).2 = _; rw [p2]
  rw [ecur] at s1
  obtain ⟨u1, u2, u3⟩ := t6 (zc_S (T f p) - 1) (by omega)
  obtain ⟨v1, v2, v3⟩ := t6 (zc_S (T f p) - 2) (by omega)
  have es2 : zc_S (T f p) - 1 - 1 = zc_S (T f p) - 2 := by omega
  have y1 : vt (16 * a + (zc_S (T f p) - 1)) = 1 := by rw [u1, p3 (by decide)]
  have y2 : vt (16 * a + (zc_S (T f p) - 1 - 1)) = 1 := by rw [es2, v1, p4 (by decide)]
  have s1' : T f (p + 1) = zc_set (T f p) (zc_S (T f p) - 2) 1 0 := s1
  refine ⟨nI w, nI (a + 1), nI (12 * a + (zc_S (T f p) - 2 + 1)), nI (p + 1), 0, 0, nI (p + 1), vt (16 * a + (zc_S (T f p) - 2)), lr, mem, aF, upd aA a (nI p), aT, upd (upd (upd aZ a (nI (zc_S (T f p) - 1))) a (nI (zc_S (T f p) - 2))) a (nI (zc_S (T f p) - 2 + 1)), aL, lP, lF, upd vt (16 * a + (zc_S (T f p) - 2)) 1, glo, vp_updL cel (12 * a + (zc_S (T f p) - 2)) (((cel (12 * a + (zc_S (T f p) - 2))) - (cel (12 * a + (zc_S (T f p) - 1))))).toInt32.toInt64, loc, vp_updL val (16 * a + (zc_S (T f p) - 2)) (zu_cut 1 ((cel (12 * a + (zc_S (T f p) - 2))) - (cel (12 * a + (zc_S (T f p) - 1))))), Or.inl (fun post hp => ?_), fun post hp => ?_, ?_⟩
  · refine zx_hd r1 rfl rfl (by omega) t2 hN.2.1 hN.1 t4 (by decide) H1.2.1 hi (fun z => by omega) (fun z => by omega) (fun _ _ => ?_) (fun z => by omega)
    refine br_f (by decide) (br_f (by decide) (br_f (by decide) (br_f (by decide) (br_t (by decide) (br_t (by decide) ?_)))))
    refine zx_take r1 (z := zc_S (T f p)) (by omega) hS rfl rfl (zx_take r1 (z := zc_S (T f p) - 1) (by omega) (by omega) rfl rfl ?_)
    rw [es2]
    refine br_t (by decide) (br_f (by decide) (br_f (by decide) (br_f (by decide) (br_f (by decide) (br_f (by decide) (br_t (by decide) ?_))))))
    refine nm_e ?_
    refine br_t (by decide) ?_
    exact zx_put r1 (by omega) rfl rfl hp
  · refine zy_hd r1 rfl t2 t3 (by decide) (by decide) (zy_277 (by decide) (by decide) ?_)
    refine br_f (by decide) (br_f (by decide) (br_f (by decide) (br_f (by decide) (br_f (by decide) (br_f (by decide) (br_f (by decide) (br_t (by decide) ?_)))))))
    unfold wpY_numeric
    refine zy_f1 (by decide) (zy_f2 (by decide) (by decide) (zy_f3 (by decide) ?_))
    rw [show zc_f1 24 = 1 from by decide, show zc_f2 24 = 1 from by decide, show zc_f3 24 = 1 from by decide]
    refine br_t (by decide) (br_f (by decide) ?_)
    refine zy_take r1 (z := zc_S (T f p)) (by omega) hS rfl rfl t5 (by decide) (Or.inr y1) (zy_take r1 (z := zc_S (T f p) - 1) (by omega) (by omega) rfl rfl pk_us (by decide) (Or.inr y2) ?_)
    rw [es2]
    refine br_f (by decide) (nm_e (br_t rfl ?_))
    rw [u2, v2]
    refine br_t (by decide) (br_f (by decide) (br_f (by decide) (br_t (by decide) ?_)))
    refine nm_e (nm_e ⟨1, zy_364 (q := 24) (by decide) ?_⟩)
    exact zy_put r1 (by omega) rfl rfl pk_us (by decide) hp
  · exact zu_finP H R (by decide) s1' (by omega) (if_pos rfl) (fun _ => zu_sxc _) pk_us zu_z3 (fun _ _ => rfl) t9 r5
theorem zu_o25 (H : zu_S pa tb re len ops sT sF sM imm nc T N) (hsg : zc_sg pa lo re nc) (R : zu_R nc nfu T N tb re aF aA aT aP aZ aL lP lF vt cel val loc glo a f p w) (hi : imm (64 * f + p) = im) (H1 : zt_1 pa tb re nc f (ops (64 * f + p)) im (T f p) (T f (p + 1)) p 25) : ∃ (us' dep' top' pc' tr' ytr' nx' tk' : Int32) (lr' : Int64) (mem' aF' aA' aT' aZ' aL' lP' lF' vt' : Nat → Int32) (glo' cel' loc' val' : Nat → Int64), zu_XS (zu_F nc nfu T N tb re aP us' dep' top' pc' tr' ytr' nx' aF' aA' aT' aZ' aL' lP' lF' vt' glo' cel' loc' val' a (zu_P nfu w p aA a - 1)) (fl, cl, ms, fu, cnt, opn, tu, oc, fc, cu, pu, mk, lr, nI w, nI (a + 1), nI (12 * a + zc_S (T f p)), nI p, 0, pa, lo, tb, re, sta, len, ops, imm, sT, sF, sM, oT, fK, fT, fH, fU, fS, fC, arg, glo, mem, aF, aA, aT, cel, loc) (fl, cl, ms, fu, cnt, opn, tu, oc, fc, cu, pu, mk, lr', us', dep', top', pc', tr', pa, lo, tb, re, sta, len, ops, imm, sT, sF, sM, oT, fK, fT, fH, fU, fS, fC, arg, glo', mem', aF', aA', aT', cel', loc') ∧ (∀ post : SY → Prop, post (fl, cl, ms, fu, cnt, opn, er, sz, dp, dep', ytr', nx', us', tk', lr', pa, lo, tb, re, sta, len, ops, ty, kd, bk, hh, dd, aF', aP, aZ', aL', lP', lF', vt', (fun j => mem' j &&& 255), imm, val', loc', glo', arg) → wpY_run post (fl, cl, ms, fu, cnt, opn, er, sz, dp, nI (a + 1), 0, nI (p + 1), nI w, tk, lr, pa, lo, tb, re, sta, len, ops, ty, kd, bk, hh, dd, aF, aP, aZ, aL, lP, lF, vt, (fun j => mem j &&& 255), imm, val, loc, glo, arg) (nI 25) im) ∧ zu_F nc nfu T N tb re aP us' dep' top' pc' tr' ytr' nx' aF' aA' aT' aZ' aL' lP' lF' vt' glo' cel' loc' val' a (zu_P nfu w p aA a) := by
  obtain ⟨r1, r2, r3, ⟨t1, t2, t3, t4, t5, t6, t7, t8, t9⟩, r5⟩ := id R
  have hok := H1.2.2.1
  have hS := hok.2.2.1
  have hN := H f t1
  have h4 := hsg.1
  obtain ⟨s1, s2, s3, s4, s5⟩ := zu_st H1 (by decide) rfl
  have s2' : (zc_pl (T f p) [1, 1] (0, zc_S (T f p))).1 = 0 := s2
  obtain ⟨p1, p2, p3, p4, p5, p6⟩ := zu_p2 H1 t8 (by decide) (by decide) s2'
  have ecur : (zc_plan pa tb re f (T f p) im 25).2.1 = zc_S (T f p) - 2 := by show (zc_pl (T f p) [1, 1] (0, zc_S (T f p))).2 = _; rw [p2]
  rw [ecur] at s1
  obtain ⟨u1, u2, u3⟩ := t6 (zc_S (T f p) - 1) (by omega)
  obtain ⟨v1, v2, v3⟩ := t6 (zc_S (T f p) - 2) (by omega)
  have es2 : zc_S (T f p) - 1 - 1 = zc_S (T f p) - 2 := by omega
  have y1 : vt (16 * a + (zc_S (T f p) - 1)) = 1 := by rw [u1, p3 (by decide)]
  have y2 : vt (16 * a + (zc_S (T f p) - 1 - 1)) = 1 := by rw [es2, v1, p4 (by decide)]
  have s1' : T f (p + 1) = zc_set (T f p) (zc_S (T f p) - 2) 1 0 := s1
  refine ⟨nI w, nI (a + 1), nI (12 * a + (zc_S (T f p) - 2 + 1)), nI (p + 1), 0, 0, nI (p + 1), vt (16 * a + (zc_S (T f p) - 2)), lr, mem, aF, upd aA a (nI p), aT, upd (upd (upd aZ a (nI (zc_S (T f p) - 1))) a (nI (zc_S (T f p) - 2))) a (nI (zc_S (T f p) - 2 + 1)), aL, lP, lF, upd vt (16 * a + (zc_S (T f p) - 2)) 1, glo, vp_updL cel (12 * a + (zc_S (T f p) - 2)) (((cel (12 * a + (zc_S (T f p) - 2))) * (cel (12 * a + (zc_S (T f p) - 1))))).toInt32.toInt64, loc, vp_updL val (16 * a + (zc_S (T f p) - 2)) (zu_cut 1 ((cel (12 * a + (zc_S (T f p) - 2))) * (cel (12 * a + (zc_S (T f p) - 1))))), Or.inl (fun post hp => ?_), fun post hp => ?_, ?_⟩
  · refine zx_hd r1 rfl rfl (by omega) t2 hN.2.1 hN.1 t4 (by decide) H1.2.1 hi (fun z => by omega) (fun z => by omega) (fun _ _ => ?_) (fun z => by omega)
    refine br_f (by decide) (br_f (by decide) (br_f (by decide) (br_f (by decide) (br_t (by decide) (br_t (by decide) ?_)))))
    refine zx_take r1 (z := zc_S (T f p)) (by omega) hS rfl rfl (zx_take r1 (z := zc_S (T f p) - 1) (by omega) (by omega) rfl rfl ?_)
    rw [es2]
    refine br_t (by decide) (br_f (by decide) (br_t (by decide) ?_))
    refine nm_e ?_
    refine br_t (by decide) ?_
    exact zx_put r1 (by omega) rfl rfl hp
  · refine zy_hd r1 rfl t2 t3 (by decide) (by decide) (zy_277 (by decide) (by decide) ?_)
    refine br_f (by decide) (br_f (by decide) (br_f (by decide) (br_f (by decide) (br_f (by decide) (br_f (by decide) (br_f (by decide) (br_t (by decide) ?_)))))))
    unfold wpY_numeric
    refine zy_f1 (by decide) (zy_f2 (by decide) (by decide) (zy_f3 (by decide) ?_))
    rw [show zc_f1 25 = 1 from by decide, show zc_f2 25 = 1 from by decide, show zc_f3 25 = 1 from by decide]
    refine br_t (by decide) (br_f (by decide) ?_)
    refine zy_take r1 (z := zc_S (T f p)) (by omega) hS rfl rfl t5 (by decide) (Or.inr y1) (zy_take r1 (z := zc_S (T f p) - 1) (by omega) (by omega) rfl rfl pk_us (by decide) (Or.inr y2) ?_)
    rw [es2]
    refine br_f (by decide) (nm_e (br_t rfl ?_))
    rw [u2, v2]
    refine br_t (by decide) (br_f (by decide) (br_f (by decide) (br_f (by decide) ?_)))
    refine nm_e (nm_e ⟨1, zy_364 (q := 25) (by decide) ?_⟩)
    exact zy_put r1 (by omega) rfl rfl pk_us (by decide) hp
  · exact zu_finP H R (by decide) s1' (by omega) (if_pos rfl) (fun _ => zu_sxc _) pk_us zu_z3 (fun _ _ => rfl) t9 r5
theorem zu_o29 (H : zu_S pa tb re len ops sT sF sM imm nc T N) (hsg : zc_sg pa lo re nc) (R : zu_R nc nfu T N tb re aF aA aT aP aZ aL lP lF vt cel val loc glo a f p w) (hi : imm (64 * f + p) = im) (H1 : zt_1 pa tb re nc f (ops (64 * f + p)) im (T f p) (T f (p + 1)) p 29) : ∃ (us' dep' top' pc' tr' ytr' nx' tk' : Int32) (lr' : Int64) (mem' aF' aA' aT' aZ' aL' lP' lF' vt' : Nat → Int32) (glo' cel' loc' val' : Nat → Int64), zu_XS (zu_F nc nfu T N tb re aP us' dep' top' pc' tr' ytr' nx' aF' aA' aT' aZ' aL' lP' lF' vt' glo' cel' loc' val' a (zu_P nfu w p aA a - 1)) (fl, cl, ms, fu, cnt, opn, tu, oc, fc, cu, pu, mk, lr, nI w, nI (a + 1), nI (12 * a + zc_S (T f p)), nI p, 0, pa, lo, tb, re, sta, len, ops, imm, sT, sF, sM, oT, fK, fT, fH, fU, fS, fC, arg, glo, mem, aF, aA, aT, cel, loc) (fl, cl, ms, fu, cnt, opn, tu, oc, fc, cu, pu, mk, lr', us', dep', top', pc', tr', pa, lo, tb, re, sta, len, ops, imm, sT, sF, sM, oT, fK, fT, fH, fU, fS, fC, arg, glo', mem', aF', aA', aT', cel', loc') ∧ (∀ post : SY → Prop, post (fl, cl, ms, fu, cnt, opn, er, sz, dp, dep', ytr', nx', us', tk', lr', pa, lo, tb, re, sta, len, ops, ty, kd, bk, hh, dd, aF', aP, aZ', aL', lP', lF', vt', (fun j => mem' j &&& 255), imm, val', loc', glo', arg) → wpY_run post (fl, cl, ms, fu, cnt, opn, er, sz, dp, nI (a + 1), 0, nI (p + 1), nI w, tk, lr, pa, lo, tb, re, sta, len, ops, ty, kd, bk, hh, dd, aF, aP, aZ, aL, lP, lF, vt, (fun j => mem j &&& 255), imm, val, loc, glo, arg) (nI 29) im) ∧ zu_F nc nfu T N tb re aP us' dep' top' pc' tr' ytr' nx' aF' aA' aT' aZ' aL' lP' lF' vt' glo' cel' loc' val' a (zu_P nfu w p aA a) := by
  obtain ⟨r1, r2, r3, ⟨t1, t2, t3, t4, t5, t6, t7, t8, t9⟩, r5⟩ := id R
  have hok := H1.2.2.1
  have hS := hok.2.2.1
  have hN := H f t1
  have h4 := hsg.1
  obtain ⟨s1, s2, s3, s4, s5⟩ := zu_st H1 (by decide) rfl
  have s2' : (zc_pl (T f p) [2, 2] (0, zc_S (T f p))).1 = 0 := s2
  obtain ⟨p1, p2, p3, p4, p5, p6⟩ := zu_p2 H1 t8 (by decide) (by decide) s2'
  have ecur : (zc_plan pa tb re f (T f p) im 29).2.1 = zc_S (T f p) - 2 := by show (zc_pl (T f p) [2, 2] (0, zc_S (T f p))).2 = _; rw [p2]
  rw [ecur] at s1
  obtain ⟨u1, u2, u3⟩ := t6 (zc_S (T f p) - 1) (by omega)
  obtain ⟨v1, v2, v3⟩ := t6 (zc_S (T f p) - 2) (by omega)
  have es2 : zc_S (T f p) - 1 - 1 = zc_S (T f p) - 2 := by omega
  have y1 : vt (16 * a + (zc_S (T f p) - 1)) = 2 := by rw [u1, p3 (by decide)]
  have y2 : vt (16 * a + (zc_S (T f p) - 1 - 1)) = 2 := by rw [es2, v1, p4 (by decide)]
  have s1' : T f (p + 1) = zc_set (T f p) (zc_S (T f p) - 2) 1 0 := s1
  have hc : ∃ r : Int64, (((cel (12 * a + (zc_S (T f p) - 2))) = (cel (12 * a + (zc_S (T f p) - 1)))) ∧ r = 1) ∨ (¬ ((cel (12 * a + (zc_S (T f p) - 2))) = (cel (12 * a + (zc_S (T f p) - 1)))) ∧ r = 0) := by
    by_cases z : ((cel (12 * a + (zc_S (T f p) - 2))) = (cel (12 * a + (zc_S (T f p) - 1))))
    · exact ⟨1, Or.inl ⟨z, rfl⟩⟩
    · exact ⟨0, Or.inr ⟨z, rfl⟩⟩
  obtain ⟨r, hr⟩ := hc
  have hsx : zu_sx r := by
    rcases hr with ⟨_, hr⟩ | ⟨_, hr⟩ <;> rw [hr]
    · exact zu_sx1
    · exact zu_sx0
  refine ⟨nI w, nI (a + 1), nI (12 * a + (zc_S (T f p) - 2 + 1)), nI (p + 1), 0, 0, nI (p + 1), vt (16 * a + (zc_S (T f p) - 2)), lr, mem, aF, upd aA a (nI p), aT, upd (upd (upd aZ a (nI (zc_S (T f p) - 1))) a (nI (zc_S (T f p) - 2))) a (nI (zc_S (T f p) - 2 + 1)), aL, lP, lF, upd vt (16 * a + (zc_S (T f p) - 2)) 1, glo, vp_updL cel (12 * a + (zc_S (T f p) - 2)) r, loc, vp_updL val (16 * a + (zc_S (T f p) - 2)) (zu_cut 1 r), Or.inl (fun post hp => ?_), fun post hp => ?_, ?_⟩
  · refine zx_hd r1 rfl rfl (by omega) t2 hN.2.1 hN.1 t4 (by decide) H1.2.1 hi (fun z => by omega) (fun z => by omega) (fun _ _ => ?_) (fun z => by omega)
    refine br_f (by decide) (br_f (by decide) (br_f (by decide) (br_f (by decide) (br_f (by decide) (br_f (by decide) ?_)))))
    refine zx_take r1 (z := zc_S (T f p)) (by omega) hS rfl rfl (zx_take r1 (z := zc_S (T f p) - 1) (by omega) (by omega) rfl rfl ?_)
    rw [es2]
    refine br_t (by decide) (br_f (by decide) (br_f (by decide) (br_t (by decide) ?_)))
    rcases hr with ⟨h0, hr⟩ | ⟨h0, hr⟩ <;> subst hr
    · refine br_t h0 ?_
      refine br_f (by decide) ?_
      exact zx_put r1 (by omega) rfl rfl hp
    · refine br_f h0 ?_
      refine br_f (by decide) ?_
      exact zx_put r1 (by omega) rfl rfl hp
  · refine zy_hd r1 rfl t2 t3 (by decide) (by decide) (zy_277 (by decide) (by decide) ?_)
    refine br_f (by decide) (br_f (by decide) (br_f (by decide) (br_f (by decide) (br_f (by decide) (br_f (by decide) (br_f (by decide) (br_t (by decide) ?_)))))))
    unfold wpY_numeric
    refine zy_f1 (by decide) (zy_f2 (by decide) (by decide) (zy_f3 (by decide) ?_))
    rw [show zc_f1 29 = 2 from by decide, show zc_f2 29 = 2 from by decide, show zc_f3 29 = 1 from by decide]
    refine br_f (by decide) (br_f (by decide) (br_f (by decide) ?_))
    refine zy_take r1 (z := zc_S (T f p)) (by omega) hS rfl rfl t5 (by decide) (Or.inr y1) (zy_take r1 (z := zc_S (T f p) - 1) (by omega) (by omega) rfl rfl pk_us (by decide) (Or.inr y2) ?_)
    rw [es2]
    refine br_f (by decide) (nm_e (br_t rfl ?_))
    rw [u2, v2]
    refine br_f (by decide) (br_f (by decide) (br_t (by decide) ?_))
    rcases hr with ⟨h0, hr⟩ | ⟨h0, hr⟩ <;> subst hr
    · exact br_t h0 (nm_e ⟨1, zy_364 (q := 21) (by decide) (zy_put r1 (by omega) rfl rfl pk_us (by decide) hp)⟩)
    · exact br_f h0 (nm_e ⟨1, zy_364 (q := 21) (by decide) (zy_put r1 (by omega) rfl rfl pk_us (by decide) hp)⟩)
  · exact zu_finP H R (by decide) s1' (by omega) (zu_cut1 (fun _ => hsx)) (fun _ => hsx) pk_us zu_z3 (fun _ _ => rfl) t9 r5
theorem zu_o30 (H : zu_S pa tb re len ops sT sF sM imm nc T N) (hsg : zc_sg pa lo re nc) (R : zu_R nc nfu T N tb re aF aA aT aP aZ aL lP lF vt cel val loc glo a f p w) (hi : imm (64 * f + p) = im) (H1 : zt_1 pa tb re nc f (ops (64 * f + p)) im (T f p) (T f (p + 1)) p 30) : ∃ (us' dep' top' pc' tr' ytr' nx' tk' : Int32) (lr' : Int64) (mem' aF' aA' aT' aZ' aL' lP' lF' vt' : Nat → Int32) (glo' cel' loc' val' : Nat → Int64), zu_XS (zu_F nc nfu T N tb re aP us' dep' top' pc' tr' ytr' nx' aF' aA' aT' aZ' aL' lP' lF' vt' glo' cel' loc' val' a (zu_P nfu w p aA a - 1)) (fl, cl, ms, fu, cnt, opn, tu, oc, fc, cu, pu, mk, lr, nI w, nI (a + 1), nI (12 * a + zc_S (T f p)), nI p, 0, pa, lo, tb, re, sta, len, ops, imm, sT, sF, sM, oT, fK, fT, fH, fU, fS, fC, arg, glo, mem, aF, aA, aT, cel, loc) (fl, cl, ms, fu, cnt, opn, tu, oc, fc, cu, pu, mk, lr', us', dep', top', pc', tr', pa, lo, tb, re, sta, len, ops, imm, sT, sF, sM, oT, fK, fT, fH, fU, fS, fC, arg, glo', mem', aF', aA', aT', cel', loc') ∧ (∀ post : SY → Prop, post (fl, cl, ms, fu, cnt, opn, er, sz, dp, dep', ytr', nx', us', tk', lr', pa, lo, tb, re, sta, len, ops, ty, kd, bk, hh, dd, aF', aP, aZ', aL', lP', lF', vt', (fun j => mem' j &&& 255), imm, val', loc', glo', arg) → wpY_run post (fl, cl, ms, fu, cnt, opn, er, sz, dp, nI (a + 1), 0, nI (p + 1), nI w, tk, lr, pa, lo, tb, re, sta, len, ops, ty, kd, bk, hh, dd, aF, aP, aZ, aL, lP, lF, vt, (fun j => mem j &&& 255), imm, val, loc, glo, arg) (nI 30) im) ∧ zu_F nc nfu T N tb re aP us' dep' top' pc' tr' ytr' nx' aF' aA' aT' aZ' aL' lP' lF' vt' glo' cel' loc' val' a (zu_P nfu w p aA a) := by
  obtain ⟨r1, r2, r3, ⟨t1, t2, t3, t4, t5, t6, t7, t8, t9⟩, r5⟩ := id R
  have hok := H1.2.2.1
  have hS := hok.2.2.1
  have hN := H f t1
  have h4 := hsg.1
  obtain ⟨s1, s2, s3, s4, s5⟩ := zu_st H1 (by decide) rfl
  have s2' : (zc_pl (T f p) [2, 2] (0, zc_S (T f p))).1 = 0 := s2
  obtain ⟨p1, p2, p3, p4, p5, p6⟩ := zu_p2 H1 t8 (by decide) (by decide) s2'
  have ecur : (zc_plan pa tb re f (T f p) im 30).2.1 = zc_S (T f p) - 2 := by show (zc_pl (T f p) [2, 2] (0, zc_S (T f p))).2 = _; rw [p2]
  rw [ecur] at s1
  obtain ⟨u1, u2, u3⟩ := t6 (zc_S (T f p) - 1) (by omega)
  obtain ⟨v1, v2, v3⟩ := t6 (zc_S (T f p) - 2) (by omega)
  have es2 : zc_S (T f p) - 1 - 1 = zc_S (T f p) - 2 := by omega
  have y1 : vt (16 * a + (zc_S (T f p) - 1)) = 2 := by rw [u1, p3 (by decide)]
  have y2 : vt (16 * a + (zc_S (T f p) - 1 - 1)) = 2 := by rw [es2, v1, p4 (by decide)]
  have s1' : T f (p + 1) = zc_set (T f p) (zc_S (T f p) - 2) 1 0 := s1
  have hc : ∃ r : Int64, ((¬ (cel (12 * a + (zc_S (T f p) - 1))) ≤ (cel (12 * a + (zc_S (T f p) - 2)))) ∧ r = 1) ∨ (¬ (¬ (cel (12 * a + (zc_S (T f p) - 1))) ≤ (cel (12 * a + (zc_S (T f p) - 2)))) ∧ r = 0) := by
    by_cases z : (¬ (cel (12 * a + (zc_S (T f p) - 1))) ≤ (cel (12 * a + (zc_S (T f p) - 2))))
    · exact ⟨1, Or.inl ⟨z, rfl⟩⟩
    · exact ⟨0, Or.inr ⟨z, rfl⟩⟩
  obtain ⟨r, hr⟩ := hc
  have hsx : zu_sx r := by
    rcases hr with ⟨_, hr⟩ | ⟨_, hr⟩ <;> rw [hr]
    · exact zu_sx1
    · exact zu_sx0
  refine ⟨nI w, nI (a + 1), nI (12 * a + (zc_S (T f p) - 2 + 1)), nI (p + 1), 0, 0, nI (p + 1), vt (16 * a + (zc_S (T f p) - 2)), lr, mem, aF, upd aA a (nI p), aT, upd (upd (upd aZ a (nI (zc_S (T f p) - 1))) a (nI (zc_S (T f p) - 2))) a (nI (zc_S (T f p) - 2 + 1)), aL, lP, lF, upd vt (16 * a + (zc_S (T f p) - 2)) 1, glo, vp_updL cel (12 * a + (zc_S (T f p) - 2)) r, loc, vp_updL val (16 * a + (zc_S (T f p) - 2)) (zu_cut 1 r), Or.inl (fun post hp => ?_), fun post hp => ?_, ?_⟩
  · refine zx_hd r1 rfl rfl (by omega) t2 hN.2.1 hN.1 t4 (by decide) H1.2.1 hi (fun z => by omega) (fun z => by omega) (fun _ _ => ?_) (fun z => by omega)
    refine br_f (by decide) (br_f (by decide) (br_f (by decide) (br_f (by decide) (br_f (by decide) (br_f (by decide) ?_)))))
    refine zx_take r1 (z := zc_S (T f p)) (by omega) hS rfl rfl (zx_take r1 (z := zc_S (T f p) - 1) (by omega) (by omega) rfl rfl ?_)
    rw [es2]
    refine br_t (by decide) (br_f (by decide) (br_f (by decide) (br_f (by decide) (br_t (by decide) ?_))))
    rcases hr with ⟨h0, hr⟩ | ⟨h0, hr⟩ <;> subst hr
    · refine br_f h0 ?_
      refine br_f (by decide) ?_
      exact zx_put r1 (by omega) rfl rfl hp
    · refine br_t (Classical.not_not.mp h0) ?_
      refine br_f (by decide) ?_
      exact zx_put r1 (by omega) rfl rfl hp
  · refine zy_hd r1 rfl t2 t3 (by decide) (by decide) (zy_277 (by decide) (by decide) ?_)
    refine br_f (by decide) (br_f (by decide) (br_f (by decide) (br_f (by decide) (br_f (by decide) (br_f (by decide) (br_f (by decide) (br_t (by decide) ?_)))))))
    unfold wpY_numeric
    refine zy_f1 (by decide) (zy_f2 (by decide) (by decide) (zy_f3 (by decide) ?_))
    rw [show zc_f1 30 = 2 from by decide, show zc_f2 30 = 2 from by decide, show zc_f3 30 = 1 from by decide]
    refine br_f (by decide) (br_f (by decide) (br_f (by decide) ?_))
    refine zy_take r1 (z := zc_S (T f p)) (by omega) hS rfl rfl t5 (by decide) (Or.inr y1) (zy_take r1 (z := zc_S (T f p) - 1) (by omega) (by omega) rfl rfl pk_us (by decide) (Or.inr y2) ?_)
    rw [es2]
    refine br_f (by decide) (nm_e (br_t rfl ?_))
    rw [u2, v2]
    refine br_f (by decide) (br_f (by decide) (br_f (by decide) ?_))
    rcases hr with ⟨h0, hr⟩ | ⟨h0, hr⟩ <;> subst hr
    · exact br_f h0 (nm_e ⟨1, zy_364 (q := 22) (by decide) (zy_put r1 (by omega) rfl rfl pk_us (by decide) hp)⟩)
    · exact br_t (Classical.not_not.mp h0) (nm_e ⟨1, zy_364 (q := 22) (by decide) (zy_put r1 (by omega) rfl rfl pk_us (by decide) hp)⟩)
  · exact zu_finP H R (by decide) s1' (by omega) (zu_cut1 (fun _ => hsx)) (fun _ => hsx) pk_us zu_z3 (fun _ _ => rfl) t9 r5
theorem zu_o31 (H : zu_S pa tb re len ops sT sF sM imm nc T N) (hsg : zc_sg pa lo re nc) (R : zu_R nc nfu T N tb re aF aA aT aP aZ aL lP lF vt cel val loc glo a f p w) (hi : imm (64 * f + p) = im) (H1 : zt_1 pa tb re nc f (ops (64 * f + p)) im (T f p) (T f (p + 1)) p 31) : ∃ (us' dep' top' pc' tr' ytr' nx' tk' : Int32) (lr' : Int64) (mem' aF' aA' aT' aZ' aL' lP' lF' vt' : Nat → Int32) (glo' cel' loc' val' : Nat → Int64), zu_XS (zu_F nc nfu T N tb re aP us' dep' top' pc' tr' ytr' nx' aF' aA' aT' aZ' aL' lP' lF' vt' glo' cel' loc' val' a (zu_P nfu w p aA a - 1)) (fl, cl, ms, fu, cnt, opn, tu, oc, fc, cu, pu, mk, lr, nI w, nI (a + 1), nI (12 * a + zc_S (T f p)), nI p, 0, pa, lo, tb, re, sta, len, ops, imm, sT, sF, sM, oT, fK, fT, fH, fU, fS, fC, arg, glo, mem, aF, aA, aT, cel, loc) (fl, cl, ms, fu, cnt, opn, tu, oc, fc, cu, pu, mk, lr', us', dep', top', pc', tr', pa, lo, tb, re, sta, len, ops, imm, sT, sF, sM, oT, fK, fT, fH, fU, fS, fC, arg, glo', mem', aF', aA', aT', cel', loc') ∧ (∀ post : SY → Prop, post (fl, cl, ms, fu, cnt, opn, er, sz, dp, dep', ytr', nx', us', tk', lr', pa, lo, tb, re, sta, len, ops, ty, kd, bk, hh, dd, aF', aP, aZ', aL', lP', lF', vt', (fun j => mem' j &&& 255), imm, val', loc', glo', arg) → wpY_run post (fl, cl, ms, fu, cnt, opn, er, sz, dp, nI (a + 1), 0, nI (p + 1), nI w, tk, lr, pa, lo, tb, re, sta, len, ops, ty, kd, bk, hh, dd, aF, aP, aZ, aL, lP, lF, vt, (fun j => mem j &&& 255), imm, val, loc, glo, arg) (nI 31) im) ∧ zu_F nc nfu T N tb re aP us' dep' top' pc' tr' ytr' nx' aF' aA' aT' aZ' aL' lP' lF' vt' glo' cel' loc' val' a (zu_P nfu w p aA a) := by
  obtain ⟨r1, r2, r3, ⟨t1, t2, t3, t4, t5, t6, t7, t8, t9⟩, r5⟩ := id R
  have hok := H1.2.2.1
  have hS := hok.2.2.1
  have hN := H f t1
  have h4 := hsg.1
  obtain ⟨s1, s2, s3, s4, s5⟩ := zu_st H1 (by decide) rfl
  have s2' : (zc_pl (T f p) [2, 2] (0, zc_S (T f p))).1 = 0 := s2
  obtain ⟨p1, p2, p3, p4, p5, p6⟩ := zu_p2 H1 t8 (by decide) (by decide) s2'
  have ecur : (zc_plan pa tb re f (T f p) im 31).2.1 = zc_S (T f p) - 2 := by show (zc_pl (T f p) [2, 2] (0, zc_S (T f p))).2 = _; rw [p2]
  rw [ecur] at s1
  obtain ⟨u1, u2, u3⟩ := t6 (zc_S (T f p) - 1) (by omega)
  obtain ⟨v1, v2, v3⟩ := t6 (zc_S (T f p) - 2) (by omega)
  have es2 : zc_S (T f p) - 1 - 1 = zc_S (T f p) - 2 := by omega
  have y1 : vt (16 * a + (zc_S (T f p) - 1)) = 2 := by rw [u1, p3 (by decide)]
  have y2 : vt (16 * a + (zc_S (T f p) - 1 - 1)) = 2 := by rw [es2, v1, p4 (by decide)]
  have s1' : T f (p + 1) = zc_set (T f p) (zc_S (T f p) - 2) 2 0 := s1
  refine ⟨nI w, nI (a + 1), nI (12 * a + (zc_S (T f p) - 2 + 1)), nI (p + 1), 0, 0, nI (p + 1), vt (16 * a + (zc_S (T f p) - 2)), lr, mem, aF, upd aA a (nI p), aT, upd (upd (upd aZ a (nI (zc_S (T f p) - 1))) a (nI (zc_S (T f p) - 2))) a (nI (zc_S (T f p) - 2 + 1)), aL, lP, lF, upd vt (16 * a + (zc_S (T f p) - 2)) 2, glo, vp_updL cel (12 * a + (zc_S (T f p) - 2)) ((cel (12 * a + (zc_S (T f p) - 2))) + (cel (12 * a + (zc_S (T f p) - 1)))), loc, vp_updL val (16 * a + (zc_S (T f p) - 2)) (zu_cut 2 ((cel (12 * a + (zc_S (T f p) - 2))) + (cel (12 * a + (zc_S (T f p) - 1))))), Or.inl (fun post hp => ?_), fun post hp => ?_, ?_⟩
  · refine zx_hd r1 rfl rfl (by omega) t2 hN.2.1 hN.1 t4 (by decide) H1.2.1 hi (fun z => by omega) (fun z => by omega) (fun _ _ => ?_) (fun z => by omega)
    refine br_f (by decide) (br_f (by decide) (br_f (by decide) (br_f (by decide) (br_f (by decide) (br_f (by decide) ?_)))))
    refine zx_take r1 (z := zc_S (T f p)) (by omega) hS rfl rfl (zx_take r1 (z := zc_S (T f p) - 1) (by omega) (by omega) rfl rfl ?_)
    rw [es2]
    refine br_t (by decide) (br_f (by decide) (br_f (by decide) (br_f (by decide) (br_f (by decide) (br_t (by decide) ?_)))))
    refine nm_e ?_
    refine br_f (by decide) ?_
    exact zx_put r1 (by omega) rfl rfl hp
  · refine zy_hd r1 rfl t2 t3 (by decide) (by decide) (zy_277 (by decide) (by decide) ?_)
    refine br_f (by decide) (br_f (by decide) (br_f (by decide) (br_f (by decide) (br_f (by decide) (br_f (by decide) (br_f (by decide) (br_t (by decide) ?_)))))))
    unfold wpY_numeric
    refine zy_f1 (by decide) (zy_f2 (by decide) (by decide) (zy_f3 (by decide) ?_))
    rw [show zc_f1 31 = 2 from by decide, show zc_f2 31 = 2 from by decide, show zc_f3 31 = 2 from by decide]
    refine br_f (by decide) (br_f (by decide) (br_f (by decide) ?_))
    refine zy_take r1 (z := zc_S (T f p)) (by omega) hS rfl rfl t5 (by decide) (Or.inr y1) (zy_take r1 (z := zc_S (T f p) - 1) (by omega) (by omega) rfl rfl pk_us (by decide) (Or.inr y2) ?_)
    rw [es2]
    refine br_f (by decide) (nm_e (br_t rfl ?_))
    rw [u2, v2]
    refine br_t (by decide) (br_f (by decide) (br_t (by decide) ?_))
    refine nm_e (nm_e ⟨1, zy_364 (q := 23) (by decide) ?_⟩)
    exact zy_put r1 (by omega) rfl rfl pk_us (by decide) hp
  · exact zu_finP H R (by decide) s1' (by omega) (if_neg (by decide)) (fun z => absurd z (by decide)) pk_us zu_z3 (fun _ _ => rfl) t9 r5
theorem zu_o32 (H : zu_S pa tb re len ops sT sF sM imm nc T N) (hsg : zc_sg pa lo re nc) (R : zu_R nc nfu T N tb re aF aA aT aP aZ aL lP lF vt cel val loc glo a f p w) (hi : imm (64 * f + p) = im) (H1 : zt_1 pa tb re nc f (ops (64 * f + p)) im (T f p) (T f (p + 1)) p 32) : ∃ (us' dep' top' pc' tr' ytr' nx' tk' : Int32) (lr' : Int64) (mem' aF' aA' aT' aZ' aL' lP' lF' vt' : Nat → Int32) (glo' cel' loc' val' : Nat → Int64), zu_XS (zu_F nc nfu T N tb re aP us' dep' top' pc' tr' ytr' nx' aF' aA' aT' aZ' aL' lP' lF' vt' glo' cel' loc' val' a (zu_P nfu w p aA a - 1)) (fl, cl, ms, fu, cnt, opn, tu, oc, fc, cu, pu, mk, lr, nI w, nI (a + 1), nI (12 * a + zc_S (T f p)), nI p, 0, pa, lo, tb, re, sta, len, ops, imm, sT, sF, sM, oT, fK, fT, fH, fU, fS, fC, arg, glo, mem, aF, aA, aT, cel, loc) (fl, cl, ms, fu, cnt, opn, tu, oc, fc, cu, pu, mk, lr', us', dep', top', pc', tr', pa, lo, tb, re, sta, len, ops, imm, sT, sF, sM, oT, fK, fT, fH, fU, fS, fC, arg, glo', mem', aF', aA', aT', cel', loc') ∧ (∀ post : SY → Prop, post (fl, cl, ms, fu, cnt, opn, er, sz, dp, dep', ytr', nx', us', tk', lr', pa, lo, tb, re, sta, len, ops, ty, kd, bk, hh, dd, aF', aP, aZ', aL', lP', lF', vt', (fun j => mem' j &&& 255), imm, val', loc', glo', arg) → wpY_run post (fl, cl, ms, fu, cnt, opn, er, sz, dp, nI (a + 1), 0, nI (p + 1), nI w, tk, lr, pa, lo, tb, re, sta, len, ops, ty, kd, bk, hh, dd, aF, aP, aZ, aL, lP, lF, vt, (fun j => mem j &&& 255), imm, val, loc, glo, arg) (nI 32) im) ∧ zu_F nc nfu T N tb re aP us' dep' top' pc' tr' ytr' nx' aF' aA' aT' aZ' aL' lP' lF' vt' glo' cel' loc' val' a (zu_P nfu w p aA a) := by
  obtain ⟨r1, r2, r3, ⟨t1, t2, t3, t4, t5, t6, t7, t8, t9⟩, r5⟩ := id R
  have hok := H1.2.2.1
  have hS := hok.2.2.1
  have hN := H f t1
  have h4 := hsg.1
  obtain ⟨s1, s2, s3, s4, s5⟩ := zu_st H1 (by decide) rfl
  have s2' : (zc_pl (T f p) [2, 2] (0, zc_S (T f p))).1 = 0 := s2
  obtain ⟨p1, p2, p3, p4, p5, p6⟩ := zu_p2 H1 t8 (by decide) (by decide) s2'
  have ecur : (zc_plan pa tb re f (T f p) im 32).2.1 = zc_S (T f p) - 2 := by show (zc_pl (T f p) [2, 2] (0, zc_S (T f p))).2 = _; rw [p2]
  rw [ecur] at s1
  obtain ⟨u1, u2, u3⟩ := t6 (zc_S (T f p) - 1) (by omega)
  obtain ⟨v1, v2, v3⟩ := t6 (zc_S (T f p) - 2) (by omega)
  have es2 : zc_S (T f p) - 1 - 1 = zc_S (T f p) - 2 := by omega
  have y1 : vt (16 * a + (zc_S (T f p) - 1)) = 2 := by rw [u1, p3 (by decide)]
  have y2 : vt (16 * a + (zc_S (T f p) - 1 - 1)) = 2 := by rw [es2, v1, p4 (by decide)]
  have s1' : T f (p + 1) = zc_set (T f p) (zc_S (T f p) - 2) 2 0 := s1
  refine ⟨nI w, nI (a + 1), nI (12 * a + (zc_S (T f p) - 2 + 1)), nI (p + 1), 0, 0, nI (p + 1), vt (16 * a + (zc_S (T f p) - 2)), lr, mem, aF, upd aA a (nI p), aT, upd (upd (upd aZ a (nI (zc_S (T f p) - 1))) a (nI (zc_S (T f p) - 2))) a (nI (zc_S (T f p) - 2 + 1)), aL, lP, lF, upd vt (16 * a + (zc_S (T f p) - 2)) 2, glo, vp_updL cel (12 * a + (zc_S (T f p) - 2)) ((cel (12 * a + (zc_S (T f p) - 2))) - (cel (12 * a + (zc_S (T f p) - 1)))), loc, vp_updL val (16 * a + (zc_S (T f p) - 2)) (zu_cut 2 ((cel (12 * a + (zc_S (T f p) - 2))) - (cel (12 * a + (zc_S (T f p) - 1))))), Or.inl (fun post hp => ?_), fun post hp => ?_, ?_⟩
  · refine zx_hd r1 rfl rfl (by omega) t2 hN.2.1 hN.1 t4 (by decide) H1.2.1 hi (fun z => by omega) (fun z => by omega) (fun _ _ => ?_) (fun z => by omega)
    refine br_f (by decide) (br_f (by decide) (br_f (by decide) (br_f (by decide) (br_f (by decide) (br_f (by decide) ?_)))))
    refine zx_take r1 (z := zc_S (T f p)) (by omega) hS rfl rfl (zx_take r1 (z := zc_S (T f p) - 1) (by omega) (by omega) rfl rfl ?_)
    rw [es2]
    refine br_t (by decide) (br_f (by decide) (br_f (by decide) (br_f (by decide) (br_f (by decide) (br_f (by decide) (br_t (by decide) ?_))))))
    refine nm_e ?_
    refine br_f (by decide) ?_
    exact zx_put r1 (by omega) rfl rfl hp
  · refine zy_hd r1 rfl t2 t3 (by decide) (by decide) (zy_277 (by decide) (by decide) ?_)
    refine br_f (by decide) (br_f (by decide) (br_f (by decide) (br_f (by decide) (br_f (by decide) (br_f (by decide) (br_f (by decide) (br_t (by decide) ?_)))))))
    unfold wpY_numeric
    refine zy_f1 (by decide) (zy_f2 (by decide) (by decide) (zy_f3 (by decide) ?_))
    rw [show zc_f1 32 = 2 from by decide, show zc_f2 32 = 2 from by decide, show zc_f3 32 = 2 from by decide]
    refine br_f (by decide) (br_f (by decide) (br_f (by decide) ?_))
    refine zy_take r1 (z := zc_S (T f p)) (by omega) hS rfl rfl t5 (by decide) (Or.inr y1) (zy_take r1 (z := zc_S (T f p) - 1) (by omega) (by omega) rfl rfl pk_us (by decide) (Or.inr y2) ?_)
    rw [es2]
    refine br_f (by decide) (nm_e (br_t rfl ?_))
    rw [u2, v2]
    refine br_t (by decide) (br_f (by decide) (br_f (by decide) (br_t (by decide) ?_)))
    refine nm_e (nm_e ⟨1, zy_364 (q := 24) (by decide) ?_⟩)
    exact zy_put r1 (by omega) rfl rfl pk_us (by decide) hp
  · exact zu_finP H R (by decide) s1' (by omega) (if_neg (by decide)) (fun z => absurd z (by decide)) pk_us zu_z3 (fun _ _ => rfl) t9 r5
theorem zu_o33 (H : zu_S pa tb re len ops sT sF sM imm nc T N) (hsg : zc_sg pa lo re nc) (R : zu_R nc nfu T N tb re aF aA aT aP aZ aL lP lF vt cel val loc glo a f p w) (hi : imm (64 * f + p) = im) (H1 : zt_1 pa tb re nc f (ops (64 * f + p)) im (T f p) (T f (p + 1)) p 33) : ∃ (us' dep' top' pc' tr' ytr' nx' tk' : Int32) (lr' : Int64) (mem' aF' aA' aT' aZ' aL' lP' lF' vt' : Nat → Int32) (glo' cel' loc' val' : Nat → Int64), zu_XS (zu_F nc nfu T N tb re aP us' dep' top' pc' tr' ytr' nx' aF' aA' aT' aZ' aL' lP' lF' vt' glo' cel' loc' val' a (zu_P nfu w p aA a - 1)) (fl, cl, ms, fu, cnt, opn, tu, oc, fc, cu, pu, mk, lr, nI w, nI (a + 1), nI (12 * a + zc_S (T f p)), nI p, 0, pa, lo, tb, re, sta, len, ops, imm, sT, sF, sM, oT, fK, fT, fH, fU, fS, fC, arg, glo, mem, aF, aA, aT, cel, loc) (fl, cl, ms, fu, cnt, opn, tu, oc, fc, cu, pu, mk, lr', us', dep', top', pc', tr', pa, lo, tb, re, sta, len, ops, imm, sT, sF, sM, oT, fK, fT, fH, fU, fS, fC, arg, glo', mem', aF', aA', aT', cel', loc') ∧ (∀ post : SY → Prop, post (fl, cl, ms, fu, cnt, opn, er, sz, dp, dep', ytr', nx', us', tk', lr', pa, lo, tb, re, sta, len, ops, ty, kd, bk, hh, dd, aF', aP, aZ', aL', lP', lF', vt', (fun j => mem' j &&& 255), imm, val', loc', glo', arg) → wpY_run post (fl, cl, ms, fu, cnt, opn, er, sz, dp, nI (a + 1), 0, nI (p + 1), nI w, tk, lr, pa, lo, tb, re, sta, len, ops, ty, kd, bk, hh, dd, aF, aP, aZ, aL, lP, lF, vt, (fun j => mem j &&& 255), imm, val, loc, glo, arg) (nI 33) im) ∧ zu_F nc nfu T N tb re aP us' dep' top' pc' tr' ytr' nx' aF' aA' aT' aZ' aL' lP' lF' vt' glo' cel' loc' val' a (zu_P nfu w p aA a) := by
  obtain ⟨r1, r2, r3, ⟨t1, t2, t3, t4, t5, t6, t7, t8, t9⟩, r5⟩ := id R
  have hok := H1.2.2.1
  have hS := hok.2.2.1
  have hN := H f t1
  have h4 := hsg.1
  obtain ⟨s1, s2, s3, s4, s5⟩ := zu_st H1 (by decide) rfl
  have s2' : (zc_pl (T f p) [2, 2] (0, zc_S (T f p))).1 = 0 := s2
  obtain ⟨p1, p2, p3, p4, p5, p6⟩ := zu_p2 H1 t8 (by decide) (by decide) s2'
  have ecur : (zc_plan pa tb re f (T f p) im 33).2.1 = zc_S (T f p) - 2 := by show (zc_pl (T f p) [2, 2] (0, zc_S (T f p))).2 = _; rw [p2]
  rw [ecur] at s1
  obtain ⟨u1, u2, u3⟩ := t6 (zc_S (T f p) - 1) (by omega)
  obtain ⟨v1, v2, v3⟩ := t6 (zc_S (T f p) - 2) (by omega)
  have es2 : zc_S (T f p) - 1 - 1 = zc_S (T f p) - 2 := by omega
  have y1 : vt (16 * a + (zc_S (T f p) - 1)) = 2 := by rw [u1, p3 (by decide)]
  have y2 : vt (16 * a + (zc_S (T f p) - 1 - 1)) = 2 := by rw [es2, v1, p4 (by decide)]
  have s1' : T f (p + 1) = zc_set (T f p) (zc_S (T f p) - 2) 2 0 := s1
  refine ⟨nI w, nI (a + 1), nI (12 * a + (zc_S (T f p) - 2 + 1)), nI (p + 1), 0, 0, nI (p + 1), vt (16 * a + (zc_S (T f p) - 2)), lr, mem, aF, upd aA a (nI p), aT, upd (upd (upd aZ a (nI (zc_S (T f p) - 1))) a (nI (zc_S (T f p) - 2))) a (nI (zc_S (T f p) - 2 + 1)), aL, lP, lF, upd vt (16 * a + (zc_S (T f p) - 2)) 2, glo, vp_updL cel (12 * a + (zc_S (T f p) - 2)) ((cel (12 * a + (zc_S (T f p) - 2))) * (cel (12 * a + (zc_S (T f p) - 1)))), loc, vp_updL val (16 * a + (zc_S (T f p) - 2)) (zu_cut 2 ((cel (12 * a + (zc_S (T f p) - 2))) * (cel (12 * a + (zc_S (T f p) - 1))))), Or.inl (fun post hp => ?_), fun post hp => ?_, ?_⟩
  · refine zx_hd r1 rfl rfl (by omega) t2 hN.2.1 hN.1 t4 (by decide) H1.2.1 hi (fun z => by omega) (fun z => by omega) (fun _ _ => ?_) (fun z => by omega)
    refine br_f (by decide) (br_f (by decide) (br_f (by decide) (br_f (by decide) (br_f (by decide) (br_f (by decide) ?_)))))
    refine zx_take r1 (z := zc_S (T f p)) (by omega) hS rfl rfl (zx_take r1 (z := zc_S (T f p) - 1) (by omega) (by omega) rfl rfl ?_)
    rw [es2]
    refine br_t (by decide) (br_f (by decide) (br_t (by decide) ?_))
    refine nm_e ?_
    refine br_f (by decide) ?_
    exact zx_put r1 (by omega) rfl rfl hp
  · refine zy_hd r1 rfl t2 t3 (by decide) (by decide) (zy_277 (by decide) (by decide) ?_)
    refine br_f (by decide) (br_f (by decide) (br_f (by decide) (br_f (by decide) (br_f (by decide) (br_f (by decide) (br_f (by decide) (br_t (by decide) ?_)))))))
    unfold wpY_numeric
    refine zy_f1 (by decide) (zy_f2 (by decide) (by decide) (zy_f3 (by decide) ?_))
    rw [show zc_f1 33 = 2 from by decide, show zc_f2 33 = 2 from by decide, show zc_f3 33 = 2 from by decide]
    refine br_f (by decide) (br_f (by decide) (br_f (by decide) ?_))
    refine zy_take r1 (z := zc_S (T f p)) (by omega) hS rfl rfl t5 (by decide) (Or.inr y1) (zy_take r1 (z := zc_S (T f p) - 1) (by omega) (by omega) rfl rfl pk_us (by decide) (Or.inr y2) ?_)
    rw [es2]
    refine br_f (by decide) (nm_e (br_t rfl ?_))
    rw [u2, v2]
    refine br_t (by decide) (br_f (by decide) (br_f (by decide) (br_f (by decide) ?_)))
    refine nm_e (nm_e ⟨1, zy_364 (q := 25) (by decide) ?_⟩)
    exact zy_put r1 (by omega) rfl rfl pk_us (by decide) hp
  · exact zu_finP H R (by decide) s1' (by omega) (if_neg (by decide)) (fun z => absurd z (by decide)) pk_us zu_z3 (fun _ _ => rfl) t9 r5
theorem zu_o20 (H : zu_S pa tb re len ops sT sF sM imm nc T N) (hsg : zc_sg pa lo re nc) (R : zu_R nc nfu T N tb re aF aA aT aP aZ aL lP lF vt cel val loc glo a f p w) (hi : imm (64 * f + p) = im) (H1 : zt_1 pa tb re nc f (ops (64 * f + p)) im (T f p) (T f (p + 1)) p 20) : ∃ (us' dep' top' pc' tr' ytr' nx' tk' : Int32) (lr' : Int64) (mem' aF' aA' aT' aZ' aL' lP' lF' vt' : Nat → Int32) (glo' cel' loc' val' : Nat → Int64), zu_XS (zu_F nc nfu T N tb re aP us' dep' top' pc' tr' ytr' nx' aF' aA' aT' aZ' aL' lP' lF' vt' glo' cel' loc' val' a (zu_P nfu w p aA a - 1)) (fl, cl, ms, fu, cnt, opn, tu, oc, fc, cu, pu, mk, lr, nI w, nI (a + 1), nI (12 * a + zc_S (T f p)), nI p, 0, pa, lo, tb, re, sta, len, ops, imm, sT, sF, sM, oT, fK, fT, fH, fU, fS, fC, arg, glo, mem, aF, aA, aT, cel, loc) (fl, cl, ms, fu, cnt, opn, tu, oc, fc, cu, pu, mk, lr', us', dep', top', pc', tr', pa, lo, tb, re, sta, len, ops, imm, sT, sF, sM, oT, fK, fT, fH, fU, fS, fC, arg, glo', mem', aF', aA', aT', cel', loc') ∧ (∀ post : SY → Prop, post (fl, cl, ms, fu, cnt, opn, er, sz, dp, dep', ytr', nx', us', tk', lr', pa, lo, tb, re, sta, len, ops, ty, kd, bk, hh, dd, aF', aP, aZ', aL', lP', lF', vt', (fun j => mem' j &&& 255), imm, val', loc', glo', arg) → wpY_run post (fl, cl, ms, fu, cnt, opn, er, sz, dp, nI (a + 1), 0, nI (p + 1), nI w, tk, lr, pa, lo, tb, re, sta, len, ops, ty, kd, bk, hh, dd, aF, aP, aZ, aL, lP, lF, vt, (fun j => mem j &&& 255), imm, val, loc, glo, arg) (nI 20) im) ∧ zu_F nc nfu T N tb re aP us' dep' top' pc' tr' ytr' nx' aF' aA' aT' aZ' aL' lP' lF' vt' glo' cel' loc' val' a (zu_P nfu w p aA a) := by
  obtain ⟨r1, r2, r3, ⟨t1, t2, t3, t4, t5, t6, t7, t8, t9⟩, r5⟩ := id R
  have hok := H1.2.2.1
  have hS := hok.2.2.1
  have hN := H f t1
  have h4 := hsg.1
  obtain ⟨s1, s2, s3, s4, s5⟩ := zu_st H1 (by decide) rfl
  have s2' : (zc_pl (T f p) [1] (0, zc_S (T f p))).1 = 0 := by
    have q : (zc_pl (T f p) [1, 0] (0, zc_S (T f p))).1 = 0 := s2
    rw [zp_l0] at q; exact q
  obtain ⟨p1, p2, p3, p4, p5⟩ := zu_p1 H1 t8 (by decide) s2'
  have ecur : (zc_plan pa tb re f (T f p) im 20).2.1 = zc_S (T f p) - 1 := by show (zc_pl (T f p) [1, 0] (0, zc_S (T f p))).2 = _; rw [zp_l0, p2]
  rw [ecur] at s1
  obtain ⟨u1, u2, u3⟩ := t6 (zc_S (T f p) - 1) (by omega)
  have y1 : vt (16 * a + (zc_S (T f p) - 1)) = 1 := by rw [u1, p3 (by decide)]
  have s1' : T f (p + 1) = zc_set (T f p) (zc_S (T f p) - 1) 1 0 := s1
  have hc : ∃ r : Int64, (((cel (12 * a + (zc_S (T f p) - 1))) = 0) ∧ r = 1) ∨ (¬ ((cel (12 * a + (zc_S (T f p) - 1))) = 0) ∧ r = 0) := by
    by_cases z : ((cel (12 * a + (zc_S (T f p) - 1))) = 0)
    · exact ⟨1, Or.inl ⟨z, rfl⟩⟩
    · exact ⟨0, Or.inr ⟨z, rfl⟩⟩
  obtain ⟨r, hr⟩ := hc
  have hsx : zu_sx r := by
    rcases hr with ⟨_, hr⟩ | ⟨_, hr⟩ <;> rw [hr]
    · exact zu_sx1
    · exact zu_sx0
  refine ⟨nI w, nI (a + 1), nI (12 * a + (zc_S (T f p) - 1 + 1)), nI (p + 1), 0, 0, nI (p + 1), vt (16 * a + (zc_S (T f p) - 1)), lr, mem, aF, upd aA a (nI p), aT, upd (upd aZ a (nI (zc_S (T f p) - 1))) a (nI (zc_S (T f p) - 1 + 1)), aL, lP, lF, upd vt (16 * a + (zc_S (T f p) - 1)) 1, glo, vp_updL cel (12 * a + (zc_S (T f p) - 1)) r, loc, vp_updL val (16 * a + (zc_S (T f p) - 1)) (zu_cut 1 r), Or.inl (fun post hp => ?_), fun post hp => ?_, ?_⟩
  · refine zx_hd r1 rfl rfl (by omega) t2 hN.2.1 hN.1 t4 (by decide) H1.2.1 hi (fun z => by omega) (fun z => by omega) (fun _ _ => ?_) (fun z => by omega)
    refine br_f (by decide) (br_f (by decide) (br_t (by decide) ?_))
    refine zx_take r1 (z := zc_S (T f p)) (by omega) hS rfl rfl ?_
    rcases hr with ⟨h0, hr⟩ | ⟨h0, hr⟩ <;> subst hr
    · exact br_t h0 (zx_put r1 (by omega) rfl rfl hp)
    · exact br_f h0 (zx_put r1 (by omega) rfl rfl hp)
  · refine zy_hd r1 rfl t2 t3 (by decide) (by decide) (zy_277 (by decide) (by decide) ?_)
    refine br_f (by decide) (br_f (by decide) (br_f (by decide) (br_f (by decide) (br_f (by decide) (br_f (by decide) (br_f (by decide) (br_t (by decide) ?_)))))))
    unfold wpY_numeric
    refine zy_f1 (by decide) (zy_f2 (by decide) (by decide) (zy_f3 (by decide) ?_))
    rw [show zc_f1 20 = 1 from by decide, show zc_f2 20 = 0 from by decide, show zc_f3 20 = 1 from by decide]
    refine br_t (by decide) (br_f (by decide) ?_)
    refine zy_take r1 (z := zc_S (T f p)) (by omega) hS rfl rfl t5 (by decide) (Or.inr y1) (zy_take0 rfl ?_)
    refine br_t rfl (nm_e (br_t rfl ?_))
    rw [u2]
    refine br_f (by decide) (br_t (by decide) ?_)
    rcases hr with ⟨h0, hr⟩ | ⟨h0, hr⟩ <;> subst hr
    · exact br_t h0 (nm_e ⟨1, zy_364 (q := 20) (by decide) (zy_put r1 (by omega) rfl rfl pk_us (by decide) hp)⟩)
    · exact br_f h0 (nm_e ⟨1, zy_364 (q := 20) (by decide) (zy_put r1 (by omega) rfl rfl pk_us (by decide) hp)⟩)
  · exact zu_finP H R (by decide) s1' (by omega) (zu_cut1 (fun _ => hsx)) (fun _ => hsx) pk_us zu_z2 (fun _ _ => rfl) t9 r5
theorem zu_o28 (H : zu_S pa tb re len ops sT sF sM imm nc T N) (hsg : zc_sg pa lo re nc) (R : zu_R nc nfu T N tb re aF aA aT aP aZ aL lP lF vt cel val loc glo a f p w) (hi : imm (64 * f + p) = im) (H1 : zt_1 pa tb re nc f (ops (64 * f + p)) im (T f p) (T f (p + 1)) p 28) : ∃ (us' dep' top' pc' tr' ytr' nx' tk' : Int32) (lr' : Int64) (mem' aF' aA' aT' aZ' aL' lP' lF' vt' : Nat → Int32) (glo' cel' loc' val' : Nat → Int64), zu_XS (zu_F nc nfu T N tb re aP us' dep' top' pc' tr' ytr' nx' aF' aA' aT' aZ' aL' lP' lF' vt' glo' cel' loc' val' a (zu_P nfu w p aA a - 1)) (fl, cl, ms, fu, cnt, opn, tu, oc, fc, cu, pu, mk, lr, nI w, nI (a + 1), nI (12 * a + zc_S (T f p)), nI p, 0, pa, lo, tb, re, sta, len, ops, imm, sT, sF, sM, oT, fK, fT, fH, fU, fS, fC, arg, glo, mem, aF, aA, aT, cel, loc) (fl, cl, ms, fu, cnt, opn, tu, oc, fc, cu, pu, mk, lr', us', dep', top', pc', tr', pa, lo, tb, re, sta, len, ops, imm, sT, sF, sM, oT, fK, fT, fH, fU, fS, fC, arg, glo', mem', aF', aA', aT', cel', loc') ∧ (∀ post : SY → Prop, post (fl, cl, ms, fu, cnt, opn, er, sz, dp, dep', ytr', nx', us', tk', lr', pa, lo, tb, re, sta, len, ops, ty, kd, bk, hh, dd, aF', aP, aZ', aL', lP', lF', vt', (fun j => mem' j &&& 255), imm, val', loc', glo', arg) → wpY_run post (fl, cl, ms, fu, cnt, opn, er, sz, dp, nI (a + 1), 0, nI (p + 1), nI w, tk, lr, pa, lo, tb, re, sta, len, ops, ty, kd, bk, hh, dd, aF, aP, aZ, aL, lP, lF, vt, (fun j => mem j &&& 255), imm, val, loc, glo, arg) (nI 28) im) ∧ zu_F nc nfu T N tb re aP us' dep' top' pc' tr' ytr' nx' aF' aA' aT' aZ' aL' lP' lF' vt' glo' cel' loc' val' a (zu_P nfu w p aA a) := by
  obtain ⟨r1, r2, r3, ⟨t1, t2, t3, t4, t5, t6, t7, t8, t9⟩, r5⟩ := id R
  have hok := H1.2.2.1
  have hS := hok.2.2.1
  have hN := H f t1
  have h4 := hsg.1
  obtain ⟨s1, s2, s3, s4, s5⟩ := zu_st H1 (by decide) rfl
  have s2' : (zc_pl (T f p) [2] (0, zc_S (T f p))).1 = 0 := by
    have q : (zc_pl (T f p) [2, 0] (0, zc_S (T f p))).1 = 0 := s2
    rw [zp_l0] at q; exact q
  obtain ⟨p1, p2, p3, p4, p5⟩ := zu_p1 H1 t8 (by decide) s2'
  have ecur : (zc_plan pa tb re f (T f p) im 28).2.1 = zc_S (T f p) - 1 := by show (zc_pl (T f p) [2, 0] (0, zc_S (T f p))).2 = _; rw [zp_l0, p2]
  rw [ecur] at s1
  obtain ⟨u1, u2, u3⟩ := t6 (zc_S (T f p) - 1) (by omega)
  have y1 : vt (16 * a + (zc_S (T f p) - 1)) = 2 := by rw [u1, p3 (by decide)]
  have s1' : T f (p + 1) = zc_set (T f p) (zc_S (T f p) - 1) 1 0 := s1
  have hc : ∃ r : Int64, (((cel (12 * a + (zc_S (T f p) - 1))) = 0) ∧ r = 1) ∨ (¬ ((cel (12 * a + (zc_S (T f p) - 1))) = 0) ∧ r = 0) := by
    by_cases z : ((cel (12 * a + (zc_S (T f p) - 1))) = 0)
    · exact ⟨1, Or.inl ⟨z, rfl⟩⟩
    · exact ⟨0, Or.inr ⟨z, rfl⟩⟩
  obtain ⟨r, hr⟩ := hc
  have hsx : zu_sx r := by
    rcases hr with ⟨_, hr⟩ | ⟨_, hr⟩ <;> rw [hr]
    · exact zu_sx1
    · exact zu_sx0
  refine ⟨nI w, nI (a + 1), nI (12 * a + (zc_S (T f p) - 1 + 1)), nI (p + 1), 0, 0, nI (p + 1), vt (16 * a + (zc_S (T f p) - 1)), lr, mem, aF, upd aA a (nI p), aT, upd (upd aZ a (nI (zc_S (T f p) - 1))) a (nI (zc_S (T f p) - 1 + 1)), aL, lP, lF, upd vt (16 * a + (zc_S (T f p) - 1)) 1, glo, vp_updL cel (12 * a + (zc_S (T f p) - 1)) r, loc, vp_updL val (16 * a + (zc_S (T f p) - 1)) (zu_cut 1 r), Or.inl (fun post hp => ?_), fun post hp => ?_, ?_⟩
  · refine zx_hd r1 rfl rfl (by omega) t2 hN.2.1 hN.1 t4 (by decide) H1.2.1 hi (fun z => by omega) (fun z => by omega) (fun _ _ => ?_) (fun z => by omega)
    refine br_f (by decide) (br_f (by decide) (br_f (by decide) (br_t (by decide) ?_)))
    refine zx_take r1 (z := zc_S (T f p)) (by omega) hS rfl rfl ?_
    rcases hr with ⟨h0, hr⟩ | ⟨h0, hr⟩ <;> subst hr
    · exact br_t h0 (zx_put r1 (by omega) rfl rfl hp)
    · exact br_f h0 (zx_put r1 (by omega) rfl rfl hp)
  · refine zy_hd r1 rfl t2 t3 (by decide) (by decide) (zy_277 (by decide) (by decide) ?_)
    refine br_f (by decide) (br_f (by decide) (br_f (by decide) (br_f (by decide) (br_f (by decide) (br_f (by decide) (br_f (by decide) (br_t (by decide) ?_)))))))
    unfold wpY_numeric
    refine zy_f1 (by decide) (zy_f2 (by decide) (by decide) (zy_f3 (by decide) ?_))
    rw [show zc_f1 28 = 2 from by decide, show zc_f2 28 = 0 from by decide, show zc_f3 28 = 1 from by decide]
    refine br_f (by decide) (br_f (by decide) (br_f (by decide) ?_))
    refine zy_take r1 (z := zc_S (T f p)) (by omega) hS rfl rfl t5 (by decide) (Or.inr y1) (zy_take0 rfl ?_)
    refine br_t rfl (nm_e (br_t rfl ?_))
    rw [u2]
    refine br_f (by decide) (br_t (by decide) ?_)
    rcases hr with ⟨h0, hr⟩ | ⟨h0, hr⟩ <;> subst hr
    · exact br_t h0 (nm_e ⟨1, zy_364 (q := 20) (by decide) (zy_put r1 (by omega) rfl rfl pk_us (by decide) hp)⟩)
    · exact br_f h0 (nm_e ⟨1, zy_364 (q := 20) (by decide) (zy_put r1 (by omega) rfl rfl pk_us (by decide) hp)⟩)
  · exact zu_finP H R (by decide) s1' (by omega) (zu_cut1 (fun _ => hsx)) (fun _ => hsx) pk_us zu_z2 (fun _ _ => rfl) t9 r5
theorem zu_o36 (H : zu_S pa tb re len ops sT sF sM imm nc T N) (hsg : zc_sg pa lo re nc) (R : zu_R nc nfu T N tb re aF aA aT aP aZ aL lP lF vt cel val loc glo a f p w) (hi : imm (64 * f + p) = im) (H1 : zt_1 pa tb re nc f (ops (64 * f + p)) im (T f p) (T f (p + 1)) p 36) : ∃ (us' dep' top' pc' tr' ytr' nx' tk' : Int32) (lr' : Int64) (mem' aF' aA' aT' aZ' aL' lP' lF' vt' : Nat → Int32) (glo' cel' loc' val' : Nat → Int64), zu_XS (zu_F nc nfu T N tb re aP us' dep' top' pc' tr' ytr' nx' aF' aA' aT' aZ' aL' lP' lF' vt' glo' cel' loc' val' a (zu_P nfu w p aA a - 1)) (fl, cl, ms, fu, cnt, opn, tu, oc, fc, cu, pu, mk, lr, nI w, nI (a + 1), nI (12 * a + zc_S (T f p)), nI p, 0, pa, lo, tb, re, sta, len, ops, imm, sT, sF, sM, oT, fK, fT, fH, fU, fS, fC, arg, glo, mem, aF, aA, aT, cel, loc) (fl, cl, ms, fu, cnt, opn, tu, oc, fc, cu, pu, mk, lr', us', dep', top', pc', tr', pa, lo, tb, re, sta, len, ops, imm, sT, sF, sM, oT, fK, fT, fH, fU, fS, fC, arg, glo', mem', aF', aA', aT', cel', loc') ∧ (∀ post : SY → Prop, post (fl, cl, ms, fu, cnt, opn, er, sz, dp, dep', ytr', nx', us', tk', lr', pa, lo, tb, re, sta, len, ops, ty, kd, bk, hh, dd, aF', aP, aZ', aL', lP', lF', vt', (fun j => mem' j &&& 255), imm, val', loc', glo', arg) → wpY_run post (fl, cl, ms, fu, cnt, opn, er, sz, dp, nI (a + 1), 0, nI (p + 1), nI w, tk, lr, pa, lo, tb, re, sta, len, ops, ty, kd, bk, hh, dd, aF, aP, aZ, aL, lP, lF, vt, (fun j => mem j &&& 255), imm, val, loc, glo, arg) (nI 36) im) ∧ zu_F nc nfu T N tb re aP us' dep' top' pc' tr' ytr' nx' aF' aA' aT' aZ' aL' lP' lF' vt' glo' cel' loc' val' a (zu_P nfu w p aA a) := by
  obtain ⟨r1, r2, r3, ⟨t1, t2, t3, t4, t5, t6, t7, t8, t9⟩, r5⟩ := id R
  have hok := H1.2.2.1
  have hS := hok.2.2.1
  have hN := H f t1
  have h4 := hsg.1
  obtain ⟨s1, s2, s3, s4, s5⟩ := zu_st H1 (by decide) rfl
  have s2' : (zc_pl (T f p) [2] (0, zc_S (T f p))).1 = 0 := by
    have q : (zc_pl (T f p) [2, 0] (0, zc_S (T f p))).1 = 0 := s2
    rw [zp_l0] at q; exact q
  obtain ⟨p1, p2, p3, p4, p5⟩ := zu_p1 H1 t8 (by decide) s2'
  have ecur : (zc_plan pa tb re f (T f p) im 36).2.1 = zc_S (T f p) - 1 := by show (zc_pl (T f p) [2, 0] (0, zc_S (T f p))).2 = _; rw [zp_l0, p2]
  rw [ecur] at s1
  obtain ⟨u1, u2, u3⟩ := t6 (zc_S (T f p) - 1) (by omega)
  have y1 : vt (16 * a + (zc_S (T f p) - 1)) = 2 := by rw [u1, p3 (by decide)]
  have s1' : T f (p + 1) = zc_set (T f p) (zc_S (T f p) - 1) 1 0 := s1
  refine ⟨nI w, nI (a + 1), nI (12 * a + (zc_S (T f p) - 1 + 1)), nI (p + 1), 0, 0, nI (p + 1), vt (16 * a + (zc_S (T f p) - 1)), lr, mem, aF, upd aA a (nI p), aT, upd (upd aZ a (nI (zc_S (T f p) - 1))) a (nI (zc_S (T f p) - 1 + 1)), aL, lP, lF, upd vt (16 * a + (zc_S (T f p) - 1)) 1, glo, vp_updL cel (12 * a + (zc_S (T f p) - 1)) (cel (12 * a + (zc_S (T f p) - 1))).toInt32.toInt64, loc, vp_updL val (16 * a + (zc_S (T f p) - 1)) (zu_cut 1 (cel (12 * a + (zc_S (T f p) - 1)))), Or.inl (fun post hp => ?_), fun post hp => ?_, ?_⟩
  · refine zx_hd r1 rfl rfl (by omega) t2 hN.2.1 hN.1 t4 (by decide) H1.2.1 hi (fun z => by omega) (fun z => by omega) (fun _ _ => ?_) (fun z => by omega)
    refine br_f (by decide) (br_t (by decide) ?_)
    exact zx_take r1 (z := zc_S (T f p)) (by omega) hS rfl rfl (zx_put r1 (by omega) rfl rfl hp)
  · refine zy_hd r1 rfl t2 t3 (by decide) (by decide) (zy_277 (by decide) (by decide) ?_)
    refine br_f (by decide) (br_f (by decide) (br_f (by decide) (br_f (by decide) (br_f (by decide) (br_f (by decide) (br_f (by decide) (br_t (by decide) ?_)))))))
    unfold wpY_numeric
    refine zy_f1 (by decide) (zy_f2 (by decide) (by decide) (zy_f3 (by decide) ?_))
    rw [show zc_f1 36 = 2 from by decide, show zc_f2 36 = 0 from by decide, show zc_f3 36 = 1 from by decide]
    refine br_f (by decide) (br_t (by decide) (br_f (by decide) ?_))
    refine zy_take r1 (z := zc_S (T f p)) (by omega) hS rfl rfl t5 (by decide) (Or.inr y1) (zy_take0 rfl ?_)
    refine br_t rfl (nm_e (br_t rfl ?_))
    rw [u2]
    refine br_t (by decide) (br_t (by decide) (br_t (by decide) ?_))
    refine br_f (by decide) ?_
    refine br_t (by decide) (br_t (by decide) ?_)
    exact nm_e ⟨1, zy_364 (q := 36) (by decide) (zy_put r1 (by omega) rfl rfl pk_us (by decide) hp)⟩
  · exact zu_finP H R (by decide) s1' (by omega) (if_pos rfl) (fun _ => zu_sxc _) pk_us zu_z2 (fun _ _ => rfl) t9 r5
theorem zu_o37 (H : zu_S pa tb re len ops sT sF sM imm nc T N) (hsg : zc_sg pa lo re nc) (R : zu_R nc nfu T N tb re aF aA aT aP aZ aL lP lF vt cel val loc glo a f p w) (hi : imm (64 * f + p) = im) (H1 : zt_1 pa tb re nc f (ops (64 * f + p)) im (T f p) (T f (p + 1)) p 37) : ∃ (us' dep' top' pc' tr' ytr' nx' tk' : Int32) (lr' : Int64) (mem' aF' aA' aT' aZ' aL' lP' lF' vt' : Nat → Int32) (glo' cel' loc' val' : Nat → Int64), zu_XS (zu_F nc nfu T N tb re aP us' dep' top' pc' tr' ytr' nx' aF' aA' aT' aZ' aL' lP' lF' vt' glo' cel' loc' val' a (zu_P nfu w p aA a - 1)) (fl, cl, ms, fu, cnt, opn, tu, oc, fc, cu, pu, mk, lr, nI w, nI (a + 1), nI (12 * a + zc_S (T f p)), nI p, 0, pa, lo, tb, re, sta, len, ops, imm, sT, sF, sM, oT, fK, fT, fH, fU, fS, fC, arg, glo, mem, aF, aA, aT, cel, loc) (fl, cl, ms, fu, cnt, opn, tu, oc, fc, cu, pu, mk, lr', us', dep', top', pc', tr', pa, lo, tb, re, sta, len, ops, imm, sT, sF, sM, oT, fK, fT, fH, fU, fS, fC, arg, glo', mem', aF', aA', aT', cel', loc') ∧ (∀ post : SY → Prop, post (fl, cl, ms, fu, cnt, opn, er, sz, dp, dep', ytr', nx', us', tk', lr', pa, lo, tb, re, sta, len, ops, ty, kd, bk, hh, dd, aF', aP, aZ', aL', lP', lF', vt', (fun j => mem' j &&& 255), imm, val', loc', glo', arg) → wpY_run post (fl, cl, ms, fu, cnt, opn, er, sz, dp, nI (a + 1), 0, nI (p + 1), nI w, tk, lr, pa, lo, tb, re, sta, len, ops, ty, kd, bk, hh, dd, aF, aP, aZ, aL, lP, lF, vt, (fun j => mem j &&& 255), imm, val, loc, glo, arg) (nI 37) im) ∧ zu_F nc nfu T N tb re aP us' dep' top' pc' tr' ytr' nx' aF' aA' aT' aZ' aL' lP' lF' vt' glo' cel' loc' val' a (zu_P nfu w p aA a) := by
  obtain ⟨r1, r2, r3, ⟨t1, t2, t3, t4, t5, t6, t7, t8, t9⟩, r5⟩ := id R
  have hok := H1.2.2.1
  have hS := hok.2.2.1
  have hN := H f t1
  have h4 := hsg.1
  obtain ⟨s1, s2, s3, s4, s5⟩ := zu_st H1 (by decide) rfl
  have s2' : (zc_pl (T f p) [1] (0, zc_S (T f p))).1 = 0 := by
    have q : (zc_pl (T f p) [1, 0] (0, zc_S (T f p))).1 = 0 := s2
    rw [zp_l0] at q; exact q
  obtain ⟨p1, p2, p3, p4, p5⟩ := zu_p1 H1 t8 (by decide) s2'
  have ecur : (zc_plan pa tb re f (T f p) im 37).2.1 = zc_S (T f p) - 1 := by show (zc_pl (T f p) [1, 0] (0, zc_S (T f p))).2 = _; rw [zp_l0, p2]
  rw [ecur] at s1
  obtain ⟨u1, u2, u3⟩ := t6 (zc_S (T f p) - 1) (by omega)
  have y1 : vt (16 * a + (zc_S (T f p) - 1)) = 1 := by rw [u1, p3 (by decide)]
  have s1' : T f (p + 1) = zc_set (T f p) (zc_S (T f p) - 1) 2 0 := s1
  have ecel : vp_updL cel (12 * a + (zc_S (T f p) - 1)) (cel (12 * a + (zc_S (T f p) - 1))) = cel := by
    funext j
    by_cases z : j = 12 * a + (zc_S (T f p) - 1)
    · rw [z, pk_uLs]
    · exact pk_uLn z
  have etop : zc_S (T f p) - 1 + 1 = zc_S (T f p) := by omega
  refine ⟨nI w, nI (a + 1), nI (12 * a + (zc_S (T f p) - 1 + 1)), nI (p + 1), 0, 0, nI (p + 1), vt (16 * a + (zc_S (T f p) - 1)), lr, mem, aF, upd aA a (nI p), aT, upd (upd aZ a (nI (zc_S (T f p) - 1))) a (nI (zc_S (T f p) - 1 + 1)), aL, lP, lF, upd vt (16 * a + (zc_S (T f p) - 1)) 2, glo, vp_updL cel (12 * a + (zc_S (T f p) - 1)) (cel (12 * a + (zc_S (T f p) - 1))), loc, vp_updL val (16 * a + (zc_S (T f p) - 1)) (zu_cut 2 (cel (12 * a + (zc_S (T f p) - 1)))), Or.inl (fun post hp => ?_), fun post hp => ?_, ?_⟩
  · refine zx_hd r1 rfl rfl (by omega) t2 hN.2.1 hN.1 t4 (by decide) H1.2.1 hi (fun z => by omega) (fun z => by omega) (fun _ _ => ?_) (fun z => by omega)
    refine br_t (by decide) ?_
    rw [ecel, etop] at hp
    exact hp
  · refine zy_hd r1 rfl t2 t3 (by decide) (by decide) (zy_277 (by decide) (by decide) ?_)
    refine br_f (by decide) (br_f (by decide) (br_f (by decide) (br_f (by decide) (br_f (by decide) (br_f (by decide) (br_f (by decide) (br_t (by decide) ?_)))))))
    unfold wpY_numeric
    refine zy_f1 (by decide) (zy_f2 (by decide) (by decide) (zy_f3 (by decide) ?_))
    rw [show zc_f1 37 = 1 from by decide, show zc_f2 37 = 0 from by decide, show zc_f3 37 = 2 from by decide]
    refine br_f (by decide) (br_t (by decide) (br_f (by decide) ?_))
    refine zy_take r1 (z := zc_S (T f p)) (by omega) hS rfl rfl t5 (by decide) (Or.inr y1) (zy_take0 rfl ?_)
    refine br_t rfl (nm_e (br_t rfl ?_))
    rw [u2]
    refine br_t (by decide) (br_t (by decide) (br_t (by decide) ?_))
    refine br_f (by decide) ?_
    refine br_t (by decide) (br_t (by decide) ?_)
    exact nm_e ⟨1, zy_364 (q := 37) (by decide) (zy_put r1 (by omega) rfl rfl pk_us (by decide) hp)⟩
  · exact zu_finP H R (by decide) s1' (by omega) (if_neg (by decide)) (fun z => absurd z (by decide)) pk_us zu_z2 (fun _ _ => rfl) t9 r5
end
end
section
/-! the run: division -/
theorem zu_tdiv {x y : Int} (hx : -2147483648 ≤ x ∧ x ≤ 2147483647) (hy : -2147483648 ≤ y ∧ y ≤ 2147483647) : -2147483648 ≤ x.tdiv y ∧ x.tdiv y ≤ 2147483648 ∧ (x.tdiv y = 2147483648 → x = -2147483648 ∧ y = -1) := by
  have h := Int.natAbs_tdiv x y
  have h2 : x.natAbs / y.natAbs ≤ x.natAbs := Nat.div_le_self _ _
  have key : ∀ (d : Int) (c : Nat), d.natAbs = c → c ≤ x.natAbs → -2147483648 ≤ d ∧ d ≤ 2147483648 ∧ (d = 2147483648 → x = -2147483648) := fun d c a1 a2 => by omega
  obtain ⟨k1, k2, k3⟩ := key _ _ h h2
  refine ⟨k1, k2, fun e => ?_⟩
  have e2 : x = -2147483648 := k3 e
  refine ⟨e2, ?_⟩
  rw [e, e2] at h
  have hq : (2147483648 : Int).natAbs = (-2147483648 : Int).natAbs / y.natAbs := h
  have e3 : y.natAbs = 1 := by
    have e4 : (2147483648 : Nat) = 2147483648 / y.natAbs := hq
    rcases Nat.lt_or_ge y.natAbs 2 with z | z
    · have : y.natAbs ≠ 0 := fun w => by rw [w, Nat.div_zero] at e4; omega
      omega
    · have : 2147483648 / y.natAbs ≤ 2147483648 / 2 := Nat.div_le_div_left z (by decide)
      omega
  have : y = 1 ∨ y = -1 := by omega
  rcases this with z | z
  · rw [z, e2, Int.tdiv_one] at e; omega
  · exact z
theorem zu_sxd {x y : Int64} (hx : zu_sx x) (hy : zu_sx y) (h : ¬ (x = -2147483648 ∧ y = -1)) : zu_sx (x / y) := by
  rw [zu_sxi] at hx hy ⊢
  obtain ⟨a1, a2, a3⟩ := zu_tdiv hx hy
  rw [Int64.toInt_div, Int.bmod_eq_of_le (by omega) (by omega)]
  refine ⟨a1, ?_⟩
  rcases Int.lt_or_le (x.toInt.tdiv y.toInt) 2147483648 with z | z
  · omega
  · obtain ⟨b1, b2⟩ := a3 (by omega)
    exact absurd ⟨Int64.toInt_inj.mp (by rw [b1]; decide), Int64.toInt_inj.mp (by rw [b2]; decide)⟩ h
theorem zu_lrem (x y : Int64) : x - (x / y) * y = x % y := by
  apply Int64.toInt_inj.mp
  have h1 := Int64.le_toInt (x % y)
  have h2 := Int64.toInt_lt (x % y)
  rw [Int64.toInt_sub, Int64.toInt_mul, Int64.toInt_div, Int.bmod_mul_bmod, Int.sub_bmod_bmod, Int.mul_comm (x.toInt.tdiv y.toInt), ← Int.tmod_def, ← Int64.toInt_mod]
  exact Int.bmod_eq_of_le_mul_two (by omega) (by omega)
theorem zu_sxr {x y : Int64} (hx : zu_sx x) (hy : zu_sx y) (h0 : y ≠ 0) : zu_sx (x - x / y * y) := by
  rw [zu_lrem]
  rw [zu_sxi] at hx hy ⊢
  rw [Int64.toInt_mod]
  have h := Int.natAbs_tmod x.toInt y.toInt
  have hy0 : y.toInt.natAbs ≠ 0 := fun z => h0 (Int64.toInt_inj.mp (by rw [show (0 : Int64).toInt = 0 from by decide]; omega))
  have h2 : x.toInt.natAbs % y.toInt.natAbs < y.toInt.natAbs := Nat.mod_lt _ (by omega)
  omega
section
variable {fl cl ms fu cnt opn tu oc fc cu pu mk us dep top pc tr er sz dp ytr nx tk : Int32} {lr : Int64} {pa lo tb re sta len ops sT sF sM oT fK fT fH fU fS fC mem aF aA aT ty kd bk hh dd aP aZ aL lP lF vt byt : Nat → Int32} {imm arg glo cel loc val : Nat → Int64} {nc nfu : Nat} {T : Nat → Nat → zc_C} {N : Nat → Nat} {a f p w k q fuel : Nat} {im r x9 x15 : Int64} {t x17 : Int32}
theorem zu_o26 (H : zu_S pa tb re len ops sT sF sM imm nc T N) (hsg : zc_sg pa lo re nc) (R : zu_R nc nfu T N tb re aF aA aT aP aZ aL lP lF vt cel val loc glo a f p w) (hi : imm (64 * f + p) = im) (H1 : zt_1 pa tb re nc f (ops (64 * f + p)) im (T f p) (T f (p + 1)) p 26) : ∃ (us' dep' top' pc' tr' ytr' nx' tk' : Int32) (lr' : Int64) (mem' aF' aA' aT' aZ' aL' lP' lF' vt' : Nat → Int32) (glo' cel' loc' val' : Nat → Int64), zu_XS (zu_F nc nfu T N tb re aP us' dep' top' pc' tr' ytr' nx' aF' aA' aT' aZ' aL' lP' lF' vt' glo' cel' loc' val' a (zu_P nfu w p aA a - 1)) (fl, cl, ms, fu, cnt, opn, tu, oc, fc, cu, pu, mk, lr, nI w, nI (a + 1), nI (12 * a + zc_S (T f p)), nI p, 0, pa, lo, tb, re, sta, len, ops, imm, sT, sF, sM, oT, fK, fT, fH, fU, fS, fC, arg, glo, mem, aF, aA, aT, cel, loc) (fl, cl, ms, fu, cnt, opn, tu, oc, fc, cu, pu, mk, lr', us', dep', top', pc', tr', pa, lo, tb, re, sta, len, ops, imm, sT, sF, sM, oT, fK, fT, fH, fU, fS, fC, arg, glo', mem', aF', aA', aT', cel', loc') ∧ (∀ post : SY → Prop, post (fl, cl, ms, fu, cnt, opn, er, sz, dp, dep', ytr', nx', us', tk', lr', pa, lo, tb, re, sta, len, ops, ty, kd, bk, hh, dd, aF', aP, aZ', aL', lP', lF', vt', (fun j => mem' j &&& 255), imm, val', loc', glo', arg) → wpY_run post (fl, cl, ms, fu, cnt, opn, er, sz, dp, nI (a + 1), 0, nI (p + 1), nI w, tk, lr, pa, lo, tb, re, sta, len, ops, ty, kd, bk, hh, dd, aF, aP, aZ, aL, lP, lF, vt, (fun j => mem j &&& 255), imm, val, loc, glo, arg) (nI 26) im) ∧ zu_F nc nfu T N tb re aP us' dep' top' pc' tr' ytr' nx' aF' aA' aT' aZ' aL' lP' lF' vt' glo' cel' loc' val' a (zu_P nfu w p aA a) := by
  obtain ⟨r1, r2, r3, ⟨t1, t2, t3, t4, t5, t6, t7, t8, t9⟩, r5⟩ := id R
  have hok := H1.2.2.1
  have hS := hok.2.2.1
  have hN := H f t1
  have h4 := hsg.1
  obtain ⟨s1, s2, s3, s4, s5⟩ := zu_st H1 (by decide) rfl
  have s2' : (zc_pl (T f p) [1, 1] (0, zc_S (T f p))).1 = 0 := s2
  obtain ⟨p1, p2, p3, p4, p5, p6⟩ := zu_p2 H1 t8 (by decide) (by decide) s2'
  have ecur : (zc_plan pa tb re f (T f p) im 26).2.1 = zc_S (T f p) - 2 := by show (zc_pl (T f p) [1, 1] (0, zc_S (T f p))).2 = _; rw [p2]
  rw [ecur] at s1
  obtain ⟨u1, u2, u3⟩ := t6 (zc_S (T f p) - 1) (by omega)
  obtain ⟨v1, v2, v3⟩ := t6 (zc_S (T f p) - 2) (by omega)
  have es2 : zc_S (T f p) - 1 - 1 = zc_S (T f p) - 2 := by omega
  have y1 : vt (16 * a + (zc_S (T f p) - 1)) = 1 := by rw [u1, p3 (by decide)]
  have y2 : vt (16 * a + (zc_S (T f p) - 1 - 1)) = 1 := by rw [es2, v1, p4 (by decide)]
  have s1' : T f (p + 1) = zc_set (T f p) (zc_S (T f p) - 2) 1 0 := s1
  have sxb : zu_sx (cel (12 * a + (zc_S (T f p) - 1))) := u3 (p3 (by decide))
  have sxa : zu_sx (cel (12 * a + (zc_S (T f p) - 2))) := v3 (p4 (by decide))
  by_cases b0 : (cel (12 * a + (zc_S (T f p) - 1))) = 0
  · refine ⟨nI w, nI (a + 1), nI (12 * a + (zc_S (T f p) - 2)), nI (p + 1), 2, 2, nI (p + 1), vt (16 * a + (zc_S (T f p) - 2)), lr, mem, aF, upd aA a (nI p), aT, upd (upd aZ a (nI (zc_S (T f p) - 1))) a (nI (zc_S (T f p) - 2)), aL, lP, lF, vt, glo, cel, loc, val, Or.inl (fun post hp => ?_), fun post hp => ?_, zu_trap (by decide) R⟩
    · refine zx_hd r1 rfl rfl (by omega) t2 hN.2.1 hN.1 t4 (by decide) H1.2.1 hi (fun z => by omega) (fun z => by omega) (fun _ _ => ?_) (fun z => by omega)
      refine br_f (by decide) (br_f (by decide) (br_f (by decide) (br_f (by decide) (br_t (by decide) (br_t (by decide) ?_)))))
      refine zx_take r1 (z := zc_S (T f p)) (by omega) hS rfl rfl (zx_take r1 (z := zc_S (T f p) - 1) (by omega) (by omega) rfl rfl ?_)
      rw [es2]
      refine br_f (by decide) ?_
      exact br_t b0 hp
    · refine zy_hd r1 rfl t2 t3 (by decide) (by decide) (zy_277 (by decide) (by decide) ?_)
      refine br_f (by decide) (br_f (by decide) (br_f (by decide) (br_f (by decide) (br_f (by decide) (br_f (by decide) (br_f (by decide) (br_t (by decide) ?_)))))))
      unfold wpY_numeric
      refine zy_f1 (by decide) (zy_f2 (by decide) (by decide) (zy_f3 (by decide) ?_))
      rw [show zc_f1 26 = 1 from by decide, show zc_f2 26 = 1 from by decide, show zc_f3 26 = 1 from by decide]
      refine br_t (by decide) (br_f (by decide) ?_)
      refine zy_take r1 (z := zc_S (T f p)) (by omega) hS rfl rfl t5 (by decide) (Or.inr y1) (zy_take r1 (z := zc_S (T f p) - 1) (by omega) (by omega) rfl rfl pk_us (by decide) (Or.inr y2) ?_)
      rw [es2]
      refine br_f (by decide) (nm_e (br_t rfl ?_))
      rw [u2, v2]
      refine br_t (by decide) (br_t (by decide) (br_f (by decide) ?_))
      exact br_t b0 (nm_e ⟨1, zy_364 (q := 26) (by decide) (zy_putT (by decide) hp)⟩)
  by_cases ov : (cel (12 * a + (zc_S (T f p) - 2))) = (-2147483648) ∧ (cel (12 * a + (zc_S (T f p) - 1))) = -1
  · refine ⟨nI w, nI (a + 1), nI (12 * a + (zc_S (T f p) - 2)), nI (p + 1), 3, 3, nI (p + 1), vt (16 * a + (zc_S (T f p) - 2)), lr, mem, aF, upd aA a (nI p), aT, upd (upd aZ a (nI (zc_S (T f p) - 1))) a (nI (zc_S (T f p) - 2)), aL, lP, lF, vt, glo, cel, loc, val, Or.inl (fun post hp => ?_), fun post hp => ?_, zu_trap (by decide) R⟩
    · refine zx_hd r1 rfl rfl (by omega) t2 hN.2.1 hN.1 t4 (by decide) H1.2.1 hi (fun z => by omega) (fun z => by omega) (fun _ _ => ?_) (fun z => by omega)
      refine br_f (by decide) (br_f (by decide) (br_f (by decide) (br_f (by decide) (br_t (by decide) (br_t (by decide) ?_)))))
      refine zx_take r1 (z := zc_S (T f p)) (by omega) hS rfl rfl (zx_take r1 (z := zc_S (T f p) - 1) (by omega) (by omega) rfl rfl ?_)
      rw [es2]
      refine br_f (by decide) ?_
      refine br_f b0 ?_
      refine br_f (by decide) (br_t (by decide) ?_)
      exact br_t ov.1 (br_t ov.2 hp)
    · refine zy_hd r1 rfl t2 t3 (by decide) (by decide) (zy_277 (by decide) (by decide) ?_)
      refine br_f (by decide) (br_f (by decide) (br_f (by decide) (br_f (by decide) (br_f (by decide) (br_f (by decide) (br_f (by decide) (br_t (by decide) ?_)))))))
      unfold wpY_numeric
      refine zy_f1 (by decide) (zy_f2 (by decide) (by decide) (zy_f3 (by decide) ?_))
      rw [show zc_f1 26 = 1 from by decide, show zc_f2 26 = 1 from by decide, show zc_f3 26 = 1 from by decide]
      refine br_t (by decide) (br_f (by decide) ?_)
      refine zy_take r1 (z := zc_S (T f p)) (by omega) hS rfl rfl t5 (by decide) (Or.inr y1) (zy_take r1 (z := zc_S (T f p) - 1) (by omega) (by omega) rfl rfl pk_us (by decide) (Or.inr y2) ?_)
      rw [es2]
      refine br_f (by decide) (nm_e (br_t rfl ?_))
      rw [u2, v2]
      refine br_t (by decide) (br_t (by decide) (br_f (by decide) ?_))
      refine br_f b0 ?_
      refine br_t (by decide) ?_
      refine br_t ov.2 ?_
      refine br_t (by decide) ?_
      exact br_t ov.1 (nm_e ⟨1, zy_364 (q := 26) (by decide) (zy_putT (by decide) hp)⟩)
  · refine ⟨nI w, nI (a + 1), nI (12 * a + (zc_S (T f p) - 2 + 1)), nI (p + 1), 0, 0, nI (p + 1), vt (16 * a + (zc_S (T f p) - 2)), lr, mem, aF, upd aA a (nI p), aT, upd (upd (upd aZ a (nI (zc_S (T f p) - 1))) a (nI (zc_S (T f p) - 2))) a (nI (zc_S (T f p) - 2 + 1)), aL, lP, lF, upd vt (16 * a + (zc_S (T f p) - 2)) 1, glo, vp_updL cel (12 * a + (zc_S (T f p) - 2)) ((cel (12 * a + (zc_S (T f p) - 2))) / (cel (12 * a + (zc_S (T f p) - 1)))), loc, vp_updL val (16 * a + (zc_S (T f p) - 2)) (zu_cut 1 ((cel (12 * a + (zc_S (T f p) - 2))) / (cel (12 * a + (zc_S (T f p) - 1))))), Or.inl (fun post hp => ?_), fun post hp => ?_, ?_⟩
    · refine zx_hd r1 rfl rfl (by omega) t2 hN.2.1 hN.1 t4 (by decide) H1.2.1 hi (fun z => by omega) (fun z => by omega) (fun _ _ => ?_) (fun z => by omega)
      refine br_f (by decide) (br_f (by decide) (br_f (by decide) (br_f (by decide) (br_t (by decide) (br_t (by decide) ?_)))))
      refine zx_take r1 (z := zc_S (T f p)) (by omega) hS rfl rfl (zx_take r1 (z := zc_S (T f p) - 1) (by omega) (by omega) rfl rfl ?_)
      rw [es2]
      refine br_f (by decide) ?_
      refine br_f b0 ?_
      refine br_f (by decide) (br_t (by decide) ?_)
      by_cases l0 : (cel (12 * a + (zc_S (T f p) - 2))) = (-2147483648)
      · exact br_t l0 (br_f (fun z => ov ⟨l0, z⟩) ⟨b0, zx_put r1 (by omega) rfl rfl hp⟩)
      · exact br_f l0 ⟨b0, zx_put r1 (by omega) rfl rfl hp⟩
    · refine zy_hd r1 rfl t2 t3 (by decide) (by decide) (zy_277 (by decide) (by decide) ?_)
      refine br_f (by decide) (br_f (by decide) (br_f (by decide) (br_f (by decide) (br_f (by decide) (br_f (by decide) (br_f (by decide) (br_t (by decide) ?_)))))))
      unfold wpY_numeric
      refine zy_f1 (by decide) (zy_f2 (by decide) (by decide) (zy_f3 (by decide) ?_))
      rw [show zc_f1 26 = 1 from by decide, show zc_f2 26 = 1 from by decide, show zc_f3 26 = 1 from by decide]
      refine br_t (by decide) (br_f (by decide) ?_)
      refine zy_take r1 (z := zc_S (T f p)) (by omega) hS rfl rfl t5 (by decide) (Or.inr y1) (zy_take r1 (z := zc_S (T f p) - 1) (by omega) (by omega) rfl rfl pk_us (by decide) (Or.inr y2) ?_)
      rw [es2]
      refine br_f (by decide) (nm_e (br_t rfl ?_))
      rw [u2, v2]
      refine br_t (by decide) (br_t (by decide) (br_f (by decide) ?_))
      refine br_f b0 ?_
      refine br_t (by decide) ?_
      by_cases m1 : (cel (12 * a + (zc_S (T f p) - 1))) = -1
      · refine br_t m1 ?_
        refine br_t (by decide) ?_
        exact br_f (fun z => ov ⟨z, m1⟩) (br_f (by decide) (br_f b0 (br_t (by decide) ⟨b0, nm_e (nm_e ⟨1, zy_364 (q := 26) (by decide) (zy_put r1 (by omega) rfl rfl pk_us (by decide) hp)⟩)⟩)))
      · exact br_f m1 (br_f (by decide) (br_f b0 (br_t (by decide) ⟨b0, nm_e (nm_e ⟨1, zy_364 (q := 26) (by decide) (zy_put r1 (by omega) rfl rfl pk_us (by decide) hp)⟩)⟩)))
    · exact zu_finP H R (by decide) s1' (by omega) (zu_cut1 (fun _ => zu_sxd sxa sxb ov)) (fun _ => zu_sxd sxa sxb ov) pk_us zu_z3 (fun _ _ => rfl) t9 r5
theorem zu_o34 (H : zu_S pa tb re len ops sT sF sM imm nc T N) (hsg : zc_sg pa lo re nc) (R : zu_R nc nfu T N tb re aF aA aT aP aZ aL lP lF vt cel val loc glo a f p w) (hi : imm (64 * f + p) = im) (H1 : zt_1 pa tb re nc f (ops (64 * f + p)) im (T f p) (T f (p + 1)) p 34) : ∃ (us' dep' top' pc' tr' ytr' nx' tk' : Int32) (lr' : Int64) (mem' aF' aA' aT' aZ' aL' lP' lF' vt' : Nat → Int32) (glo' cel' loc' val' : Nat → Int64), zu_XS (zu_F nc nfu T N tb re aP us' dep' top' pc' tr' ytr' nx' aF' aA' aT' aZ' aL' lP' lF' vt' glo' cel' loc' val' a (zu_P nfu w p aA a - 1)) (fl, cl, ms, fu, cnt, opn, tu, oc, fc, cu, pu, mk, lr, nI w, nI (a + 1), nI (12 * a + zc_S (T f p)), nI p, 0, pa, lo, tb, re, sta, len, ops, imm, sT, sF, sM, oT, fK, fT, fH, fU, fS, fC, arg, glo, mem, aF, aA, aT, cel, loc) (fl, cl, ms, fu, cnt, opn, tu, oc, fc, cu, pu, mk, lr', us', dep', top', pc', tr', pa, lo, tb, re, sta, len, ops, imm, sT, sF, sM, oT, fK, fT, fH, fU, fS, fC, arg, glo', mem', aF', aA', aT', cel', loc') ∧ (∀ post : SY → Prop, post (fl, cl, ms, fu, cnt, opn, er, sz, dp, dep', ytr', nx', us', tk', lr', pa, lo, tb, re, sta, len, ops, ty, kd, bk, hh, dd, aF', aP, aZ', aL', lP', lF', vt', (fun j => mem' j &&& 255), imm, val', loc', glo', arg) → wpY_run post (fl, cl, ms, fu, cnt, opn, er, sz, dp, nI (a + 1), 0, nI (p + 1), nI w, tk, lr, pa, lo, tb, re, sta, len, ops, ty, kd, bk, hh, dd, aF, aP, aZ, aL, lP, lF, vt, (fun j => mem j &&& 255), imm, val, loc, glo, arg) (nI 34) im) ∧ zu_F nc nfu T N tb re aP us' dep' top' pc' tr' ytr' nx' aF' aA' aT' aZ' aL' lP' lF' vt' glo' cel' loc' val' a (zu_P nfu w p aA a) := by
  obtain ⟨r1, r2, r3, ⟨t1, t2, t3, t4, t5, t6, t7, t8, t9⟩, r5⟩ := id R
  have hok := H1.2.2.1
  have hS := hok.2.2.1
  have hN := H f t1
  have h4 := hsg.1
  obtain ⟨s1, s2, s3, s4, s5⟩ := zu_st H1 (by decide) rfl
  have s2' : (zc_pl (T f p) [2, 2] (0, zc_S (T f p))).1 = 0 := s2
  obtain ⟨p1, p2, p3, p4, p5, p6⟩ := zu_p2 H1 t8 (by decide) (by decide) s2'
  have ecur : (zc_plan pa tb re f (T f p) im 34).2.1 = zc_S (T f p) - 2 := by show (zc_pl (T f p) [2, 2] (0, zc_S (T f p))).2 = _; rw [p2]
  rw [ecur] at s1
  obtain ⟨u1, u2, u3⟩ := t6 (zc_S (T f p) - 1) (by omega)
  obtain ⟨v1, v2, v3⟩ := t6 (zc_S (T f p) - 2) (by omega)
  have es2 : zc_S (T f p) - 1 - 1 = zc_S (T f p) - 2 := by omega
  have y1 : vt (16 * a + (zc_S (T f p) - 1)) = 2 := by rw [u1, p3 (by decide)]
  have y2 : vt (16 * a + (zc_S (T f p) - 1 - 1)) = 2 := by rw [es2, v1, p4 (by decide)]
  have s1' : T f (p + 1) = zc_set (T f p) (zc_S (T f p) - 2) 2 0 := s1
  by_cases b0 : (cel (12 * a + (zc_S (T f p) - 1))) = 0
  · refine ⟨nI w, nI (a + 1), nI (12 * a + (zc_S (T f p) - 2)), nI (p + 1), 2, 2, nI (p + 1), vt (16 * a + (zc_S (T f p) - 2)), lr, mem, aF, upd aA a (nI p), aT, upd (upd aZ a (nI (zc_S (T f p) - 1))) a (nI (zc_S (T f p) - 2)), aL, lP, lF, vt, glo, cel, loc, val, Or.inl (fun post hp => ?_), fun post hp => ?_, zu_trap (by decide) R⟩
    · refine zx_hd r1 rfl rfl (by omega) t2 hN.2.1 hN.1 t4 (by decide) H1.2.1 hi (fun z => by omega) (fun z => by omega) (fun _ _ => ?_) (fun z => by omega)
      refine br_f (by decide) (br_f (by decide) (br_f (by decide) (br_f (by decide) (br_f (by decide) (br_f (by decide) ?_)))))
      refine zx_take r1 (z := zc_S (T f p)) (by omega) hS rfl rfl (zx_take r1 (z := zc_S (T f p) - 1) (by omega) (by omega) rfl rfl ?_)
      rw [es2]
      refine br_f (by decide) ?_
      exact br_t b0 hp
    · refine zy_hd r1 rfl t2 t3 (by decide) (by decide) (zy_277 (by decide) (by decide) ?_)
      refine br_f (by decide) (br_f (by decide) (br_f (by decide) (br_f (by decide) (br_f (by decide) (br_f (by decide) (br_f (by decide) (br_t (by decide) ?_)))))))
      unfold wpY_numeric
      refine zy_f1 (by decide) (zy_f2 (by decide) (by decide) (zy_f3 (by decide) ?_))
      rw [show zc_f1 34 = 2 from by decide, show zc_f2 34 = 2 from by decide, show zc_f3 34 = 2 from by decide]
      refine br_f (by decide) (br_f (by decide) (br_f (by decide) ?_))
      refine zy_take r1 (z := zc_S (T f p)) (by omega) hS rfl rfl t5 (by decide) (Or.inr y1) (zy_take r1 (z := zc_S (T f p) - 1) (by omega) (by omega) rfl rfl pk_us (by decide) (Or.inr y2) ?_)
      rw [es2]
      refine br_f (by decide) (nm_e (br_t rfl ?_))
      rw [u2, v2]
      refine br_t (by decide) (br_t (by decide) (br_f (by decide) ?_))
      exact br_t b0 (nm_e ⟨1, zy_364 (q := 26) (by decide) (zy_putT (by decide) hp)⟩)
  by_cases ov : (cel (12 * a + (zc_S (T f p) - 2))) = (-9223372036854775808) ∧ (cel (12 * a + (zc_S (T f p) - 1))) = -1
  · refine ⟨nI w, nI (a + 1), nI (12 * a + (zc_S (T f p) - 2)), nI (p + 1), 3, 3, nI (p + 1), vt (16 * a + (zc_S (T f p) - 2)), lr, mem, aF, upd aA a (nI p), aT, upd (upd aZ a (nI (zc_S (T f p) - 1))) a (nI (zc_S (T f p) - 2)), aL, lP, lF, vt, glo, cel, loc, val, Or.inl (fun post hp => ?_), fun post hp => ?_, zu_trap (by decide) R⟩
    · refine zx_hd r1 rfl rfl (by omega) t2 hN.2.1 hN.1 t4 (by decide) H1.2.1 hi (fun z => by omega) (fun z => by omega) (fun _ _ => ?_) (fun z => by omega)
      refine br_f (by decide) (br_f (by decide) (br_f (by decide) (br_f (by decide) (br_f (by decide) (br_f (by decide) ?_)))))
      refine zx_take r1 (z := zc_S (T f p)) (by omega) hS rfl rfl (zx_take r1 (z := zc_S (T f p) - 1) (by omega) (by omega) rfl rfl ?_)
      rw [es2]
      refine br_f (by decide) ?_
      refine br_f b0 ?_
      refine br_f (by decide) (br_f (by decide) ?_)
      exact br_t ov.1 (br_t ov.2 hp)
    · refine zy_hd r1 rfl t2 t3 (by decide) (by decide) (zy_277 (by decide) (by decide) ?_)
      refine br_f (by decide) (br_f (by decide) (br_f (by decide) (br_f (by decide) (br_f (by decide) (br_f (by decide) (br_f (by decide) (br_t (by decide) ?_)))))))
      unfold wpY_numeric
      refine zy_f1 (by decide) (zy_f2 (by decide) (by decide) (zy_f3 (by decide) ?_))
      rw [show zc_f1 34 = 2 from by decide, show zc_f2 34 = 2 from by decide, show zc_f3 34 = 2 from by decide]
      refine br_f (by decide) (br_f (by decide) (br_f (by decide) ?_))
      refine zy_take r1 (z := zc_S (T f p)) (by omega) hS rfl rfl t5 (by decide) (Or.inr y1) (zy_take r1 (z := zc_S (T f p) - 1) (by omega) (by omega) rfl rfl pk_us (by decide) (Or.inr y2) ?_)
      rw [es2]
      refine br_f (by decide) (nm_e (br_t rfl ?_))
      rw [u2, v2]
      refine br_t (by decide) (br_t (by decide) (br_f (by decide) ?_))
      refine br_f b0 ?_
      refine br_t (by decide) ?_
      refine br_t ov.2 ?_
      refine br_f (by decide) ?_
      exact br_t ov.1 (nm_e ⟨1, zy_364 (q := 26) (by decide) (zy_putT (by decide) hp)⟩)
  · refine ⟨nI w, nI (a + 1), nI (12 * a + (zc_S (T f p) - 2 + 1)), nI (p + 1), 0, 0, nI (p + 1), vt (16 * a + (zc_S (T f p) - 2)), lr, mem, aF, upd aA a (nI p), aT, upd (upd (upd aZ a (nI (zc_S (T f p) - 1))) a (nI (zc_S (T f p) - 2))) a (nI (zc_S (T f p) - 2 + 1)), aL, lP, lF, upd vt (16 * a + (zc_S (T f p) - 2)) 2, glo, vp_updL cel (12 * a + (zc_S (T f p) - 2)) ((cel (12 * a + (zc_S (T f p) - 2))) / (cel (12 * a + (zc_S (T f p) - 1)))), loc, vp_updL val (16 * a + (zc_S (T f p) - 2)) (zu_cut 2 ((cel (12 * a + (zc_S (T f p) - 2))) / (cel (12 * a + (zc_S (T f p) - 1))))), Or.inl (fun post hp => ?_), fun post hp => ?_, ?_⟩
    · refine zx_hd r1 rfl rfl (by omega) t2 hN.2.1 hN.1 t4 (by decide) H1.2.1 hi (fun z => by omega) (fun z => by omega) (fun _ _ => ?_) (fun z => by omega)
      refine br_f (by decide) (br_f (by decide) (br_f (by decide) (br_f (by decide) (br_f (by decide) (br_f (by decide) ?_)))))
      refine zx_take r1 (z := zc_S (T f p)) (by omega) hS rfl rfl (zx_take r1 (z := zc_S (T f p) - 1) (by omega) (by omega) rfl rfl ?_)
      rw [es2]
      refine br_f (by decide) ?_
      refine br_f b0 ?_
      refine br_f (by decide) (br_f (by decide) ?_)
      by_cases l0 : (cel (12 * a + (zc_S (T f p) - 2))) = (-9223372036854775808)
      · exact br_t l0 (br_f (fun z => ov ⟨l0, z⟩) ⟨b0, zx_put r1 (by omega) rfl rfl hp⟩)
      · exact br_f l0 ⟨b0, zx_put r1 (by omega) rfl rfl hp⟩
    · refine zy_hd r1 rfl t2 t3 (by decide) (by decide) (zy_277 (by decide) (by decide) ?_)
      refine br_f (by decide) (br_f (by decide) (br_f (by decide) (br_f (by decide) (br_f (by decide) (br_f (by decide) (br_f (by decide) (br_t (by decide) ?_)))))))
      unfold wpY_numeric
      refine zy_f1 (by decide) (zy_f2 (by decide) (by decide) (zy_f3 (by decide) ?_))
      rw [show zc_f1 34 = 2 from by decide, show zc_f2 34 = 2 from by decide, show zc_f3 34 = 2 from by decide]
      refine br_f (by decide) (br_f (by decide) (br_f (by decide) ?_))
      refine zy_take r1 (z := zc_S (T f p)) (by omega) hS rfl rfl t5 (by decide) (Or.inr y1) (zy_take r1 (z := zc_S (T f p) - 1) (by omega) (by omega) rfl rfl pk_us (by decide) (Or.inr y2) ?_)
      rw [es2]
      refine br_f (by decide) (nm_e (br_t rfl ?_))
      rw [u2, v2]
      refine br_t (by decide) (br_t (by decide) (br_f (by decide) ?_))
      refine br_f b0 ?_
      refine br_t (by decide) ?_
      by_cases m1 : (cel (12 * a + (zc_S (T f p) - 1))) = -1
      · refine br_t m1 ?_
        refine br_f (by decide) ?_
        exact br_f (fun z => ov ⟨z, m1⟩) (br_f (by decide) (br_f b0 (br_t (by decide) ⟨b0, nm_e (nm_e ⟨1, zy_364 (q := 26) (by decide) (zy_put r1 (by omega) rfl rfl pk_us (by decide) hp)⟩)⟩)))
      · exact br_f m1 (br_f (by decide) (br_f b0 (br_t (by decide) ⟨b0, nm_e (nm_e ⟨1, zy_364 (q := 26) (by decide) (zy_put r1 (by omega) rfl rfl pk_us (by decide) hp)⟩)⟩)))
    · exact zu_finP H R (by decide) s1' (by omega) (if_neg (by decide)) (fun z => absurd z (by decide)) pk_us zu_z3 (fun _ _ => rfl) t9 r5
theorem zu_o27 (H : zu_S pa tb re len ops sT sF sM imm nc T N) (hsg : zc_sg pa lo re nc) (R : zu_R nc nfu T N tb re aF aA aT aP aZ aL lP lF vt cel val loc glo a f p w) (hi : imm (64 * f + p) = im) (H1 : zt_1 pa tb re nc f (ops (64 * f + p)) im (T f p) (T f (p + 1)) p 27) : ∃ (us' dep' top' pc' tr' ytr' nx' tk' : Int32) (lr' : Int64) (mem' aF' aA' aT' aZ' aL' lP' lF' vt' : Nat → Int32) (glo' cel' loc' val' : Nat → Int64), zu_XS (zu_F nc nfu T N tb re aP us' dep' top' pc' tr' ytr' nx' aF' aA' aT' aZ' aL' lP' lF' vt' glo' cel' loc' val' a (zu_P nfu w p aA a - 1)) (fl, cl, ms, fu, cnt, opn, tu, oc, fc, cu, pu, mk, lr, nI w, nI (a + 1), nI (12 * a + zc_S (T f p)), nI p, 0, pa, lo, tb, re, sta, len, ops, imm, sT, sF, sM, oT, fK, fT, fH, fU, fS, fC, arg, glo, mem, aF, aA, aT, cel, loc) (fl, cl, ms, fu, cnt, opn, tu, oc, fc, cu, pu, mk, lr', us', dep', top', pc', tr', pa, lo, tb, re, sta, len, ops, imm, sT, sF, sM, oT, fK, fT, fH, fU, fS, fC, arg, glo', mem', aF', aA', aT', cel', loc') ∧ (∀ post : SY → Prop, post (fl, cl, ms, fu, cnt, opn, er, sz, dp, dep', ytr', nx', us', tk', lr', pa, lo, tb, re, sta, len, ops, ty, kd, bk, hh, dd, aF', aP, aZ', aL', lP', lF', vt', (fun j => mem' j &&& 255), imm, val', loc', glo', arg) → wpY_run post (fl, cl, ms, fu, cnt, opn, er, sz, dp, nI (a + 1), 0, nI (p + 1), nI w, tk, lr, pa, lo, tb, re, sta, len, ops, ty, kd, bk, hh, dd, aF, aP, aZ, aL, lP, lF, vt, (fun j => mem j &&& 255), imm, val, loc, glo, arg) (nI 27) im) ∧ zu_F nc nfu T N tb re aP us' dep' top' pc' tr' ytr' nx' aF' aA' aT' aZ' aL' lP' lF' vt' glo' cel' loc' val' a (zu_P nfu w p aA a) := by
  obtain ⟨r1, r2, r3, ⟨t1, t2, t3, t4, t5, t6, t7, t8, t9⟩, r5⟩ := id R
  have hok := H1.2.2.1
  have hS := hok.2.2.1
  have hN := H f t1
  have h4 := hsg.1
  obtain ⟨s1, s2, s3, s4, s5⟩ := zu_st H1 (by decide) rfl
  have s2' : (zc_pl (T f p) [1, 1] (0, zc_S (T f p))).1 = 0 := s2
  obtain ⟨p1, p2, p3, p4, p5, p6⟩ := zu_p2 H1 t8 (by decide) (by decide) s2'
  have ecur : (zc_plan pa tb re f (T f p) im 27).2.1 = zc_S (T f p) - 2 := by show (zc_pl (T f p) [1, 1] (0, zc_S (T f p))).2 = _; rw [p2]
  rw [ecur] at s1
  obtain ⟨u1, u2, u3⟩ := t6 (zc_S (T f p) - 1) (by omega)
  obtain ⟨v1, v2, v3⟩ := t6 (zc_S (T f p) - 2) (by omega)
  have es2 : zc_S (T f p) - 1 - 1 = zc_S (T f p) - 2 := by omega
  have y1 : vt (16 * a + (zc_S (T f p) - 1)) = 1 := by rw [u1, p3 (by decide)]
  have y2 : vt (16 * a + (zc_S (T f p) - 1 - 1)) = 1 := by rw [es2, v1, p4 (by decide)]
  have s1' : T f (p + 1) = zc_set (T f p) (zc_S (T f p) - 2) 1 0 := s1
  have sxb : zu_sx (cel (12 * a + (zc_S (T f p) - 1))) := u3 (p3 (by decide))
  have sxa : zu_sx (cel (12 * a + (zc_S (T f p) - 2))) := v3 (p4 (by decide))
  by_cases b0 : (cel (12 * a + (zc_S (T f p) - 1))) = 0
  · refine ⟨nI w, nI (a + 1), nI (12 * a + (zc_S (T f p) - 2)), nI (p + 1), 2, 2, nI (p + 1), vt (16 * a + (zc_S (T f p) - 2)), lr, mem, aF, upd aA a (nI p), aT, upd (upd aZ a (nI (zc_S (T f p) - 1))) a (nI (zc_S (T f p) - 2)), aL, lP, lF, vt, glo, cel, loc, val, Or.inl (fun post hp => ?_), fun post hp => ?_, zu_trap (by decide) R⟩
    · refine zx_hd r1 rfl rfl (by omega) t2 hN.2.1 hN.1 t4 (by decide) H1.2.1 hi (fun z => by omega) (fun z => by omega) (fun _ _ => ?_) (fun z => by omega)
      refine br_f (by decide) (br_f (by decide) (br_f (by decide) (br_f (by decide) (br_t (by decide) (br_t (by decide) ?_)))))
      refine zx_take r1 (z := zc_S (T f p)) (by omega) hS rfl rfl (zx_take r1 (z := zc_S (T f p) - 1) (by omega) (by omega) rfl rfl ?_)
      rw [es2]
      refine br_f (by decide) ?_
      exact br_t b0 hp
    · refine zy_hd r1 rfl t2 t3 (by decide) (by decide) (zy_277 (by decide) (by decide) ?_)
      refine br_f (by decide) (br_f (by decide) (br_f (by decide) (br_f (by decide) (br_f (by decide) (br_f (by decide) (br_f (by decide) (br_t (by decide) ?_)))))))
      unfold wpY_numeric
      refine zy_f1 (by decide) (zy_f2 (by decide) (by decide) (zy_f3 (by decide) ?_))
      rw [show zc_f1 27 = 1 from by decide, show zc_f2 27 = 1 from by decide, show zc_f3 27 = 1 from by decide]
      refine br_t (by decide) (br_f (by decide) ?_)
      refine zy_take r1 (z := zc_S (T f p)) (by omega) hS rfl rfl t5 (by decide) (Or.inr y1) (zy_take r1 (z := zc_S (T f p) - 1) (by omega) (by omega) rfl rfl pk_us (by decide) (Or.inr y2) ?_)
      rw [es2]
      refine br_f (by decide) (nm_e (br_t rfl ?_))
      rw [u2, v2]
      refine br_t (by decide) (br_t (by decide) (br_f (by decide) ?_))
      exact br_t b0 (nm_e ⟨1, zy_364 (q := 27) (by decide) (zy_putT (by decide) hp)⟩)
  by_cases m1 : (cel (12 * a + (zc_S (T f p) - 1))) = -1
  · refine ⟨nI w, nI (a + 1), nI (12 * a + (zc_S (T f p) - 2 + 1)), nI (p + 1), 0, 0, nI (p + 1), vt (16 * a + (zc_S (T f p) - 2)), lr, mem, aF, upd aA a (nI p), aT, upd (upd (upd aZ a (nI (zc_S (T f p) - 1))) a (nI (zc_S (T f p) - 2))) a (nI (zc_S (T f p) - 2 + 1)), aL, lP, lF, upd vt (16 * a + (zc_S (T f p) - 2)) 1, glo, vp_updL cel (12 * a + (zc_S (T f p) - 2)) 0, loc, vp_updL val (16 * a + (zc_S (T f p) - 2)) (zu_cut 1 0), Or.inl (fun post hp => ?_), fun post hp => ?_, ?_⟩
    · refine zx_hd r1 rfl rfl (by omega) t2 hN.2.1 hN.1 t4 (by decide) H1.2.1 hi (fun z => by omega) (fun z => by omega) (fun _ _ => ?_) (fun z => by omega)
      refine br_f (by decide) (br_f (by decide) (br_f (by decide) (br_f (by decide) (br_t (by decide) (br_t (by decide) ?_)))))
      refine zx_take r1 (z := zc_S (T f p)) (by omega) hS rfl rfl (zx_take r1 (z := zc_S (T f p) - 1) (by omega) (by omega) rfl rfl ?_)
      rw [es2]
      refine br_f (by decide) ?_
      refine br_f b0 ?_
      refine br_t (by decide) ?_
      exact br_t m1 (zx_put r1 (by omega) rfl rfl hp)
    · refine zy_hd r1 rfl t2 t3 (by decide) (by decide) (zy_277 (by decide) (by decide) ?_)
      refine br_f (by decide) (br_f (by decide) (br_f (by decide) (br_f (by decide) (br_f (by decide) (br_f (by decide) (br_f (by decide) (br_t (by decide) ?_)))))))
      unfold wpY_numeric
      refine zy_f1 (by decide) (zy_f2 (by decide) (by decide) (zy_f3 (by decide) ?_))
      rw [show zc_f1 27 = 1 from by decide, show zc_f2 27 = 1 from by decide, show zc_f3 27 = 1 from by decide]
      refine br_t (by decide) (br_f (by decide) ?_)
      refine zy_take r1 (z := zc_S (T f p)) (by omega) hS rfl rfl t5 (by decide) (Or.inr y1) (zy_take r1 (z := zc_S (T f p) - 1) (by omega) (by omega) rfl rfl pk_us (by decide) (Or.inr y2) ?_)
      rw [es2]
      refine br_f (by decide) (nm_e (br_t rfl ?_))
      rw [u2, v2]
      refine br_t (by decide) (br_t (by decide) (br_f (by decide) ?_))
      refine br_f b0 ?_
      refine br_f (by decide) (br_f (by decide) ?_)
      refine br_f b0 ?_
      refine br_f (by decide) ?_
      exact br_t m1 (nm_e ⟨1, zy_364 (q := 27) (by decide) (zy_put r1 (by omega) rfl rfl pk_us (by decide) hp)⟩)
    · exact zu_finP H R (by decide) s1' (by omega) (zu_cut1 (fun _ => zu_sx0)) (fun _ => zu_sx0) pk_us zu_z3 (fun _ _ => rfl) t9 r5
  · refine ⟨nI w, nI (a + 1), nI (12 * a + (zc_S (T f p) - 2 + 1)), nI (p + 1), 0, 0, nI (p + 1), vt (16 * a + (zc_S (T f p) - 2)), lr, mem, aF, upd aA a (nI p), aT, upd (upd (upd aZ a (nI (zc_S (T f p) - 1))) a (nI (zc_S (T f p) - 2))) a (nI (zc_S (T f p) - 2 + 1)), aL, lP, lF, upd vt (16 * a + (zc_S (T f p) - 2)) 1, glo, vp_updL cel (12 * a + (zc_S (T f p) - 2)) ((cel (12 * a + (zc_S (T f p) - 2))) - (cel (12 * a + (zc_S (T f p) - 2))) / (cel (12 * a + (zc_S (T f p) - 1))) * (cel (12 * a + (zc_S (T f p) - 1)))), loc, vp_updL val (16 * a + (zc_S (T f p) - 2)) (zu_cut 1 ((cel (12 * a + (zc_S (T f p) - 2))) - (cel (12 * a + (zc_S (T f p) - 2))) / (cel (12 * a + (zc_S (T f p) - 1))) * (cel (12 * a + (zc_S (T f p) - 1))))), Or.inl (fun post hp => ?_), fun post hp => ?_, ?_⟩
    · refine zx_hd r1 rfl rfl (by omega) t2 hN.2.1 hN.1 t4 (by decide) H1.2.1 hi (fun z => by omega) (fun z => by omega) (fun _ _ => ?_) (fun z => by omega)
      refine br_f (by decide) (br_f (by decide) (br_f (by decide) (br_f (by decide) (br_t (by decide) (br_t (by decide) ?_)))))
      refine zx_take r1 (z := zc_S (T f p)) (by omega) hS rfl rfl (zx_take r1 (z := zc_S (T f p) - 1) (by omega) (by omega) rfl rfl ?_)
      rw [es2]
      refine br_f (by decide) ?_
      refine br_f b0 ?_
      refine br_t (by decide) ?_
      exact br_f m1 ⟨b0, nm_e (zx_put r1 (by omega) rfl rfl hp)⟩
    · refine zy_hd r1 rfl t2 t3 (by decide) (by decide) (zy_277 (by decide) (by decide) ?_)
      refine br_f (by decide) (br_f (by decide) (br_f (by decide) (br_f (by decide) (br_f (by decide) (br_f (by decide) (br_f (by decide) (br_t (by decide) ?_)))))))
      unfold wpY_numeric
      refine zy_f1 (by decide) (zy_f2 (by decide) (by decide) (zy_f3 (by decide) ?_))
      rw [show zc_f1 27 = 1 from by decide, show zc_f2 27 = 1 from by decide, show zc_f3 27 = 1 from by decide]
      refine br_t (by decide) (br_f (by decide) ?_)
      refine zy_take r1 (z := zc_S (T f p)) (by omega) hS rfl rfl t5 (by decide) (Or.inr y1) (zy_take r1 (z := zc_S (T f p) - 1) (by omega) (by omega) rfl rfl pk_us (by decide) (Or.inr y2) ?_)
      rw [es2]
      refine br_f (by decide) (nm_e (br_t rfl ?_))
      rw [u2, v2]
      refine br_t (by decide) (br_t (by decide) (br_f (by decide) ?_))
      refine br_f b0 ?_
      refine br_f (by decide) (br_f (by decide) ?_)
      refine br_f b0 ?_
      refine br_f (by decide) ?_
      exact br_f m1 ⟨b0, nm_e (nm_e ⟨1, zy_364 (q := 27) (by decide) (zy_put r1 (by omega) rfl rfl pk_us (by decide) hp)⟩)⟩
    · exact zu_finP H R (by decide) s1' (by omega) (zu_cut1 (fun _ => zu_sxr sxa sxb b0)) (fun _ => zu_sxr sxa sxb b0) pk_us zu_z3 (fun _ _ => rfl) t9 r5
theorem zu_o35 (H : zu_S pa tb re len ops sT sF sM imm nc T N) (hsg : zc_sg pa lo re nc) (R : zu_R nc nfu T N tb re aF aA aT aP aZ aL lP lF vt cel val loc glo a f p w) (hi : imm (64 * f + p) = im) (H1 : zt_1 pa tb re nc f (ops (64 * f + p)) im (T f p) (T f (p + 1)) p 35) : ∃ (us' dep' top' pc' tr' ytr' nx' tk' : Int32) (lr' : Int64) (mem' aF' aA' aT' aZ' aL' lP' lF' vt' : Nat → Int32) (glo' cel' loc' val' : Nat → Int64), zu_XS (zu_F nc nfu T N tb re aP us' dep' top' pc' tr' ytr' nx' aF' aA' aT' aZ' aL' lP' lF' vt' glo' cel' loc' val' a (zu_P nfu w p aA a - 1)) (fl, cl, ms, fu, cnt, opn, tu, oc, fc, cu, pu, mk, lr, nI w, nI (a + 1), nI (12 * a + zc_S (T f p)), nI p, 0, pa, lo, tb, re, sta, len, ops, imm, sT, sF, sM, oT, fK, fT, fH, fU, fS, fC, arg, glo, mem, aF, aA, aT, cel, loc) (fl, cl, ms, fu, cnt, opn, tu, oc, fc, cu, pu, mk, lr', us', dep', top', pc', tr', pa, lo, tb, re, sta, len, ops, imm, sT, sF, sM, oT, fK, fT, fH, fU, fS, fC, arg, glo', mem', aF', aA', aT', cel', loc') ∧ (∀ post : SY → Prop, post (fl, cl, ms, fu, cnt, opn, er, sz, dp, dep', ytr', nx', us', tk', lr', pa, lo, tb, re, sta, len, ops, ty, kd, bk, hh, dd, aF', aP, aZ', aL', lP', lF', vt', (fun j => mem' j &&& 255), imm, val', loc', glo', arg) → wpY_run post (fl, cl, ms, fu, cnt, opn, er, sz, dp, nI (a + 1), 0, nI (p + 1), nI w, tk, lr, pa, lo, tb, re, sta, len, ops, ty, kd, bk, hh, dd, aF, aP, aZ, aL, lP, lF, vt, (fun j => mem j &&& 255), imm, val, loc, glo, arg) (nI 35) im) ∧ zu_F nc nfu T N tb re aP us' dep' top' pc' tr' ytr' nx' aF' aA' aT' aZ' aL' lP' lF' vt' glo' cel' loc' val' a (zu_P nfu w p aA a) := by
  obtain ⟨r1, r2, r3, ⟨t1, t2, t3, t4, t5, t6, t7, t8, t9⟩, r5⟩ := id R
  have hok := H1.2.2.1
  have hS := hok.2.2.1
  have hN := H f t1
  have h4 := hsg.1
  obtain ⟨s1, s2, s3, s4, s5⟩ := zu_st H1 (by decide) rfl
  have s2' : (zc_pl (T f p) [2, 2] (0, zc_S (T f p))).1 = 0 := s2
  obtain ⟨p1, p2, p3, p4, p5, p6⟩ := zu_p2 H1 t8 (by decide) (by decide) s2'
  have ecur : (zc_plan pa tb re f (T f p) im 35).2.1 = zc_S (T f p) - 2 := by show (zc_pl (T f p) [2, 2] (0, zc_S (T f p))).2 = _; rw [p2]
  rw [ecur] at s1
  obtain ⟨u1, u2, u3⟩ := t6 (zc_S (T f p) - 1) (by omega)
  obtain ⟨v1, v2, v3⟩ := t6 (zc_S (T f p) - 2) (by omega)
  have es2 : zc_S (T f p) - 1 - 1 = zc_S (T f p) - 2 := by omega
  have y1 : vt (16 * a + (zc_S (T f p) - 1)) = 2 := by rw [u1, p3 (by decide)]
  have y2 : vt (16 * a + (zc_S (T f p) - 1 - 1)) = 2 := by rw [es2, v1, p4 (by decide)]
  have s1' : T f (p + 1) = zc_set (T f p) (zc_S (T f p) - 2) 2 0 := s1
  by_cases b0 : (cel (12 * a + (zc_S (T f p) - 1))) = 0
  · refine ⟨nI w, nI (a + 1), nI (12 * a + (zc_S (T f p) - 2)), nI (p + 1), 2, 2, nI (p + 1), vt (16 * a + (zc_S (T f p) - 2)), lr, mem, aF, upd aA a (nI p), aT, upd (upd aZ a (nI (zc_S (T f p) - 1))) a (nI (zc_S (T f p) - 2)), aL, lP, lF, vt, glo, cel, loc, val, Or.inl (fun post hp => ?_), fun post hp => ?_, zu_trap (by decide) R⟩
    · refine zx_hd r1 rfl rfl (by omega) t2 hN.2.1 hN.1 t4 (by decide) H1.2.1 hi (fun z => by omega) (fun z => by omega) (fun _ _ => ?_) (fun z => by omega)
      refine br_f (by decide) (br_f (by decide) (br_f (by decide) (br_f (by decide) (br_f (by decide) (br_f (by decide) ?_)))))
      refine zx_take r1 (z := zc_S (T f p)) (by omega) hS rfl rfl (zx_take r1 (z := zc_S (T f p) - 1) (by omega) (by omega) rfl rfl ?_)
      rw [es2]
      refine br_f (by decide) ?_
      exact br_t b0 hp
    · refine zy_hd r1 rfl t2 t3 (by decide) (by decide) (zy_277 (by decide) (by decide) ?_)
      refine br_f (by decide) (br_f (by decide) (br_f (by decide) (br_f (by decide) (br_f (by decide) (br_f (by decide) (br_f (by decide) (br_t (by decide) ?_)))))))
      unfold wpY_numeric
      refine zy_f1 (by decide) (zy_f2 (by decide) (by decide) (zy_f3 (by decide) ?_))
      rw [show zc_f1 35 = 2 from by decide, show zc_f2 35 = 2 from by decide, show zc_f3 35 = 2 from by decide]
      refine br_f (by decide) (br_f (by decide) (br_f (by decide) ?_))
      refine zy_take r1 (z := zc_S (T f p)) (by omega) hS rfl rfl t5 (by decide) (Or.inr y1) (zy_take r1 (z := zc_S (T f p) - 1) (by omega) (by omega) rfl rfl pk_us (by decide) (Or.inr y2) ?_)
      rw [es2]
      refine br_f (by decide) (nm_e (br_t rfl ?_))
      rw [u2, v2]
      refine br_t (by decide) (br_t (by decide) (br_f (by decide) ?_))
      exact br_t b0 (nm_e ⟨1, zy_364 (q := 27) (by decide) (zy_putT (by decide) hp)⟩)
  by_cases m1 : (cel (12 * a + (zc_S (T f p) - 1))) = -1
  · refine ⟨nI w, nI (a + 1), nI (12 * a + (zc_S (T f p) - 2 + 1)), nI (p + 1), 0, 0, nI (p + 1), vt (16 * a + (zc_S (T f p) - 2)), lr, mem, aF, upd aA a (nI p), aT, upd (upd (upd aZ a (nI (zc_S (T f p) - 1))) a (nI (zc_S (T f p) - 2))) a (nI (zc_S (T f p) - 2 + 1)), aL, lP, lF, upd vt (16 * a + (zc_S (T f p) - 2)) 2, glo, vp_updL cel (12 * a + (zc_S (T f p) - 2)) 0, loc, vp_updL val (16 * a + (zc_S (T f p) - 2)) (zu_cut 2 0), Or.inl (fun post hp => ?_), fun post hp => ?_, ?_⟩
    · refine zx_hd r1 rfl rfl (by omega) t2 hN.2.1 hN.1 t4 (by decide) H1.2.1 hi (fun z => by omega) (fun z => by omega) (fun _ _ => ?_) (fun z => by omega)
      refine br_f (by decide) (br_f (by decide) (br_f (by decide) (br_f (by decide) (br_f (by decide) (br_f (by decide) ?_)))))
      refine zx_take r1 (z := zc_S (T f p)) (by omega) hS rfl rfl (zx_take r1 (z := zc_S (T f p) - 1) (by omega) (by omega) rfl rfl ?_)
      rw [es2]
      refine br_f (by decide) ?_
      refine br_f b0 ?_
      refine br_t (by decide) ?_
      exact br_t m1 (zx_put r1 (by omega) rfl rfl hp)
    · refine zy_hd r1 rfl t2 t3 (by decide) (by decide) (zy_277 (by decide) (by decide) ?_)
      refine br_f (by decide) (br_f (by decide) (br_f (by decide) (br_f (by decide) (br_f (by decide) (br_f (by decide) (br_f (by decide) (br_t (by decide) ?_)))))))
      unfold wpY_numeric
      refine zy_f1 (by decide) (zy_f2 (by decide) (by decide) (zy_f3 (by decide) ?_))
      rw [show zc_f1 35 = 2 from by decide, show zc_f2 35 = 2 from by decide, show zc_f3 35 = 2 from by decide]
      refine br_f (by decide) (br_f (by decide) (br_f (by decide) ?_))
      refine zy_take r1 (z := zc_S (T f p)) (by omega) hS rfl rfl t5 (by decide) (Or.inr y1) (zy_take r1 (z := zc_S (T f p) - 1) (by omega) (by omega) rfl rfl pk_us (by decide) (Or.inr y2) ?_)
      rw [es2]
      refine br_f (by decide) (nm_e (br_t rfl ?_))
      rw [u2, v2]
      refine br_t (by decide) (br_t (by decide) (br_f (by decide) ?_))
      refine br_f b0 ?_
      refine br_f (by decide) (br_f (by decide) ?_)
      refine br_f b0 ?_
      refine br_f (by decide) ?_
      exact br_t m1 (nm_e ⟨1, zy_364 (q := 27) (by decide) (zy_put r1 (by omega) rfl rfl pk_us (by decide) hp)⟩)
    · exact zu_finP H R (by decide) s1' (by omega) (if_neg (by decide)) (fun z => absurd z (by decide)) pk_us zu_z3 (fun _ _ => rfl) t9 r5
  · refine ⟨nI w, nI (a + 1), nI (12 * a + (zc_S (T f p) - 2 + 1)), nI (p + 1), 0, 0, nI (p + 1), vt (16 * a + (zc_S (T f p) - 2)), lr, mem, aF, upd aA a (nI p), aT, upd (upd (upd aZ a (nI (zc_S (T f p) - 1))) a (nI (zc_S (T f p) - 2))) a (nI (zc_S (T f p) - 2 + 1)), aL, lP, lF, upd vt (16 * a + (zc_S (T f p) - 2)) 2, glo, vp_updL cel (12 * a + (zc_S (T f p) - 2)) ((cel (12 * a + (zc_S (T f p) - 2))) - (cel (12 * a + (zc_S (T f p) - 2))) / (cel (12 * a + (zc_S (T f p) - 1))) * (cel (12 * a + (zc_S (T f p) - 1)))), loc, vp_updL val (16 * a + (zc_S (T f p) - 2)) (zu_cut 2 ((cel (12 * a + (zc_S (T f p) - 2))) - (cel (12 * a + (zc_S (T f p) - 2))) / (cel (12 * a + (zc_S (T f p) - 1))) * (cel (12 * a + (zc_S (T f p) - 1))))), Or.inl (fun post hp => ?_), fun post hp => ?_, ?_⟩
    · refine zx_hd r1 rfl rfl (by omega) t2 hN.2.1 hN.1 t4 (by decide) H1.2.1 hi (fun z => by omega) (fun z => by omega) (fun _ _ => ?_) (fun z => by omega)
      refine br_f (by decide) (br_f (by decide) (br_f (by decide) (br_f (by decide) (br_f (by decide) (br_f (by decide) ?_)))))
      refine zx_take r1 (z := zc_S (T f p)) (by omega) hS rfl rfl (zx_take r1 (z := zc_S (T f p) - 1) (by omega) (by omega) rfl rfl ?_)
      rw [es2]
      refine br_f (by decide) ?_
      refine br_f b0 ?_
      refine br_t (by decide) ?_
      exact br_f m1 ⟨b0, nm_e (zx_put r1 (by omega) rfl rfl hp)⟩
    · refine zy_hd r1 rfl t2 t3 (by decide) (by decide) (zy_277 (by decide) (by decide) ?_)
      refine br_f (by decide) (br_f (by decide) (br_f (by decide) (br_f (by decide) (br_f (by decide) (br_f (by decide) (br_f (by decide) (br_t (by decide) ?_)))))))
      unfold wpY_numeric
      refine zy_f1 (by decide) (zy_f2 (by decide) (by decide) (zy_f3 (by decide) ?_))
      rw [show zc_f1 35 = 2 from by decide, show zc_f2 35 = 2 from by decide, show zc_f3 35 = 2 from by decide]
      refine br_f (by decide) (br_f (by decide) (br_f (by decide) ?_))
      refine zy_take r1 (z := zc_S (T f p)) (by omega) hS rfl rfl t5 (by decide) (Or.inr y1) (zy_take r1 (z := zc_S (T f p) - 1) (by omega) (by omega) rfl rfl pk_us (by decide) (Or.inr y2) ?_)
      rw [es2]
      refine br_f (by decide) (nm_e (br_t rfl ?_))
      rw [u2, v2]
      refine br_t (by decide) (br_t (by decide) (br_f (by decide) ?_))
      refine br_f b0 ?_
      refine br_f (by decide) (br_f (by decide) ?_)
      refine br_f b0 ?_
      refine br_f (by decide) ?_
      exact br_f m1 ⟨b0, nm_e (nm_e ⟨1, zy_364 (q := 27) (by decide) (zy_put r1 (by omega) rfl rfl pk_us (by decide) hp)⟩)⟩
    · exact zu_finP H R (by decide) s1' (by omega) (if_neg (by decide)) (fun z => absurd z (by decide)) pk_us zu_z3 (fun _ _ => rfl) t9 r5
end
end
section
/-! the run: memory -/
theorem zm_or (R b : Nat) (hb : b < 256) : lN (R * 256) ||| lN b = lN (R * 256 + b) := by
  have e1 : lN (R * 256) = lN ((R % 2 ^ 56) * 256) := by
    rw [wb_mod (R * 256)]
    exact congrArg lN (by omega)
  rw [e1, g_or (k := 8) (p := 256) (by decide) hb (by omega), wb_mod (R * 256 + b)]
  exact congrArg lN (by omega)
/-- the byte as a number -/
def zm_b (mem : Nat → Int32) (y : Nat) : Nat := (mem y).toBitVec.toNat % 2 ^ 8
theorem zm_bl (mem : Nat → Int32) (y : Nat) : zm_b mem y < 256 := Nat.mod_lt _ (by decide)
theorem zm_bx (mem : Nat → Int32) (y : Nat) : (mem y).toInt64 &&& 255 = lN (zm_b mem y) := zb_L64 (mem y) (k := 8) (by decide)
theorem zm_by (mem : Nat → Int32) (y : Nat) : (mem y &&& 255).toInt64 = lN (zm_b mem y) := by
  rw [pk_and (mem y) 8 (by decide)]
  exact nI_l (by have := zm_bl mem y; unfold zm_b at this; omega)
/-- the bytes from y on, the least first -/
def zm_s (mem : Nat → Int32) (y : Nat) : Nat → Nat
  | 0 => 0
  | i + 1 => zm_s mem y i + zm_b mem (y + i) * 256 ^ i
theorem zm_sl (mem : Nat → Int32) (y : Nat) : ∀ i, zm_s mem y i < 256 ^ i
  | 0 => Nat.one_pos
  | i + 1 => by
    have h1 := zm_sl mem y i
    have h2 := zm_bl mem (y + i)
    show zm_s mem y i + zm_b mem (y + i) * 256 ^ i < 256 ^ (i + 1)
    rw [Nat.pow_succ]
    have h3 : zm_b mem (y + i) * 256 ^ i ≤ 255 * 256 ^ i := Nat.mul_le_mul_right _ (by omega)
    omega
/-- the bytes from y + j to y + w, the greatest first -/
def zm_t (mem : Nat → Int32) (y w r0 : Nat) : Nat → Nat
  | 0 => r0
  | i + 1 => zm_t mem y w r0 i * 256 + zm_b mem (y + (w - (i + 1)))
theorem zm_ts (mem : Nat → Int32) (y w r0 : Nat) : ∀ i, i ≤ w → zm_t mem y w r0 i * 256 ^ (w - i) + zm_s mem y (w - i) = r0 * 256 ^ w + zm_s mem y w
  | 0, _ => by show r0 * 256 ^ (w - 0) + zm_s mem y (w - 0) = _; rw [Nat.sub_zero]
  | i + 1, h => by
    have ih := zm_ts mem y w r0 i (by omega)
    rw [← ih]
    have e : w - i = (w - (i + 1)) + 1 := by omega
    rw [e]
    show (zm_t mem y w r0 i * 256 + zm_b mem (y + (w - (i + 1)))) * 256 ^ (w - (i + 1)) + zm_s mem y (w - (i + 1)) = zm_t mem y w r0 i * 256 ^ (w - (i + 1) + 1) + (zm_s mem y (w - (i + 1)) + zm_b mem (y + (w - (i + 1))) * 256 ^ (w - (i + 1)))
    rw [Nat.add_mul, Nat.pow_succ, Nat.mul_comm (256 ^ (w - (i + 1))) 256, ← Nat.mul_assoc]
    omega
theorem zm_t0 (mem : Nat → Int32) (y w r0 : Nat) : zm_t mem y w r0 w = r0 * 256 ^ w + zm_s mem y w := by
  have h := zm_ts mem y w r0 w (Nat.le_refl _)
  rw [Nat.sub_self] at h
  have : zm_t mem y w r0 w * 256 ^ 0 + zm_s mem y 0 = zm_t mem y w r0 w := by show zm_t mem y w r0 w * 256 ^ 0 + 0 = _; omega
  omega
/-- the byte that a store writes -/
def zm_x (v : Int64) (i : Nat) : Int32 := vp_nar .byte ((((v.toUInt64 >>> ((8 * nI i).toInt64.toUInt64 &&& Int64.toUInt64 63)).toInt64).toInt32).toInt8.toInt32)
def zm_y (v : Int64) (i : Nat) : Int32 := ((v >>> ((8 * nI i).toInt64 &&& 63)).toInt32) &&& 255
theorem zm_bit (w : Int64) {i : Nat} (hi : i < 32) : bt w.toInt32 i = w.toBitVec.getLsbD i := by
  unfold bt
  rw [Int64.toBitVec_toInt32, BitVec.getLsbD_signExtend]
  have h2 : i < 64 := by omega
  simp [hi, h2]
theorem zm_xy (v : Int64) {i : Nat} (hi : i < 8) : zm_x v i &&& 255 = zm_y v i := by
  unfold zm_x zm_y
  rw [vp_nar_byte, bp_b, bp_b]
  have e8 : 8 * nI i = nI (8 * i) := pk_mul 8 i
  rw [e8]
  apply b_ext
  intro j hj
  rw [b_and, b_and, b_255]
  by_cases h : j < 8
  · rw [zm_bit _ hj, zm_bit _ hj]
    have A : ((v.toUInt64 >>> ((nI (8 * i)).toInt64.toUInt64 &&& Int64.toUInt64 63)).toInt64).toBitVec.getLsbD j = v.toBitVec.getLsbD (8 * i + j) := by
      show (v.toUInt64 >>> ((nI (8 * i)).toInt64.toUInt64 &&& Int64.toUInt64 63)).toBitVec.getLsbD j = _
      rw [wb_cu (8 * i) (by omega), UInt64.toBitVec_shiftRight]
      have e : ((UInt64.ofNat (8 * i)).toBitVec % 64).toNat = 8 * i := by
        have e1 : (UInt64.ofNat (8 * i)).toBitVec.toNat = 8 * i := u_tn (by omega)
        rw [BitVec.toNat_umod, e1]
        show 8 * i % 64 = 8 * i
        omega
      show (v.toUInt64.toBitVec >>> ((UInt64.ofNat (8 * i)).toBitVec % 64).toNat).getLsbD j = _
      rw [e, BitVec.getLsbD_ushiftRight]
      rfl
    have B : (v >>> ((nI (8 * i)).toInt64 &&& 63)).toBitVec.getLsbD j = v.toBitVec.getLsbD (8 * i + j) := by
      rw [wb_c (8 * i) (by omega), Int64.toBitVec_shiftRight]
      show (v.toBitVec.sshiftRight ((lN (8 * i)).toBitVec.smod 64).toNat).getLsbD j = _
      have e : ((lN (8 * i)).toBitVec.smod 64).toNat = 8 * i := by
        rw [wb_tb, wb_sm (8 * i) (by omega), BitVec.toNat_ofNat, Nat.mod_eq_of_lt (by omega)]
      rw [e, BitVec.getLsbD_sshiftRight]
      have h1 : ¬ 64 ≤ j := by omega
      have h2 : 8 * i + j < 64 := by omega
      simp [h1, h2]
    rw [A, B]
  · simp [h]
/-- memory with w bytes of v at y -/
def zm_m (mem : Nat → Int32) (v : Int64) (y w : Nat) : Nat → Int32 := fun j => if y ≤ j ∧ j < y + w then zm_x v (j - y) else mem j
theorem zm_m0 (mem : Nat → Int32) (v : Int64) (y : Nat) : zm_m mem v y 0 = mem := by
  funext j; unfold zm_m; rw [if_neg (by omega)]
theorem zm_mS (mem : Nat → Int32) (v : Int64) (y w : Nat) : upd (zm_m mem v y w) (y + w) (zm_x v w) = zm_m mem v y (w + 1) := by
  funext j
  by_cases z : j = y + w
  · subst z; rw [pk_us]; unfold zm_m; rw [if_pos (by omega), Nat.add_sub_cancel_left]
  · rw [pk_un z]; unfold zm_m
    by_cases q : y ≤ j ∧ j < y + w
    · rw [if_pos q, if_pos (by omega)]
    · rw [if_neg q, if_neg (by omega)]
/-- bytes with those from y + j to y + w of v -/
def zm_n (mem : Nat → Int32) (v : Int64) (y w j : Nat) : Nat → Int32 := fun x => if y + j ≤ x ∧ x < y + w then zm_y v (x - y) else mem x &&& 255
theorem zm_nw (mem : Nat → Int32) (v : Int64) (y w : Nat) : zm_n mem v y w w = fun x => mem x &&& 255 := by
  funext j; unfold zm_n; rw [if_neg (by omega)]
theorem zm_nS (mem : Nat → Int32) (v : Int64) (y w j : Nat) (hj : j < w) : upd (zm_n mem v y w (j + 1)) (y + j) (zm_y v j) = zm_n mem v y w j := by
  funext x
  by_cases z : x = y + j
  · subst z; rw [pk_us]; unfold zm_n; rw [if_pos (by omega), Nat.add_sub_cancel_left]
  · rw [pk_un z]; unfold zm_n
    by_cases q : y + (j + 1) ≤ x ∧ x < y + w
    · rw [if_pos q, if_pos (by omega)]
    · rw [if_neg q, if_neg (by omega)]
theorem zm_n0 (mem : Nat → Int32) (v : Int64) (y w : Nat) (hw : w ≤ 8) : zm_n mem v y w 0 = fun x => zm_m mem v y w x &&& 255 := by
  funext x
  unfold zm_n zm_m
  by_cases q : y ≤ x ∧ x < y + w
  · rw [if_pos (by omega), if_pos q, zm_xy v (by omega)]
  · rw [if_neg (by omega), if_neg q]
section
variable {fl cl ms fu cnt opn tu oc fc cu pu mk us dep top pc tr er sz dp ytr nx tk : Int32} {lr : Int64} {pa lo tb re sta len ops sT sF sM oT fK fT fH fU fS fC mem aF aA aT ty kd bk hh dd aP aZ aL lP lF vt byt : Nat → Int32} {imm arg glo cel loc val : Nat → Int64} {nc nfu nms : Nat} {T : Nat → Nat → zc_C} {N : Nat → Nat} {a f p w k q y wd : Nat} {im r x9 x15 v : Int64} {t : Int32} {post : SX → Prop}
theorem zx_104 {x4 x10 : Int32} (hx4 : x4 = nI wd) (hx10 : x10 = nI y) (hw : wd ≤ 8) (hy : y + wd ≤ 64) (hp : post (fl, cl, ms, fu, cnt, opn, tu, oc, fc, cu, pu, mk, lr, us, dep, top, pc, tr, pa, lo, tb, re, sta, len, ops, imm, sT, sF, sM, oT, fK, fT, fH, fU, fS, fC, arg, glo, zm_m mem v y wd, aF, aA, aT, cel, loc)) : ∀ (m i fuel : Nat), i + m = wd → m < fuel →
    wX_runMemory_104 post x4 v x10 fl cl ms fu cnt opn tu oc fc cu pu mk lr us dep top pc tr fuel (nI i) pa lo tb re sta len ops imm sT sF sM oT fK fT fH fU fS fC arg glo (zm_m mem v y i) aF aA aT cel loc
  | 0, i, fuel + 1, hi, _ => by
    have e : i = wd := by omega
    subst e hx4
    exact br_t (nI_le (Nat.le_refl _) (by omega)) hp
  | m + 1, i, fuel + 1, hi, hf => by
    have IH := zx_104 hx4 hx10 hw hy hp m (i + 1) fuel (by omega) (by omega)
    subst hx4 hx10
    have e : nI y + nI i = nI (y + i) := nI_add y i
    refine br_f (nI_ge (by omega) (by omega)) ⟨by rw [e]; exact vp_in_nI (by omega) (by decide), nm_r (e' := zm_m mem v y (i + 1)) ?_ (nm_r (nI_1 i) IH)⟩
    rw [e, nI_clamp (by omega), ← zm_mS]
    rfl
theorem zx_141 {x4 x10 : Int32} (hx4 : x4 = nI wd) (hx10 : x10 = nI y) (hw : wd ≤ 8) (hy : y + wd ≤ 64) (hp : (x4 = 4 → wX_runMemory_196 post (lN (zm_s mem y wd)).toInt32.toInt64 fl cl ms fu cnt opn tu oc fc cu pu mk lr us dep top pc tr pa lo tb re sta len ops imm sT sF sM oT fK fT fH fU fS fC arg glo mem aF aA aT cel loc) ∧ (¬ x4 = 4 → wX_runMemory_196 post (lN (zm_s mem y wd)) fl cl ms fu cnt opn tu oc fc cu pu mk lr us dep top pc tr pa lo tb re sta len ops imm sT sF sM oT fK fT fH fU fS fC arg glo mem aF aA aT cel loc)) : ∀ (m i fuel : Nat), i + m = wd → m < fuel →
    wX_runMemory_141 post x4 x10 fl cl ms fu cnt opn tu oc fc cu pu mk lr us dep top pc tr pa lo tb re sta len ops imm sT sF sM oT fK fT fH fU fS fC arg glo mem aF aA aT cel loc fuel (lN (zm_s mem y i)) (nI i)
  | 0, i, fuel + 1, hi, _ => by
    have e : i = wd := by omega
    subst e
    exact br_t (by rw [hx4]; exact nI_le (Nat.le_refl _) (by omega)) hp
  | m + 1, i, fuel + 1, hi, hf => by
    have IH := zx_141 hx4 hx10 hw hy hp m (i + 1) fuel (by omega) (by omega)
    have e : x10 + nI i = nI (y + i) := by rw [hx10]; exact nI_add y i
    refine br_f (by rw [hx4]; exact nI_ge (by omega) (by omega)) ⟨by rw [e]; exact vp_in_nI (by omega) (by decide), nm_r (e' := lN (zm_s mem y (i + 1))) ?_ (nm_r (nI_1 i) IH)⟩
    have e8 : 8 * nI i = nI (8 * i) := pk_mul 8 i
    have h1 := zm_sl mem y i
    have h2 := zm_bl mem (y + i)
    have e256 : (2 : Nat) ^ (8 * i) = 256 ^ i := by rw [Nat.pow_mul]
    have h3 : (256 : Nat) ^ (i + 1) ≤ 256 ^ 8 := Nat.pow_le_pow_right (by decide) (by omega)
    have h4 := zm_sl mem y (i + 1)
    rw [e, nI_clamp (by omega), zm_bx, e8, wb_shl _ (by omega), e256]
    exact g_or' (k := 8 * i) e256 h1 (Nat.lt_of_lt_of_le h4 (Nat.le_trans h3 (by decide)))
end
section
variable {fl cl ms fu cnt opn tu oc fc cu pu mk us dep top pc tr er sz dp ytr nx tk : Int32} {lr : Int64} {pa lo tb re sta len ops sT sF sM oT fK fT fH fU fS fC mem aF aA aT ty kd bk hh dd aP aZ aL lP lF vt byt : Nat → Int32} {imm arg glo cel loc val : Nat → Int64} {nc nfu nms : Nat} {T : Nat → Nat → zc_C} {N : Nat → Nat} {a f p w k q y wd r0 : Nat} {im r x9 x15 v : Int64} {t : Int32} {post : SY → Prop}
theorem zy_364s (hq : 38 ≤ q) (hq2 : q < 42) (hx15 : x15.toInt32 = nI y) (hw : wd ≤ 8) (hy : y + wd ≤ 64) (htr : ytr = 0) (hp : post (fl, cl, ms, fu, cnt, opn, er, sz, dp, dep, ytr, nx, us, tk, lr, pa, lo, tb, re, sta, len, ops, ty, kd, bk, hh, dd, aF, aP, aZ, aL, lP, lF, vt, zm_n mem v y wd 0, imm, val, loc, glo, arg)) : ∀ (j fuel : Nat), j ≤ wd → j < fuel →
    wY_numeric_364 post 0 (nI q) v x15 fl cl ms fu cnt opn er sz dp dep ytr nx us tk lr fuel r (zy_ix j) pa lo tb re sta len ops ty kd bk hh dd aF aP aZ aL lP lF vt (zm_n mem v y wd j) imm val loc glo arg
  | 0, fuel + 1, _, _ => br_t zy_ix0 (br_t rfl hp)
  | j + 1, fuel + 1, hj, hf => by
    have IH := zy_364s hq hq2 hx15 hw hy htr hp j fuel (by omega) (by omega)
    have e : x15.toInt32 + zy_ix (j + 1) = nI (y + j) := by rw [hx15]; exact nI_add y j
    have hin : vp_in (nI (y + j)) 64 := vp_in_nI (by omega) (by decide)
    refine br_f (nI_pos (n := j) (by omega)) (pk_lt q 38 (fun _ => by omega) (fun _ => br_t htr (nm_r e (br_t rfl ⟨hin, nm_r (e' := zm_n mem v y wd j) ?_ (nm_r (zy_ixm j) IH)⟩))))
    rw [nI_clamp (by omega), ← zm_nS mem v y wd j (by omega)]
    rfl
theorem zy_364l (hq : 38 ≤ q) (hq2 : q < 42) (hx15 : x15.toInt32 = nI y) (hw : wd ≤ 8) (hy : y + wd ≤ 64) (htr : ytr = 0) (ht : t ≠ 0) (hb : byt = fun j => mem j &&& 255) (hp : wpY_put (fun u => match u with | (fl, cl, ms, fu, cnt, opn, er, sz, dp, dep, ytr, nx, us, tk, lr, pa, lo, tb, re, sta, len, ops, ty, kd, bk, hh, dd, aF, aP, aZ, aL, lP, lF, vt, byt, imm, val, loc, glo, arg) => post (fl, cl, ms, fu, cnt, opn, er, sz, dp, dep, ytr, nx, us, tk, lr, pa, lo, tb, re, sta, len, ops, ty, kd, bk, hh, dd, aF, aP, aZ, aL, lP, lF, vt, byt, imm, val, loc, glo, arg)) (fl, cl, ms, fu, cnt, opn, er, sz, dp, dep, ytr, nx, us, tk, lr, pa, lo, tb, re, sta, len, ops, ty, kd, bk, hh, dd, aF, aP, aZ, aL, lP, lF, vt, byt, imm, val, loc, glo, arg) t (lN (zm_t mem y wd r0 wd))) : ∀ (j fuel : Nat), j ≤ wd → j < fuel →
    wY_numeric_364 post t (nI q) x9 x15 fl cl ms fu cnt opn er sz dp dep ytr nx us tk lr fuel (lN (zm_t mem y wd r0 (wd - j))) (zy_ix j) pa lo tb re sta len ops ty kd bk hh dd aF aP aZ aL lP lF vt byt imm val loc glo arg
  | 0, fuel + 1, _, _ => by
    refine br_t zy_ix0 ?_
    rw [Nat.sub_zero]; exact hp
  | j + 1, fuel + 1, hj, hf => by
    have IH := zy_364l hq hq2 hx15 hw hy htr ht hb hp j fuel (by omega) (by omega)
    have e : x15.toInt32 + zy_ix (j + 1) = nI (y + j) := by rw [hx15]; exact nI_add y j
    have hin : vp_in (nI (y + j)) 64 := vp_in_nI (by omega) (by decide)
    refine br_f (nI_pos (n := j) (by omega)) (pk_lt q 38 (fun _ => by omega) (fun _ => br_t htr (nm_r e (br_f ht ⟨hin, nm_r (e' := lN (zm_t mem y wd r0 (wd - j))) ?_ (nm_r (zy_ixm j) IH)⟩))))
    have e2 : wd - j = (wd - (j + 1)) + 1 := by omega
    have e3 : zm_t mem y wd r0 (wd - (j + 1) + 1) = zm_t mem y wd r0 (wd - (j + 1)) * 256 + zm_b mem (y + (wd - (wd - (j + 1) + 1))) := rfl
    have e4 : wd - (wd - (j + 1) + 1) = j := by omega
    rw [nI_clamp (by omega), hb, e2, e3, e4]
    show (lN (zm_t mem y wd r0 (wd - (j + 1))) <<< ((8 : Int32).toInt64 &&& 63)) ||| (mem (y + j) &&& 255).toInt64 = _
    rw [zm_by, show (8 : Int32) = nI 8 from rfl, wb_shl _ (by omega)]
    exact zm_or _ _ (zm_bl _ _)
end
end
section
section
variable {fl cl ms fu cnt opn tu oc fc cu pu mk us dep top pc tr er sz dp ytr nx tk : Int32} {lr : Int64} {pa lo tb re sta len ops sT sF sM oT fK fT fH fU fS fC mem aF aA aT ty kd bk hh dd aP aZ aL lP lF vt byt : Nat → Int32} {imm arg glo cel loc val : Nat → Int64} {nc nfu nms : Nat} {T : Nat → Nat → zc_C} {N : Nat → Nat} {a f p w k q y wd r0 fuel : Nat} {im r x9 x15 v : Int64} {t x17 : Int32}
theorem zm_nI {A B : Nat} (h : A % 2 ^ 32 = B % 2 ^ 32) : nI A = nI B := by
  apply Int32.toBitVec_inj.mp
  apply BitVec.eq_of_toNat_eq
  have e : ∀ x : Nat, (nI x).toBitVec.toNat = x % 2 ^ 32 := fun _ => rfl
  rw [e, e]; exact h
theorem zm_r4 (r s : Nat) : (r * 256 ^ 4 + s) % 2 ^ 32 = s % 2 ^ 32 := by omega
theorem zm_r8 (r s : Nat) : (r * 256 ^ 8 + s) % 2 ^ 64 = s % 2 ^ 64 := by omega
theorem zy_364t {post : SY → Prop} (h : ytr ≠ 0) (hp : post (fl, cl, ms, fu, cnt, opn, er, sz, dp, dep, ytr, nx, us, tk, lr, pa, lo, tb, re, sta, len, ops, ty, kd, bk, hh, dd, aF, aP, aZ, aL, lP, lF, vt, byt, imm, val, loc, glo, arg)) : wY_numeric_364 post t (nI q) x9 x15 fl cl ms fu cnt opn er sz dp dep ytr nx us tk lr (fuel + 1) r x17 pa lo tb re sta len ops ty kd bk hh dd aF aP aZ aL lP lF vt byt imm val loc glo arg := by
  have A : wY_numeric_441 post t r fl cl ms fu cnt opn er sz dp dep ytr nx us tk lr pa lo tb re sta len ops ty kd bk hh dd aF aP aZ aL lP lF vt byt imm val loc glo arg := zy_putT h hp
  exact br_c (fun _ => A) (fun _ => br_c (fun _ => A) (fun _ => br_f h A))
/-- an address and a width against the memory's size -/
theorem zm_ad {m j wd : Nat} {x : Int64} {W : Int32} (hm : m < 2 ^ 32) (hj : j ≤ 63) (hw : wd ≤ 8) (hn : nms ≤ 64) (hx : x = lN (m + j)) (hW : W = nI wd) (hms : ms = nI nms) : (x + W.toInt64 ≤ ms.toInt64 ↔ m + j + wd ≤ nms) ∧ ¬ x < 0 ∧ x.toInt32 = nI (m + j) := by
  subst hx hW hms
  rw [nI_l (by omega), nI_l (by omega), lN_add]
  refine ⟨pk_lLE (by omega) (by omega), ?_, lN_i _⟩
  rw [Int64.lt_iff_toInt_lt, pk_lT (by omega), show (0 : Int64).toInt = 0 from by decide]
  omega
theorem zu_o38 (H : zu_S pa tb re len ops sT sF sM imm nc T N) (hsg : zc_sg pa lo re nc) (R : zu_R nc nfu T N tb re aF aA aT aP aZ aL lP lF vt cel val loc glo a f p w) (hi : imm (64 * f + p) = im) (H1 : zt_1 pa tb re nc f (ops (64 * f + p)) im (T f p) (T f (p + 1)) p 38) (hms : ms = nI nms) (h64 : nms ≤ 64) : ∃ (us' dep' top' pc' tr' ytr' nx' tk' : Int32) (lr' : Int64) (mem' aF' aA' aT' aZ' aL' lP' lF' vt' : Nat → Int32) (glo' cel' loc' val' : Nat → Int64), zu_XS (zu_F nc nfu T N tb re aP us' dep' top' pc' tr' ytr' nx' aF' aA' aT' aZ' aL' lP' lF' vt' glo' cel' loc' val' a (zu_P nfu w p aA a - 1)) (fl, cl, ms, fu, cnt, opn, tu, oc, fc, cu, pu, mk, lr, nI w, nI (a + 1), nI (12 * a + zc_S (T f p)), nI p, 0, pa, lo, tb, re, sta, len, ops, imm, sT, sF, sM, oT, fK, fT, fH, fU, fS, fC, arg, glo, mem, aF, aA, aT, cel, loc) (fl, cl, ms, fu, cnt, opn, tu, oc, fc, cu, pu, mk, lr', us', dep', top', pc', tr', pa, lo, tb, re, sta, len, ops, imm, sT, sF, sM, oT, fK, fT, fH, fU, fS, fC, arg, glo', mem', aF', aA', aT', cel', loc') ∧ (∀ post : SY → Prop, post (fl, cl, ms, fu, cnt, opn, er, sz, dp, dep', ytr', nx', us', tk', lr', pa, lo, tb, re, sta, len, ops, ty, kd, bk, hh, dd, aF', aP, aZ', aL', lP', lF', vt', (fun j => mem' j &&& 255), imm, val', loc', glo', arg) → wpY_run post (fl, cl, ms, fu, cnt, opn, er, sz, dp, nI (a + 1), 0, nI (p + 1), nI w, tk, lr, pa, lo, tb, re, sta, len, ops, ty, kd, bk, hh, dd, aF, aP, aZ, aL, lP, lF, vt, (fun j => mem j &&& 255), imm, val, loc, glo, arg) (nI 38) im) ∧ zu_F nc nfu T N tb re aP us' dep' top' pc' tr' ytr' nx' aF' aA' aT' aZ' aL' lP' lF' vt' glo' cel' loc' val' a (zu_P nfu w p aA a) := by
  obtain ⟨r1, r2, r3, ⟨t1, t2, t3, t4, t5, t6, t7, t8, t9⟩, r5⟩ := id R
  have hok := H1.2.2.1
  have hS := hok.2.2.1
  have hN := H f t1
  have h4 := hsg.1
  obtain ⟨s1, s2, s3, s4, s5⟩ := zu_st H1 (by decide) rfl
  have s2' : (zc_pl (T f p) [1] (0, zc_S (T f p))).1 = 0 := by
    have q : (zc_pl (T f p) [1, 0] (0, zc_S (T f p))).1 = 0 := s2
    rw [zp_l0] at q; exact q
  obtain ⟨p1, p2, p3, p4, p5⟩ := zu_p1 H1 t8 (by decide) s2'
  have ecur : (zc_plan pa tb re f (T f p) im 38).2.1 = zc_S (T f p) - 1 := by show (zc_pl (T f p) [1, 0] (0, zc_S (T f p))).2 = _; rw [zp_l0, p2]
  rw [ecur] at s1
  obtain ⟨u1, u2, u3⟩ := t6 (zc_S (T f p) - 1) (by omega)
  have y1 : vt (16 * a + (zc_S (T f p) - 1)) = 1 := by rw [u1, p3 (by decide)]
  have s1' : T f (p + 1) = zc_set (T f p) (zc_S (T f p) - 1) 1 0 := s1
  obtain ⟨j, hj, ej⟩ := H1.2.2.2.1.2.2.2.2.2.2.2 (by decide)
  obtain ⟨m, hm, em⟩ := pf_andw (cel (12 * a + (zc_S (T f p) - 1)))
  obtain ⟨r0, hr0, er0⟩ := wb_of (cel (12 * a + (zc_S (T f p) - 1)))
  have ex : ((cel (12 * a + (zc_S (T f p) - 1))) &&& 4294967295) + im = lN (m + j) := by rw [em, ej, lN_add]
  obtain ⟨q1, q2, q3⟩ := zm_ad (nms := nms) (wd := 4) (W := 4) hm hj (by omega) h64 ex rfl hms
  by_cases hb : m + j + 4 ≤ nms
  · refine ⟨nI w, nI (a + 1), nI (12 * a + (zc_S (T f p) - 1 + 1)), nI (p + 1), 0, 0, nI (p + 1), vt (16 * a + (zc_S (T f p) - 1)), lr, mem, aF, upd aA a (nI p), aT, upd (upd aZ a (nI (zc_S (T f p) - 1))) a (nI (zc_S (T f p) - 1 + 1)), aL, lP, lF, upd vt (16 * a + (zc_S (T f p) - 1)) 1, glo, vp_updL cel (12 * a + (zc_S (T f p) - 1)) (lN (zm_s mem (m + j) 4)).toInt32.toInt64, loc, vp_updL val (16 * a + (zc_S (T f p) - 1)) (zu_cut 1 (lN (zm_t mem (m + j) 4 r0 4))), Or.inl (fun post hp => ?_), fun post hp => ?_, ?_⟩
    · refine zx_hd r1 rfl rfl (by omega) t2 hN.2.1 hN.1 t4 (by decide) H1.2.1 hi (fun z => by omega) (fun z => by omega) (fun z => by omega) (fun _ => ?_)
      refine br_t (by decide) ?_
      refine br_f (by decide) (br_f (by decide) (br_t (by decide) ?_))
      refine zx_take r1 (z := zc_S (T f p)) (by omega) hS rfl rfl (nm_e (br_f q2 (br_t (q1.mpr hb) (br_t rfl ⟨5, ?_⟩))))
      refine zx_141 (y := m + j) (wd := 4) rfl q3 (by omega) (by omega) ?_ 4 0 5 (by omega) (by omega)
      exact br_t rfl (zx_put r1 (by omega) rfl rfl hp)
    · refine zy_hd r1 rfl t2 t3 (by decide) (by decide) (zy_277 (by decide) (by decide) ?_)
      refine br_f (by decide) (br_f (by decide) (br_f (by decide) (br_f (by decide) (br_f (by decide) (br_f (by decide) (br_f (by decide) (br_t (by decide) ?_)))))))
      unfold wpY_numeric
      refine zy_f1 (by decide) (zy_f2 (by decide) (by decide) (zy_f3 (by decide) ?_))
      rw [show zc_f1 38 = 1 from by decide, show zc_f2 38 = 0 from by decide, show zc_f3 38 = 1 from by decide]
      refine br_f (by decide) (br_t (by decide) ?_)
      refine br_f (by decide) ?_
      refine zy_take r1 (z := zc_S (T f p)) (by omega) hS rfl rfl t5 (by decide) (Or.inr y1) (zy_take0 rfl ?_)
      refine br_t rfl (nm_e (br_t rfl ?_))
      refine br_t (by decide) (br_t (by decide) (br_t (by decide) (br_f (by decide) (br_t (by decide) ?_))))
      refine br_f (by decide) ?_
      rw [u2]
      refine br_t (q1.mpr hb) (nm_r (e' := zy_ix 4) (by decide) ⟨5, ?_⟩)
      have L := zy_364l (t := 1) (q := 38) (wd := 4) (r0 := r0) (x9 := (cel (12 * a + (zc_S (T f p) - 1)))) (y := m + j) (mem := mem) (byt := fun j => mem j &&& 255) (by decide) (by decide) q3 (by omega) (by omega) rfl (by decide) rfl (zy_put r1 (z := zc_S (T f p) - 1) (by omega) rfl rfl pk_us (by decide) hp) 4 5 (by omega) (by omega)
      rw [show zm_t mem (m + j) 4 r0 (4 - 4) = r0 from rfl, ← er0] at L
      exact L
    · refine zu_finP H R (by decide) s1' (by omega) ?_ (fun _ => zu_sxc _) pk_us zu_z2 (fun _ _ => rfl) t9 r5
      unfold zu_cut
      rw [if_pos rfl, zm_t0, lN_i, lN_i]
      rw [zm_nI (zm_r4 r0 (zm_s mem (m + j) 4))]
  · refine ⟨nI w, nI (a + 1), nI (12 * a + (zc_S (T f p) - 1)), nI (p + 1), 4, 4, nI (p + 1), vt (16 * a + (zc_S (T f p) - 1)), lr, mem, aF, upd aA a (nI p), aT, upd aZ a (nI (zc_S (T f p) - 1)), aL, lP, lF, vt, glo, cel, loc, val, Or.inl (fun post hp => ?_), fun post hp => ?_, zu_trap (by decide) R⟩
    · refine zx_hd r1 rfl rfl (by omega) t2 hN.2.1 hN.1 t4 (by decide) H1.2.1 hi (fun z => by omega) (fun z => by omega) (fun z => by omega) (fun _ => ?_)
      refine br_t (by decide) ?_
      refine br_f (by decide) (br_f (by decide) (br_t (by decide) ?_))
      exact zx_take r1 (z := zc_S (T f p)) (by omega) hS rfl rfl (nm_e (br_f q2 (br_f (fun z => hb (q1.mp z)) hp)))
    · refine zy_hd r1 rfl t2 t3 (by decide) (by decide) (zy_277 (by decide) (by decide) ?_)
      refine br_f (by decide) (br_f (by decide) (br_f (by decide) (br_f (by decide) (br_f (by decide) (br_f (by decide) (br_f (by decide) (br_t (by decide) ?_)))))))
      unfold wpY_numeric
      refine zy_f1 (by decide) (zy_f2 (by decide) (by decide) (zy_f3 (by decide) ?_))
      rw [show zc_f1 38 = 1 from by decide, show zc_f2 38 = 0 from by decide, show zc_f3 38 = 1 from by decide]
      refine br_f (by decide) (br_t (by decide) ?_)
      refine br_f (by decide) ?_
      refine zy_take r1 (z := zc_S (T f p)) (by omega) hS rfl rfl t5 (by decide) (Or.inr y1) (zy_take0 rfl ?_)
      refine br_t rfl (nm_e (br_t rfl ?_))
      refine br_t (by decide) (br_t (by decide) (br_t (by decide) (br_f (by decide) (br_t (by decide) ?_))))
      refine br_f (by decide) ?_
      rw [u2]
      exact br_f (fun z => hb (q1.mp z)) (nm_e ⟨1, zy_364t (by decide) hp⟩)
theorem zu_o40 (H : zu_S pa tb re len ops sT sF sM imm nc T N) (hsg : zc_sg pa lo re nc) (R : zu_R nc nfu T N tb re aF aA aT aP aZ aL lP lF vt cel val loc glo a f p w) (hi : imm (64 * f + p) = im) (H1 : zt_1 pa tb re nc f (ops (64 * f + p)) im (T f p) (T f (p + 1)) p 40) (hms : ms = nI nms) (h64 : nms ≤ 64) : ∃ (us' dep' top' pc' tr' ytr' nx' tk' : Int32) (lr' : Int64) (mem' aF' aA' aT' aZ' aL' lP' lF' vt' : Nat → Int32) (glo' cel' loc' val' : Nat → Int64), zu_XS (zu_F nc nfu T N tb re aP us' dep' top' pc' tr' ytr' nx' aF' aA' aT' aZ' aL' lP' lF' vt' glo' cel' loc' val' a (zu_P nfu w p aA a - 1)) (fl, cl, ms, fu, cnt, opn, tu, oc, fc, cu, pu, mk, lr, nI w, nI (a + 1), nI (12 * a + zc_S (T f p)), nI p, 0, pa, lo, tb, re, sta, len, ops, imm, sT, sF, sM, oT, fK, fT, fH, fU, fS, fC, arg, glo, mem, aF, aA, aT, cel, loc) (fl, cl, ms, fu, cnt, opn, tu, oc, fc, cu, pu, mk, lr', us', dep', top', pc', tr', pa, lo, tb, re, sta, len, ops, imm, sT, sF, sM, oT, fK, fT, fH, fU, fS, fC, arg, glo', mem', aF', aA', aT', cel', loc') ∧ (∀ post : SY → Prop, post (fl, cl, ms, fu, cnt, opn, er, sz, dp, dep', ytr', nx', us', tk', lr', pa, lo, tb, re, sta, len, ops, ty, kd, bk, hh, dd, aF', aP, aZ', aL', lP', lF', vt', (fun j => mem' j &&& 255), imm, val', loc', glo', arg) → wpY_run post (fl, cl, ms, fu, cnt, opn, er, sz, dp, nI (a + 1), 0, nI (p + 1), nI w, tk, lr, pa, lo, tb, re, sta, len, ops, ty, kd, bk, hh, dd, aF, aP, aZ, aL, lP, lF, vt, (fun j => mem j &&& 255), imm, val, loc, glo, arg) (nI 40) im) ∧ zu_F nc nfu T N tb re aP us' dep' top' pc' tr' ytr' nx' aF' aA' aT' aZ' aL' lP' lF' vt' glo' cel' loc' val' a (zu_P nfu w p aA a) := by
  obtain ⟨r1, r2, r3, ⟨t1, t2, t3, t4, t5, t6, t7, t8, t9⟩, r5⟩ := id R
  have hok := H1.2.2.1
  have hS := hok.2.2.1
  have hN := H f t1
  have h4 := hsg.1
  obtain ⟨s1, s2, s3, s4, s5⟩ := zu_st H1 (by decide) rfl
  have s2' : (zc_pl (T f p) [1] (0, zc_S (T f p))).1 = 0 := by
    have q : (zc_pl (T f p) [1, 0] (0, zc_S (T f p))).1 = 0 := s2
    rw [zp_l0] at q; exact q
  obtain ⟨p1, p2, p3, p4, p5⟩ := zu_p1 H1 t8 (by decide) s2'
  have ecur : (zc_plan pa tb re f (T f p) im 40).2.1 = zc_S (T f p) - 1 := by show (zc_pl (T f p) [1, 0] (0, zc_S (T f p))).2 = _; rw [zp_l0, p2]
  rw [ecur] at s1
  obtain ⟨u1, u2, u3⟩ := t6 (zc_S (T f p) - 1) (by omega)
  have y1 : vt (16 * a + (zc_S (T f p) - 1)) = 1 := by rw [u1, p3 (by decide)]
  have s1' : T f (p + 1) = zc_set (T f p) (zc_S (T f p) - 1) 2 0 := s1
  obtain ⟨j, hj, ej⟩ := H1.2.2.2.1.2.2.2.2.2.2.2 (by decide)
  obtain ⟨m, hm, em⟩ := pf_andw (cel (12 * a + (zc_S (T f p) - 1)))
  obtain ⟨r0, hr0, er0⟩ := wb_of (cel (12 * a + (zc_S (T f p) - 1)))
  have ex : ((cel (12 * a + (zc_S (T f p) - 1))) &&& 4294967295) + im = lN (m + j) := by rw [em, ej, lN_add]
  obtain ⟨q1, q2, q3⟩ := zm_ad (nms := nms) (wd := 8) (W := 8) hm hj (by omega) h64 ex rfl hms
  by_cases hb : m + j + 8 ≤ nms
  · refine ⟨nI w, nI (a + 1), nI (12 * a + (zc_S (T f p) - 1 + 1)), nI (p + 1), 0, 0, nI (p + 1), vt (16 * a + (zc_S (T f p) - 1)), lr, mem, aF, upd aA a (nI p), aT, upd (upd aZ a (nI (zc_S (T f p) - 1))) a (nI (zc_S (T f p) - 1 + 1)), aL, lP, lF, upd vt (16 * a + (zc_S (T f p) - 1)) 2, glo, vp_updL cel (12 * a + (zc_S (T f p) - 1)) (lN (zm_s mem (m + j) 8)), loc, vp_updL val (16 * a + (zc_S (T f p) - 1)) (zu_cut 2 (lN (zm_t mem (m + j) 8 r0 8))), Or.inl (fun post hp => ?_), fun post hp => ?_, ?_⟩
    · refine zx_hd r1 rfl rfl (by omega) t2 hN.2.1 hN.1 t4 (by decide) H1.2.1 hi (fun z => by omega) (fun z => by omega) (fun z => by omega) (fun _ => ?_)
      refine br_f (by decide) ?_
      refine br_f (by decide) (br_f (by decide) (br_t (by decide) ?_))
      refine zx_take r1 (z := zc_S (T f p)) (by omega) hS rfl rfl (nm_e (br_f q2 (br_t (q1.mpr hb) (br_t rfl ⟨9, ?_⟩))))
      refine zx_141 (y := m + j) (wd := 8) rfl q3 (by omega) (by omega) ?_ 8 0 9 (by omega) (by omega)
      exact br_f (by decide) (zx_put r1 (by omega) rfl rfl hp)
    · refine zy_hd r1 rfl t2 t3 (by decide) (by decide) (zy_277 (by decide) (by decide) ?_)
      refine br_f (by decide) (br_f (by decide) (br_f (by decide) (br_f (by decide) (br_f (by decide) (br_f (by decide) (br_f (by decide) (br_t (by decide) ?_)))))))
      unfold wpY_numeric
      refine zy_f1 (by decide) (zy_f2 (by decide) (by decide) (zy_f3 (by decide) ?_))
      rw [show zc_f1 40 = 1 from by decide, show zc_f2 40 = 0 from by decide, show zc_f3 40 = 2 from by decide]
      refine br_f (by decide) (br_t (by decide) ?_)
      refine br_t (by decide) ?_
      refine zy_take r1 (z := zc_S (T f p)) (by omega) hS rfl rfl t5 (by decide) (Or.inr y1) (zy_take0 rfl ?_)
      refine br_t rfl (nm_e (br_t rfl ?_))
      refine br_t (by decide) (br_t (by decide) (br_t (by decide) (br_f (by decide) (br_t (by decide) ?_))))
      refine br_f (by decide) ?_
      rw [u2]
      refine br_t (q1.mpr hb) (nm_r (e' := zy_ix 8) (by decide) ⟨9, ?_⟩)
      have L := zy_364l (t := 2) (q := 40) (wd := 8) (r0 := r0) (x9 := (cel (12 * a + (zc_S (T f p) - 1)))) (y := m + j) (mem := mem) (byt := fun j => mem j &&& 255) (by decide) (by decide) q3 (by omega) (by omega) rfl (by decide) rfl (zy_put r1 (z := zc_S (T f p) - 1) (by omega) rfl rfl pk_us (by decide) hp) 8 9 (by omega) (by omega)
      rw [show zm_t mem (m + j) 8 r0 (8 - 8) = r0 from rfl, ← er0] at L
      exact L
    · refine zu_finP H R (by decide) s1' (by omega) ?_ (fun z => absurd z (by decide)) pk_us zu_z2 (fun _ _ => rfl) t9 r5
      unfold zu_cut
      rw [if_neg (by decide), zm_t0, wb_mod (r0 * 256 ^ 8 + zm_s mem (m + j) 8), wb_mod (zm_s mem (m + j) 8)]
      exact congrArg lN (zm_r8 _ _)
  · refine ⟨nI w, nI (a + 1), nI (12 * a + (zc_S (T f p) - 1)), nI (p + 1), 4, 4, nI (p + 1), vt (16 * a + (zc_S (T f p) - 1)), lr, mem, aF, upd aA a (nI p), aT, upd aZ a (nI (zc_S (T f p) - 1)), aL, lP, lF, vt, glo, cel, loc, val, Or.inl (fun post hp => ?_), fun post hp => ?_, zu_trap (by decide) R⟩
    · refine zx_hd r1 rfl rfl (by omega) t2 hN.2.1 hN.1 t4 (by decide) H1.2.1 hi (fun z => by omega) (fun z => by omega) (fun z => by omega) (fun _ => ?_)
      refine br_f (by decide) ?_
      refine br_f (by decide) (br_f (by decide) (br_t (by decide) ?_))
      exact zx_take r1 (z := zc_S (T f p)) (by omega) hS rfl rfl (nm_e (br_f q2 (br_f (fun z => hb (q1.mp z)) hp)))
    · refine zy_hd r1 rfl t2 t3 (by decide) (by decide) (zy_277 (by decide) (by decide) ?_)
      refine br_f (by decide) (br_f (by decide) (br_f (by decide) (br_f (by decide) (br_f (by decide) (br_f (by decide) (br_f (by decide) (br_t (by decide) ?_)))))))
      unfold wpY_numeric
      refine zy_f1 (by decide) (zy_f2 (by decide) (by decide) (zy_f3 (by decide) ?_))
      rw [show zc_f1 40 = 1 from by decide, show zc_f2 40 = 0 from by decide, show zc_f3 40 = 2 from by decide]
      refine br_f (by decide) (br_t (by decide) ?_)
      refine br_t (by decide) ?_
      refine zy_take r1 (z := zc_S (T f p)) (by omega) hS rfl rfl t5 (by decide) (Or.inr y1) (zy_take0 rfl ?_)
      refine br_t rfl (nm_e (br_t rfl ?_))
      refine br_t (by decide) (br_t (by decide) (br_t (by decide) (br_f (by decide) (br_t (by decide) ?_))))
      refine br_f (by decide) ?_
      rw [u2]
      exact br_f (fun z => hb (q1.mp z)) (nm_e ⟨1, zy_364t (by decide) hp⟩)
theorem zu_o39 (H : zu_S pa tb re len ops sT sF sM imm nc T N) (hsg : zc_sg pa lo re nc) (R : zu_R nc nfu T N tb re aF aA aT aP aZ aL lP lF vt cel val loc glo a f p w) (hi : imm (64 * f + p) = im) (H1 : zt_1 pa tb re nc f (ops (64 * f + p)) im (T f p) (T f (p + 1)) p 39) (hms : ms = nI nms) (h64 : nms ≤ 64) : ∃ (us' dep' top' pc' tr' ytr' nx' tk' : Int32) (lr' : Int64) (mem' aF' aA' aT' aZ' aL' lP' lF' vt' : Nat → Int32) (glo' cel' loc' val' : Nat → Int64), zu_XS (zu_F nc nfu T N tb re aP us' dep' top' pc' tr' ytr' nx' aF' aA' aT' aZ' aL' lP' lF' vt' glo' cel' loc' val' a (zu_P nfu w p aA a - 1)) (fl, cl, ms, fu, cnt, opn, tu, oc, fc, cu, pu, mk, lr, nI w, nI (a + 1), nI (12 * a + zc_S (T f p)), nI p, 0, pa, lo, tb, re, sta, len, ops, imm, sT, sF, sM, oT, fK, fT, fH, fU, fS, fC, arg, glo, mem, aF, aA, aT, cel, loc) (fl, cl, ms, fu, cnt, opn, tu, oc, fc, cu, pu, mk, lr', us', dep', top', pc', tr', pa, lo, tb, re, sta, len, ops, imm, sT, sF, sM, oT, fK, fT, fH, fU, fS, fC, arg, glo', mem', aF', aA', aT', cel', loc') ∧ (∀ post : SY → Prop, post (fl, cl, ms, fu, cnt, opn, er, sz, dp, dep', ytr', nx', us', tk', lr', pa, lo, tb, re, sta, len, ops, ty, kd, bk, hh, dd, aF', aP, aZ', aL', lP', lF', vt', (fun j => mem' j &&& 255), imm, val', loc', glo', arg) → wpY_run post (fl, cl, ms, fu, cnt, opn, er, sz, dp, nI (a + 1), 0, nI (p + 1), nI w, tk, lr, pa, lo, tb, re, sta, len, ops, ty, kd, bk, hh, dd, aF, aP, aZ, aL, lP, lF, vt, (fun j => mem j &&& 255), imm, val, loc, glo, arg) (nI 39) im) ∧ zu_F nc nfu T N tb re aP us' dep' top' pc' tr' ytr' nx' aF' aA' aT' aZ' aL' lP' lF' vt' glo' cel' loc' val' a (zu_P nfu w p aA a) := by
  obtain ⟨r1, r2, r3, ⟨t1, t2, t3, t4, t5, t6, t7, t8, t9⟩, r5⟩ := id R
  have hok := H1.2.2.1
  have hS := hok.2.2.1
  have hN := H f t1
  have h4 := hsg.1
  obtain ⟨s1, s2, s3, s4, s5⟩ := zu_st H1 (by decide) rfl
  have s2' : (zc_pl (T f p) [1, 1] (0, zc_S (T f p))).1 = 0 := s2
  obtain ⟨p1, p2, p3, p4, p5, p6⟩ := zu_p2 H1 t8 (by decide) (by decide) s2'
  have ecur : (zc_plan pa tb re f (T f p) im 39).2.1 = zc_S (T f p) - 2 := by show (zc_pl (T f p) [1, 1] (0, zc_S (T f p))).2 = _; rw [p2]
  rw [ecur] at s1
  obtain ⟨u1, u2, u3⟩ := t6 (zc_S (T f p) - 1) (by omega)
  obtain ⟨v1, v2, v3⟩ := t6 (zc_S (T f p) - 2) (by omega)
  have es2 : zc_S (T f p) - 1 - 1 = zc_S (T f p) - 2 := by omega
  have y1 : vt (16 * a + (zc_S (T f p) - 1)) = 1 := by rw [u1, p3 (by decide)]
  have y2 : vt (16 * a + (zc_S (T f p) - 1 - 1)) = 1 := by rw [es2, v1, p4 (by decide)]
  have s1' : T f (p + 1) = zc_set (T f p) (zc_S (T f p) - 2) 0 0 := s1
  obtain ⟨j, hj, ej⟩ := H1.2.2.2.1.2.2.2.2.2.2.2 (by decide)
  obtain ⟨m, hm, em⟩ := pf_andw (cel (12 * a + (zc_S (T f p) - 2)))
  have ex : ((cel (12 * a + (zc_S (T f p) - 2))) &&& 4294967295) + im = lN (m + j) := by rw [em, ej, lN_add]
  obtain ⟨q1, q2, q3⟩ := zm_ad (nms := nms) (wd := 4) (W := 4) hm hj (by omega) h64 ex rfl hms
  by_cases hb : m + j + 4 ≤ nms
  · refine ⟨nI w, nI (a + 1), nI (12 * a + (zc_S (T f p) - 2)), nI (p + 1), 0, 0, nI (p + 1), vt (16 * a + (zc_S (T f p) - 2)), lr, zm_m mem (cel (12 * a + (zc_S (T f p) - 1))) (m + j) 4, aF, upd aA a (nI p), aT, upd (upd aZ a (nI (zc_S (T f p) - 1))) a (nI (zc_S (T f p) - 2)), aL, lP, lF, vt, glo, cel, loc, val, Or.inl (fun post hp => ?_), fun post hp => ?_, ?_⟩
    · refine zx_hd r1 rfl rfl (by omega) t2 hN.2.1 hN.1 t4 (by decide) H1.2.1 hi (fun z => by omega) (fun z => by omega) (fun z => by omega) (fun _ => ?_)
      refine br_t (by decide) ?_
      refine br_t (by decide) ?_
      refine br_f (by decide) ?_
      refine zx_take r1 (z := zc_S (T f p)) (by omega) hS rfl rfl (zx_take r1 (z := zc_S (T f p) - 1) (by omega) (by omega) rfl rfl ?_)
      rw [es2]
      refine nm_e (br_f q2 (br_t (q1.mpr hb) (br_f (by decide) ⟨5, ?_⟩)))
      have L := zx_104 (mem := mem) (v := (cel (12 * a + (zc_S (T f p) - 1)))) (y := m + j) (wd := 4) rfl q3 (by omega) (by omega) hp 4 0 5 (by omega) (by omega)
      rw [zm_m0] at L
      exact L
    · refine zy_hd r1 rfl t2 t3 (by decide) (by decide) (zy_277 (by decide) (by decide) ?_)
      refine br_f (by decide) (br_f (by decide) (br_f (by decide) (br_f (by decide) (br_f (by decide) (br_f (by decide) (br_f (by decide) (br_t (by decide) ?_)))))))
      unfold wpY_numeric
      refine zy_f1 (by decide) (zy_f2 (by decide) (by decide) (zy_f3 (by decide) ?_))
      rw [show zc_f1 39 = 1 from by decide, show zc_f2 39 = 1 from by decide, show zc_f3 39 = 0 from by decide]
      refine br_f (by decide) (br_t (by decide) ?_)
      refine br_f (by decide) ?_
      refine zy_take r1 (z := zc_S (T f p)) (by omega) hS rfl rfl t5 (by decide) (Or.inr y1) (zy_take r1 (z := zc_S (T f p) - 1) (by omega) (by omega) rfl rfl pk_us (by decide) (Or.inr y2) ?_)
      rw [es2]
      refine br_f (by decide) (nm_e (br_t rfl ?_))
      refine br_t (by decide) (br_t (by decide) (br_t (by decide) (br_f (by decide) (br_t (by decide) ?_))))
      refine br_f (by decide) ?_
      rw [u2, v2]
      refine br_t (q1.mpr hb) (nm_r (e' := zy_ix 4) (by decide) ⟨5, ?_⟩)
      rw [← zm_n0 mem (cel (12 * a + (zc_S (T f p) - 1))) (m + j) 4 (by omega)] at hp
      have L := zy_364s (q := 39) (wd := 4) (y := m + j) (mem := mem) (v := (cel (12 * a + (zc_S (T f p) - 1)))) (r := (cel (12 * a + (zc_S (T f p) - 1)))) (by decide) (by decide) q3 (by omega) (by omega) rfl hp 4 5 (by omega) (by omega)
      rw [zm_nw] at L
      exact L
    · exact zu_finN H R s1' (by omega) pk_us zu_z2 (fun _ _ => rfl) t9 r5
  · refine ⟨nI w, nI (a + 1), nI (12 * a + (zc_S (T f p) - 2)), nI (p + 1), 4, 4, nI (p + 1), vt (16 * a + (zc_S (T f p) - 2)), lr, mem, aF, upd aA a (nI p), aT, upd (upd aZ a (nI (zc_S (T f p) - 1))) a (nI (zc_S (T f p) - 2)), aL, lP, lF, vt, glo, cel, loc, val, Or.inl (fun post hp => ?_), fun post hp => ?_, zu_trap (by decide) R⟩
    · refine zx_hd r1 rfl rfl (by omega) t2 hN.2.1 hN.1 t4 (by decide) H1.2.1 hi (fun z => by omega) (fun z => by omega) (fun z => by omega) (fun _ => ?_)
      refine br_t (by decide) ?_
      refine br_t (by decide) ?_
      refine br_f (by decide) ?_
      refine zx_take r1 (z := zc_S (T f p)) (by omega) hS rfl rfl (zx_take r1 (z := zc_S (T f p) - 1) (by omega) (by omega) rfl rfl ?_)
      rw [es2]
      exact nm_e (br_f q2 (br_f (fun z => hb (q1.mp z)) hp))
    · refine zy_hd r1 rfl t2 t3 (by decide) (by decide) (zy_277 (by decide) (by decide) ?_)
      refine br_f (by decide) (br_f (by decide) (br_f (by decide) (br_f (by decide) (br_f (by decide) (br_f (by decide) (br_f (by decide) (br_t (by decide) ?_)))))))
      unfold wpY_numeric
      refine zy_f1 (by decide) (zy_f2 (by decide) (by decide) (zy_f3 (by decide) ?_))
      rw [show zc_f1 39 = 1 from by decide, show zc_f2 39 = 1 from by decide, show zc_f3 39 = 0 from by decide]
      refine br_f (by decide) (br_t (by decide) ?_)
      refine br_f (by decide) ?_
      refine zy_take r1 (z := zc_S (T f p)) (by omega) hS rfl rfl t5 (by decide) (Or.inr y1) (zy_take r1 (z := zc_S (T f p) - 1) (by omega) (by omega) rfl rfl pk_us (by decide) (Or.inr y2) ?_)
      rw [es2]
      refine br_f (by decide) (nm_e (br_t rfl ?_))
      refine br_t (by decide) (br_t (by decide) (br_t (by decide) (br_f (by decide) (br_t (by decide) ?_))))
      refine br_f (by decide) ?_
      rw [u2, v2]
      exact br_f (fun z => hb (q1.mp z)) (nm_e ⟨1, zy_364t (by decide) hp⟩)
theorem zu_o41 (H : zu_S pa tb re len ops sT sF sM imm nc T N) (hsg : zc_sg pa lo re nc) (R : zu_R nc nfu T N tb re aF aA aT aP aZ aL lP lF vt cel val loc glo a f p w) (hi : imm (64 * f + p) = im) (H1 : zt_1 pa tb re nc f (ops (64 * f + p)) im (T f p) (T f (p + 1)) p 41) (hms : ms = nI nms) (h64 : nms ≤ 64) : ∃ (us' dep' top' pc' tr' ytr' nx' tk' : Int32) (lr' : Int64) (mem' aF' aA' aT' aZ' aL' lP' lF' vt' : Nat → Int32) (glo' cel' loc' val' : Nat → Int64), zu_XS (zu_F nc nfu T N tb re aP us' dep' top' pc' tr' ytr' nx' aF' aA' aT' aZ' aL' lP' lF' vt' glo' cel' loc' val' a (zu_P nfu w p aA a - 1)) (fl, cl, ms, fu, cnt, opn, tu, oc, fc, cu, pu, mk, lr, nI w, nI (a + 1), nI (12 * a + zc_S (T f p)), nI p, 0, pa, lo, tb, re, sta, len, ops, imm, sT, sF, sM, oT, fK, fT, fH, fU, fS, fC, arg, glo, mem, aF, aA, aT, cel, loc) (fl, cl, ms, fu, cnt, opn, tu, oc, fc, cu, pu, mk, lr', us', dep', top', pc', tr', pa, lo, tb, re, sta, len, ops, imm, sT, sF, sM, oT, fK, fT, fH, fU, fS, fC, arg, glo', mem', aF', aA', aT', cel', loc') ∧ (∀ post : SY → Prop, post (fl, cl, ms, fu, cnt, opn, er, sz, dp, dep', ytr', nx', us', tk', lr', pa, lo, tb, re, sta, len, ops, ty, kd, bk, hh, dd, aF', aP, aZ', aL', lP', lF', vt', (fun j => mem' j &&& 255), imm, val', loc', glo', arg) → wpY_run post (fl, cl, ms, fu, cnt, opn, er, sz, dp, nI (a + 1), 0, nI (p + 1), nI w, tk, lr, pa, lo, tb, re, sta, len, ops, ty, kd, bk, hh, dd, aF, aP, aZ, aL, lP, lF, vt, (fun j => mem j &&& 255), imm, val, loc, glo, arg) (nI 41) im) ∧ zu_F nc nfu T N tb re aP us' dep' top' pc' tr' ytr' nx' aF' aA' aT' aZ' aL' lP' lF' vt' glo' cel' loc' val' a (zu_P nfu w p aA a) := by
  obtain ⟨r1, r2, r3, ⟨t1, t2, t3, t4, t5, t6, t7, t8, t9⟩, r5⟩ := id R
  have hok := H1.2.2.1
  have hS := hok.2.2.1
  have hN := H f t1
  have h4 := hsg.1
  obtain ⟨s1, s2, s3, s4, s5⟩ := zu_st H1 (by decide) rfl
  have s2' : (zc_pl (T f p) [2, 1] (0, zc_S (T f p))).1 = 0 := s2
  obtain ⟨p1, p2, p3, p4, p5, p6⟩ := zu_p2 H1 t8 (by decide) (by decide) s2'
  have ecur : (zc_plan pa tb re f (T f p) im 41).2.1 = zc_S (T f p) - 2 := by show (zc_pl (T f p) [2, 1] (0, zc_S (T f p))).2 = _; rw [p2]
  rw [ecur] at s1
  obtain ⟨u1, u2, u3⟩ := t6 (zc_S (T f p) - 1) (by omega)
  obtain ⟨v1, v2, v3⟩ := t6 (zc_S (T f p) - 2) (by omega)
  have es2 : zc_S (T f p) - 1 - 1 = zc_S (T f p) - 2 := by omega
  have y1 : vt (16 * a + (zc_S (T f p) - 1)) = 2 := by rw [u1, p3 (by decide)]
  have y2 : vt (16 * a + (zc_S (T f p) - 1 - 1)) = 1 := by rw [es2, v1, p4 (by decide)]
  have s1' : T f (p + 1) = zc_set (T f p) (zc_S (T f p) - 2) 0 0 := s1
  obtain ⟨j, hj, ej⟩ := H1.2.2.2.1.2.2.2.2.2.2.2 (by decide)
  obtain ⟨m, hm, em⟩ := pf_andw (cel (12 * a + (zc_S (T f p) - 2)))
  have ex : ((cel (12 * a + (zc_S (T f p) - 2))) &&& 4294967295) + im = lN (m + j) := by rw [em, ej, lN_add]
  obtain ⟨q1, q2, q3⟩ := zm_ad (nms := nms) (wd := 8) (W := 8) hm hj (by omega) h64 ex rfl hms
  by_cases hb : m + j + 8 ≤ nms
  · refine ⟨nI w, nI (a + 1), nI (12 * a + (zc_S (T f p) - 2)), nI (p + 1), 0, 0, nI (p + 1), vt (16 * a + (zc_S (T f p) - 2)), lr, zm_m mem (cel (12 * a + (zc_S (T f p) - 1))) (m + j) 8, aF, upd aA a (nI p), aT, upd (upd aZ a (nI (zc_S (T f p) - 1))) a (nI (zc_S (T f p) - 2)), aL, lP, lF, vt, glo, cel, loc, val, Or.inl (fun post hp => ?_), fun post hp => ?_, ?_⟩
    · refine zx_hd r1 rfl rfl (by omega) t2 hN.2.1 hN.1 t4 (by decide) H1.2.1 hi (fun z => by omega) (fun z => by omega) (fun z => by omega) (fun _ => ?_)
      refine br_f (by decide) ?_
      refine br_f (by decide) (br_t (by decide) ?_)
      refine br_f (by decide) ?_
      refine zx_take r1 (z := zc_S (T f p)) (by omega) hS rfl rfl (zx_take r1 (z := zc_S (T f p) - 1) (by omega) (by omega) rfl rfl ?_)
      rw [es2]
      refine nm_e (br_f q2 (br_t (q1.mpr hb) (br_f (by decide) ⟨9, ?_⟩)))
      have L := zx_104 (mem := mem) (v := (cel (12 * a + (zc_S (T f p) - 1)))) (y := m + j) (wd := 8) rfl q3 (by omega) (by omega) hp 8 0 9 (by omega) (by omega)
      rw [zm_m0] at L
      exact L
    · refine zy_hd r1 rfl t2 t3 (by decide) (by decide) (zy_277 (by decide) (by decide) ?_)
      refine br_f (by decide) (br_f (by decide) (br_f (by decide) (br_f (by decide) (br_f (by decide) (br_f (by decide) (br_f (by decide) (br_t (by decide) ?_)))))))
      unfold wpY_numeric
      refine zy_f1 (by decide) (zy_f2 (by decide) (by decide) (zy_f3 (by decide) ?_))
      rw [show zc_f1 41 = 2 from by decide, show zc_f2 41 = 1 from by decide, show zc_f3 41 = 0 from by decide]
      refine br_f (by decide) (br_t (by decide) ?_)
      refine br_t (by decide) ?_
      refine zy_take r1 (z := zc_S (T f p)) (by omega) hS rfl rfl t5 (by decide) (Or.inr y1) (zy_take r1 (z := zc_S (T f p) - 1) (by omega) (by omega) rfl rfl pk_us (by decide) (Or.inr y2) ?_)
      rw [es2]
      refine br_f (by decide) (nm_e (br_t rfl ?_))
      refine br_t (by decide) (br_t (by decide) (br_t (by decide) (br_f (by decide) (br_t (by decide) ?_))))
      refine br_f (by decide) ?_
      rw [u2, v2]
      refine br_t (q1.mpr hb) (nm_r (e' := zy_ix 8) (by decide) ⟨9, ?_⟩)
      rw [← zm_n0 mem (cel (12 * a + (zc_S (T f p) - 1))) (m + j) 8 (by omega)] at hp
      have L := zy_364s (q := 41) (wd := 8) (y := m + j) (mem := mem) (v := (cel (12 * a + (zc_S (T f p) - 1)))) (r := (cel (12 * a + (zc_S (T f p) - 1)))) (by decide) (by decide) q3 (by omega) (by omega) rfl hp 8 9 (by omega) (by omega)
      rw [zm_nw] at L
      exact L
    · exact zu_finN H R s1' (by omega) pk_us zu_z2 (fun _ _ => rfl) t9 r5
  · refine ⟨nI w, nI (a + 1), nI (12 * a + (zc_S (T f p) - 2)), nI (p + 1), 4, 4, nI (p + 1), vt (16 * a + (zc_S (T f p) - 2)), lr, mem, aF, upd aA a (nI p), aT, upd (upd aZ a (nI (zc_S (T f p) - 1))) a (nI (zc_S (T f p) - 2)), aL, lP, lF, vt, glo, cel, loc, val, Or.inl (fun post hp => ?_), fun post hp => ?_, zu_trap (by decide) R⟩
    · refine zx_hd r1 rfl rfl (by omega) t2 hN.2.1 hN.1 t4 (by decide) H1.2.1 hi (fun z => by omega) (fun z => by omega) (fun z => by omega) (fun _ => ?_)
      refine br_f (by decide) ?_
      refine br_f (by decide) (br_t (by decide) ?_)
      refine br_f (by decide) ?_
      refine zx_take r1 (z := zc_S (T f p)) (by omega) hS rfl rfl (zx_take r1 (z := zc_S (T f p) - 1) (by omega) (by omega) rfl rfl ?_)
      rw [es2]
      exact nm_e (br_f q2 (br_f (fun z => hb (q1.mp z)) hp))
    · refine zy_hd r1 rfl t2 t3 (by decide) (by decide) (zy_277 (by decide) (by decide) ?_)
      refine br_f (by decide) (br_f (by decide) (br_f (by decide) (br_f (by decide) (br_f (by decide) (br_f (by decide) (br_f (by decide) (br_t (by decide) ?_)))))))
      unfold wpY_numeric
      refine zy_f1 (by decide) (zy_f2 (by decide) (by decide) (zy_f3 (by decide) ?_))
      rw [show zc_f1 41 = 2 from by decide, show zc_f2 41 = 1 from by decide, show zc_f3 41 = 0 from by decide]
      refine br_f (by decide) (br_t (by decide) ?_)
      refine br_t (by decide) ?_
      refine zy_take r1 (z := zc_S (T f p)) (by omega) hS rfl rfl t5 (by decide) (Or.inr y1) (zy_take r1 (z := zc_S (T f p) - 1) (by omega) (by omega) rfl rfl pk_us (by decide) (Or.inr y2) ?_)
      rw [es2]
      refine br_f (by decide) (nm_e (br_t rfl ?_))
      refine br_t (by decide) (br_t (by decide) (br_t (by decide) (br_f (by decide) (br_t (by decide) ?_))))
      refine br_f (by decide) ?_
      rw [u2, v2]
      exact br_f (fun z => hb (q1.mp z)) (nm_e ⟨1, zy_364t (by decide) hp⟩)
end
end
section
/-! the reference's search for ELSE and END; jumps in the run -/
theorem zt_ex {pa tb re : Nat → Int32} {nc f n : Nat} {op : Nat → Int32} {im : Nat → Int64} {T : Nat → zc_C} (HF : zt_F pa tb re nc f op im T n) (h0 : zc_D (T n) = 0) (d : Nat) : ∀ m i, i + m = n → d + 1 ≤ zc_D (T i) → ∃ e, zt_E op T n d i e
  | 0, i, hi, h => by
    have e : i = n := by omega
    rw [e, h0] at h; omega
  | m + 1, i, hi, h => by
    obtain ⟨k, H⟩ := HF.2 i (by omega)
    have hD := zn_D H
    by_cases z : k = 5 ∧ zc_D (T i) = d + 1
    · refine ⟨i, Nat.le_refl _, by omega, by rw [H.2.1, z.1]; rfl, z.2, fun j a b => ?_⟩
      have : j = i := by omega
      rw [this]; exact h
    · have h' : d + 1 ≤ zc_D (T (i + 1)) := by
        by_cases q : 1 ≤ k ∧ k ≤ 3
        · rw [if_pos q] at hD; omega
        · rw [if_neg q] at hD
          by_cases q5 : k = 5
          · rw [if_pos q5] at hD; omega
          · rw [if_neg q5] at hD; omega
      obtain ⟨e, e1, e2, e3, e4, e5⟩ := zt_ex HF h0 d m (i + 1) (by omega) h'
      refine ⟨e, by omega, e2, e3, e4, fun j a b => ?_⟩
      by_cases y : j = i
      · rw [y]; exact h
      · exact e5 j (by omega) b
section
variable {fl cl ms fu cnt opn tu oc fc cu pu mk us dep top pc tr er sz dp ytr nx tk : Int32} {lr : Int64} {pa lo tb re sta len ops sT sF sM oT fK fT fH fU fS fC mem aF aA aT ty kd bk hh dd aP aZ aL lP lF vt byt : Nat → Int32} {imm arg glo cel loc val : Nat → Int64} {nc f n k i d : Nat} {T : Nat → zc_C} {t : Int32} {post : Int32 → Prop}
theorem zy_m52 {J : Int32 → Int32 → Prop} {x1 x3 : Int32} {E E' : Nat} (hk : k < 42) (hE : 1 ≤ E) (hE' : E' = if 1 ≤ k ∧ k ≤ 3 then E + 1 else if k = 5 then E - 1 else E) (h : J (zy_ix E') (nI (i + 1))) :
    wY_match_52 post J x1 x3 (zy_ix E) (nI i) (nI k) fl cl ms fu cnt opn er sz dp dep ytr nx us tk lr pa lo tb re sta len ops ty kd bk hh dd aF aP aZ aL lP lF vt byt imm val loc glo arg := by
  obtain ⟨e, rfl⟩ : ∃ e, E = e + 1 := ⟨E - 1, by omega⟩
  have A : ¬ (1 ≤ k ∧ k ≤ 3) → wY_match_70 post J x1 x3 (nI i) (nI k) (zy_ix (e + 1)) fl cl ms fu cnt opn er sz dp dep ytr nx us tk lr pa lo tb re sta len ops ty kd bk hh dd aF aP aZ aL lP lF vt byt imm val loc glo arg := fun z => by
    rw [if_neg z] at hE'
    refine pk_eq k 5 (fun q => ?_) (fun q => ?_)
    · rw [if_pos q] at hE'
      rw [show E' = e from by omega] at h
      exact nm_r (zy_ixm e) (nm_r (nI_1 i) h)
    · rw [if_neg q] at hE'
      rw [hE'] at h
      exact nm_r (Int32.add_zero _) (nm_r (nI_1 i) h)
  refine pk_lt k 1 (fun _ => A (by omega)) (fun _ => pk_lt 3 k (fun _ => A (by omega)) (fun _ => ?_))
  rw [if_pos (by omega)] at hE'
  rw [hE'] at h
  exact nm_r (nI_1 e) (nm_r (nI_1 i) h)
/-- one turn of the search -/
theorem zy_m1 {w E E' fuel : Nat} (hf : f < 4) (hl : len f = nI n) (hn : n ≤ 64) (hi : i < n) (hk : k < 42) (ho : ops (64 * f + i) = nI k) (hE : 1 ≤ E) (hE9 : E ≤ 9) (hE' : E' = if 1 ≤ k ∧ k ≤ 3 then E + 1 else if k = 5 then E - 1 else E) (hw : w < 42)
    (h1 : E = 1 → k = w → post (nI i)) (h2 : ¬ (E = 1 ∧ k = w) → wY_match_8 post (nI f) (nI w) fl cl ms fu cnt opn er sz dp dep ytr nx us tk lr pa lo tb re sta len ops ty kd bk hh dd aF aP aZ aL lP lF vt byt imm val loc glo arg fuel (zy_ix E') (nI (i + 1))) : wY_match_8 post (nI f) (nI w) fl cl ms fu cnt opn er sz dp dep ytr nx us tk lr pa lo tb re sta len ops ty kd bk hh dd aF aP aZ aL lP lF vt byt imm val loc glo arg (fuel + 1) (zy_ix E) (nI i) := by
  obtain ⟨a1, a2, a3⟩ := zy_ad (f := f) (i := i) hf (by omega)
  have ec : (nI f).toNatClampNeg = f := nI_clamp (by omega)
  obtain ⟨e, rfl⟩ : ∃ e, E = e + 1 := ⟨E - 1, by omega⟩
  refine ⟨vp_in_nI hf (by decide), ?_⟩
  rw [ec, hl]
  refine br_f (nI_ge hi (by omega)) (br_f (nI_pos (n := e) (by omega)) ⟨a2, nm_r (e' := nI k) (by rw [a3, ho]) ?_⟩)
  exact pk_eq e 0 (fun z => pk_eq k w (fun q => h1 (by omega) q) (fun q => zy_m52 hk (by omega) hE' (h2 (by omega)))) (fun z => zy_m52 hk (by omega) hE' (h2 (by omega)))
theorem zy_E (HF : zt_F pa tb re nc f (fun i => ops (64 * f + i)) (fun i => imm (64 * f + i)) T n) (hi : i < n) (h1 : d + 1 ≤ zc_D (T i)) :
    ∃ k, k < 42 ∧ ops (64 * f + i) = nI k ∧ zc_D (T i) ≤ 8 ∧ zc_D (T (i + 1)) - d = (if 1 ≤ k ∧ k ≤ 3 then zc_D (T i) - d + 1 else if k = 5 then zc_D (T i) - d - 1 else zc_D (T i) - d) ∧ (k = 5 → zc_D (T (i + 1)) = zc_D (T i) - 1) := by
  obtain ⟨k, H⟩ := HF.2 i hi
  have hD := zn_D H
  refine ⟨k, H.1, H.2.1, H.2.2.1.2.1, ?_, fun z => by subst z; exact (zn_5 H).1⟩
  by_cases q : 1 ≤ k ∧ k ≤ 3
  · rw [if_pos q] at hD ⊢; omega
  · rw [if_neg q] at hD ⊢
    by_cases q5 : k = 5
    · rw [if_pos q5] at hD ⊢; omega
    · rw [if_neg q5] at hD ⊢; omega
/-- END is found -/
theorem zy_m5 {e : Nat} (hf : f < 4) (hl : len f = nI n) (hn : n ≤ 64) (HF : zt_F pa tb re nc f (fun i => ops (64 * f + i)) (fun i => imm (64 * f + i)) T n) (hp : post (nI e)) :
    ∀ (m i fuel : Nat), i + m = e → m < fuel → zt_E (fun i => ops (64 * f + i)) T n d i e → wY_match_8 post (nI f) 5 fl cl ms fu cnt opn er sz dp dep ytr nx us tk lr pa lo tb re sta len ops ty kd bk hh dd aF aP aZ aL lP lF vt byt imm val loc glo arg fuel (zy_ix (zc_D (T i) - d)) (nI i)
  | 0, i, fuel + 1, hi, _, E => by
    have e1 : i = e := by omega
    subst e1
    obtain ⟨q1, q2, q3, q4, q5⟩ := E
    obtain ⟨k, k1, k2, k3, k4, k5⟩ := zy_E HF q2 (d := d) (by omega)
    have ek : k = 5 := zt_k k2 k1 (by omega) q3
    exact zy_m1 (w := 5) hf hl hn q2 k1 k2 (by omega) (by omega) k4 (by omega) (fun _ _ => hp) (fun z => absurd ⟨by omega, ek⟩ z)
  | m + 1, i, fuel + 1, hi, hfu, E => by
    obtain ⟨q1, q2, q3, q4, q5⟩ := E
    have hD := q5 i (Nat.le_refl _) (by omega)
    obtain ⟨k, k1, k2, k3, k4, k5⟩ := zy_E HF (show i < n by omega) hD
    have hD' := q5 (i + 1) (by omega) (by omega)
    refine zy_m1 (w := 5) hf hl hn (by omega) k1 k2 (by omega) (by omega) k4 (by omega) (fun a b => ?_) (fun z => zy_m5 hf hl hn HF hp m (i + 1) fuel (by omega) (by omega) ⟨by omega, q2, q3, q4, fun j a b => q5 j (by omega) b⟩)
    have := k5 b; omega
/-- ELSE is found -/
theorem zy_m4 {e : Nat} (hf : f < 4) (hl : len f = nI n) (hn : n ≤ 64) (HF : zt_F pa tb re nc f (fun i => ops (64 * f + i)) (fun i => imm (64 * f + i)) T n) (he : e < n) (h4 : ops (64 * f + e) = 4) (hD : zc_D (T e) = d + 1) (hp : post (nI e)) :
    ∀ (m i fuel : Nat), i + m = e → m < fuel → zt_st T d i e → (∀ x, i ≤ x → x < e → ¬ (ops (64 * f + x) = 4 ∧ zc_D (T x) = d + 1)) → wY_match_8 post (nI f) 4 fl cl ms fu cnt opn er sz dp dep ytr nx us tk lr pa lo tb re sta len ops ty kd bk hh dd aF aP aZ aL lP lF vt byt imm val loc glo arg fuel (zy_ix (zc_D (T i) - d)) (nI i)
  | 0, i, fuel + 1, hi, _, E, _ => by
    have e1 : i = e := by omega
    subst e1
    obtain ⟨k, k1, k2, k3, k4, k5⟩ := zy_E HF he (d := d) (by omega)
    have ek : k = 4 := zt_k k2 k1 (by omega) h4
    exact zy_m1 (w := 4) hf hl hn he k1 k2 (by omega) (by omega) k4 (by omega) (fun _ _ => hp) (fun z => absurd ⟨by omega, ek⟩ z)
  | m + 1, i, fuel + 1, hi, hfu, E, hne => by
    have hDi := E i (Nat.le_refl _) (by omega)
    obtain ⟨k, k1, k2, k3, k4, k5⟩ := zy_E HF (show i < n by omega) hDi
    refine zy_m1 (w := 4) hf hl hn (by omega) k1 k2 (by omega) (by omega) k4 (by omega) (fun a b => ?_) (fun z => zy_m4 hf hl hn HF he h4 hD hp m (i + 1) fuel (by omega) (by omega) (fun j a b => E j (by omega) b) (fun x a b => hne x (by omega) b))
    exact absurd ⟨by rw [k2, b]; rfl, by omega⟩ (hne i (Nat.le_refl _) (by omega))
/-- ELSE isn't there -/
theorem zy_m4n {e : Nat} (hf : f < 4) (hl : len f = nI n) (hn : n ≤ 64) (HF : zt_F pa tb re nc f (fun i => ops (64 * f + i)) (fun i => imm (64 * f + i)) T n) (hp : post (-1)) :
    ∀ (m i fuel : Nat), i + m = e → m + 1 < fuel → zt_E (fun i => ops (64 * f + i)) T n d i e → (∀ x, i ≤ x → x < e → ¬ (ops (64 * f + x) = 4 ∧ zc_D (T x) = d + 1)) → wY_match_8 post (nI f) 4 fl cl ms fu cnt opn er sz dp dep ytr nx us tk lr pa lo tb re sta len ops ty kd bk hh dd aF aP aZ aL lP lF vt byt imm val loc glo arg fuel (zy_ix (zc_D (T i) - d)) (nI i)
  | 0, i, fuel + 2, hi, _, E, _ => by
    have e1 : i = e := by omega
    subst e1
    obtain ⟨q1, q2, q3, q4, q5⟩ := E
    obtain ⟨k, k1, k2, k3, k4, k5⟩ := zy_E HF q2 (d := d) (by omega)
    have ek : k = 5 := zt_k k2 k1 (by omega) q3
    refine zy_m1 (w := 4) hf hl hn q2 k1 k2 (by omega) (by omega) k4 (by omega) (fun _ b => by omega) (fun z => ?_)
    have e0 : zc_D (T (i + 1)) - d = 0 := by have := k5 ek; omega
    rw [e0]
    refine ⟨vp_in_nI hf (by decide), br_c (fun _ => hp) (fun _ => br_t zy_ix0 hp)⟩
  | m + 1, i, fuel + 1, hi, hfu, E, hne => by
    obtain ⟨q1, q2, q3, q4, q5⟩ := E
    have hDi := q5 i (Nat.le_refl _) (by omega)
    obtain ⟨k, k1, k2, k3, k4, k5⟩ := zy_E HF (show i < n by omega) hDi
    refine zy_m1 (w := 4) hf hl hn (by omega) k1 k2 (by omega) (by omega) k4 (by omega) (fun a b => ?_) (fun z => zy_m4n hf hl hn HF hp m (i + 1) fuel (by omega) (by omega) ⟨by omega, q2, q3, q4, fun j a b => q5 j (by omega) b⟩ (fun x a b => hne x (by omega) b))
    exact absurd ⟨by rw [k2, b]; rfl, by omega⟩ (hne i (Nat.le_refl _) (by omega))
/-- the search from an instruction whose frame is d -/
theorem zy_M5 {e : Nat} (hf : f < 4) (hl : len f = nI n) (hn : n ≤ 64) (HF : zt_F pa tb re nc f (fun i => ops (64 * f + i)) (fun i => imm (64 * f + i)) T n) (hD : zc_D (T (i + 1)) = d + 1) (E : zt_E (fun i => ops (64 * f + i)) T n d (i + 1) e) (hp : post (nI e)) : wpY_match post (fl, cl, ms, fu, cnt, opn, er, sz, dp, dep, ytr, nx, us, tk, lr, pa, lo, tb, re, sta, len, ops, ty, kd, bk, hh, dd, aF, aP, aZ, aL, lP, lF, vt, byt, imm, val, loc, glo, arg) (nI f) (nI i) 5 := by
  have q : wY_match_8 post (nI f) 5 fl cl ms fu cnt opn er sz dp dep ytr nx us tk lr pa lo tb re sta len ops ty kd bk hh dd aF aP aZ aL lP lF vt byt imm val loc glo arg (e + 1) (zy_ix (zc_D (T (i + 1)) - d)) (nI (i + 1)) := zy_m5 (post := post) (d := d) hf hl hn HF hp (e - (i + 1)) (i + 1) (e + 1) (by have := E.1; omega) (by have := E.1; omega) E
  rw [hD, show d + 1 - d = 1 from by omega] at q
  exact nm_r (nI_1 i) ⟨e + 1, q⟩
theorem zy_M4 {e : Nat} (hf : f < 4) (hl : len f = nI n) (hn : n ≤ 64) (HF : zt_F pa tb re nc f (fun i => ops (64 * f + i)) (fun i => imm (64 * f + i)) T n) (hD : zc_D (T (i + 1)) = d + 1) (hie : i < e) (he : e < n) (h4 : ops (64 * f + e) = 4) (hDe : zc_D (T e) = d + 1) (hs : zt_st T d (i + 1) e)
    (hne : ∀ x, i < x → x < e → ¬ (ops (64 * f + x) = 4 ∧ zc_D (T x) = d + 1)) (hp : post (nI e)) : wpY_match post (fl, cl, ms, fu, cnt, opn, er, sz, dp, dep, ytr, nx, us, tk, lr, pa, lo, tb, re, sta, len, ops, ty, kd, bk, hh, dd, aF, aP, aZ, aL, lP, lF, vt, byt, imm, val, loc, glo, arg) (nI f) (nI i) 4 := by
  have q : wY_match_8 post (nI f) 4 fl cl ms fu cnt opn er sz dp dep ytr nx us tk lr pa lo tb re sta len ops ty kd bk hh dd aF aP aZ aL lP lF vt byt imm val loc glo arg (e + 1) (zy_ix (zc_D (T (i + 1)) - d)) (nI (i + 1)) := zy_m4 (post := post) (d := d) hf hl hn HF he h4 hDe hp (e - (i + 1)) (i + 1) (e + 1) (by omega) (by omega) hs (fun x a b => hne x (by omega) b)
  rw [hD, show d + 1 - d = 1 from by omega] at q
  exact nm_r (nI_1 i) ⟨e + 1, q⟩
theorem zy_M4n {e : Nat} (hf : f < 4) (hl : len f = nI n) (hn : n ≤ 64) (HF : zt_F pa tb re nc f (fun i => ops (64 * f + i)) (fun i => imm (64 * f + i)) T n) (hD : zc_D (T (i + 1)) = d + 1) (E : zt_E (fun i => ops (64 * f + i)) T n d (i + 1) e)
    (hne : ∀ x, i < x → x < e → ¬ (ops (64 * f + x) = 4 ∧ zc_D (T x) = d + 1)) (hp : post (-1)) : wpY_match post (fl, cl, ms, fu, cnt, opn, er, sz, dp, dep, ytr, nx, us, tk, lr, pa, lo, tb, re, sta, len, ops, ty, kd, bk, hh, dd, aF, aP, aZ, aL, lP, lF, vt, byt, imm, val, loc, glo, arg) (nI f) (nI i) 4 := by
  have q : wY_match_8 post (nI f) 4 fl cl ms fu cnt opn er sz dp dep ytr nx us tk lr pa lo tb re sta len ops ty kd bk hh dd aF aP aZ aL lP lF vt byt imm val loc glo arg (e + 2) (zy_ix (zc_D (T (i + 1)) - d)) (nI (i + 1)) := zy_m4n (post := post) (d := d) hf hl hn HF hp (e - (i + 1)) (i + 1) (e + 2) (by have := E.1; omega) (by have := E.1; omega) E (fun x a b => hne x (by omega) b)
  rw [hD, show d + 1 - d = 1 from by omega] at q
  exact nm_r (nI_1 i) ⟨e + 2, q⟩
/-- the search for ELSE ends -/
theorem zy_M4g (hf : f < 4) (hl : len f = nI n) (hn : n ≤ 64) (HF : zt_F pa tb re nc f (fun i => ops (64 * f + i)) (fun i => imm (64 * f + i)) T n) (h0 : zc_D (T n) = 0) (hi : i < n) (hD : zc_D (T (i + 1)) = d + 1) : ∃ r : Int32, ∀ post : Int32 → Prop, post r → wpY_match post (fl, cl, ms, fu, cnt, opn, er, sz, dp, dep, ytr, nx, us, tk, lr, pa, lo, tb, re, sta, len, ops, ty, kd, bk, hh, dd, aF, aP, aZ, aL, lP, lF, vt, byt, imm, val, loc, glo, arg) (nI f) (nI i) 4 := by
  obtain ⟨e, E⟩ := zt_ex HF h0 d (n - (i + 1)) (i + 1) (by omega) (by omega)
  by_cases z : ∃ x, (i < x ∧ x < e) ∧ (ops (64 * f + x) = 4 ∧ zc_D (T x) = d + 1)
  · obtain ⟨j, ⟨⟨a1, a2⟩, a3, a4⟩, hmin⟩ := pk_least _ z
    have := E.2.1
    exact ⟨nI j, fun post hp => zy_M4 hf hl hn HF hD a1 (by omega) a3 a4 (fun x b1 b2 => E.2.2.2.2 x b1 (by omega)) (fun x b1 b2 b3 => hmin x b2 ⟨⟨b1, by omega⟩, b3⟩) hp⟩
  · exact ⟨-1, fun post hp => zy_M4n hf hl hn HF hD E (fun x b1 b2 b3 => z ⟨x, ⟨b1, b2⟩, b3⟩) hp⟩
end
section
variable {pa tb re len ops sT sF sM : Nat → Int32} {imm : Nat → Int64} {nc nfu : Nat} {T : Nat → Nat → zc_C} {N : Nat → Nat}
variable {aF aA aT aP aZ aL lP lF vt aZ' aL' lP' lF' vt' : Nat → Int32} {cel val loc glo cel' val' : Nat → Int64} {a f p p' w w' : Nat}
/-- a jump within an activation -/
theorem zu_goto (H : zu_S pa tb re len ops sT sF sM imm nc T N) (R : zu_R nc nfu T N tb re aF aA aT aP aZ aL lP lF vt cel val loc glo a f p w) (hp : p' < N f) (hw : w' ≤ nfu)
    (hV : zu_V a (zc_S (T f p')) (T f p') cel' val' vt') (hL : zu_Lb a (T f p') aL' lP' lF') (hl : zu_live (T f p')) (hZa : aZ' a = nI (zc_S (T f p')))
    (hZ : ∀ x, x < a → aZ' x = aZ x) (hA : ∀ x, x < a → aL' x = aL x) (hl8 : ∀ y, y < 8 * a → lP' y = lP y ∧ lF' y = lF y) (hc : ∀ y, y < 12 * a → cel' y = cel y) (hv : ∀ y, y < 16 * a → vt' y = vt y ∧ val' y = val y) :
    zu_R nc nfu T N tb re aF (upd aA a (nI p)) aT (upd aP a (nI p')) aZ' aL' lP' lF' vt' cel' val' loc glo a f p' w' := by
  obtain ⟨r1, r2, r3, ⟨t1, t2, t3, t4, t5, t6, t7, t8, t9⟩, r5⟩ := R
  refine ⟨r1, hw, fun b hb => ?_, ⟨t1, t2, pk_us, hp, hZa, hV, hL, hl, t9⟩, r5⟩
  exact zu_Cf H hb (fun _ _ => rfl) (fun x hx => pk_un (by omega)) (fun _ _ => rfl) (fun x hx => pk_un (by omega)) hZ hA (fun y hy => ⟨(hl8 y hy).1, (hl8 y hy).2, rfl⟩) hc hv (r3 b hb)
theorem zu_Pg (h : p < p') (h64 : p' < 64) : zu_P nfu w p' (upd aA a (nI p)) a < zu_P nfu w p aA a := by
  unfold zu_P
  rw [zu_wc (aA := aA) a (fun b hb => pk_un (by omega))]
  omega
theorem zu_Pl (h64 : p < 64) (h : w < nfu) : zu_P nfu (w + 1) p' (upd aA a (nI p)) a < zu_P nfu w p aA a := by
  unfold zu_P
  rw [zu_wc (aA := aA) a (fun b hb => pk_un (by omega))]
  omega
end
end
section
/-! the run: blocks -/
section
variable {fl cl ms fu cnt opn tu oc fc cu pu mk us dep top pc tr er sz dp ytr nx tk : Int32} {lr : Int64} {pa lo tb re sta len ops sT sF sM oT fK fT fH fU fS fC mem aF aA aT ty kd bk hh dd aP aZ aL lP lF vt byt : Nat → Int32} {imm arg glo cel loc val : Nat → Int64} {nc nfu : Nat} {T : Nat → Nat → zc_C} {N : Nat → Nat} {a f p w k z : Nat} {im : Int64}
theorem zu_o0 (H : zu_S pa tb re len ops sT sF sM imm nc T N) (hsg : zc_sg pa lo re nc) (R : zu_R nc nfu T N tb re aF aA aT aP aZ aL lP lF vt cel val loc glo a f p w) (hi : imm (64 * f + p) = im) (H1 : zt_1 pa tb re nc f (ops (64 * f + p)) im (T f p) (T f (p + 1)) p 0) : ∃ (us' dep' top' pc' tr' ytr' nx' tk' : Int32) (lr' : Int64) (mem' aF' aA' aT' aZ' aL' lP' lF' vt' : Nat → Int32) (glo' cel' loc' val' : Nat → Int64), zu_XS (zu_F nc nfu T N tb re aP us' dep' top' pc' tr' ytr' nx' aF' aA' aT' aZ' aL' lP' lF' vt' glo' cel' loc' val' a (zu_P nfu w p aA a - 1)) (fl, cl, ms, fu, cnt, opn, tu, oc, fc, cu, pu, mk, lr, nI w, nI (a + 1), nI (12 * a + zc_S (T f p)), nI p, 0, pa, lo, tb, re, sta, len, ops, imm, sT, sF, sM, oT, fK, fT, fH, fU, fS, fC, arg, glo, mem, aF, aA, aT, cel, loc) (fl, cl, ms, fu, cnt, opn, tu, oc, fc, cu, pu, mk, lr', us', dep', top', pc', tr', pa, lo, tb, re, sta, len, ops, imm, sT, sF, sM, oT, fK, fT, fH, fU, fS, fC, arg, glo', mem', aF', aA', aT', cel', loc') ∧ (∀ post : SY → Prop, post (fl, cl, ms, fu, cnt, opn, er, sz, dp, dep', ytr', nx', us', tk', lr', pa, lo, tb, re, sta, len, ops, ty, kd, bk, hh, dd, aF', aP, aZ', aL', lP', lF', vt', (fun j => mem' j &&& 255), imm, val', loc', glo', arg) → wpY_run post (fl, cl, ms, fu, cnt, opn, er, sz, dp, nI (a + 1), 0, nI (p + 1), nI w, tk, lr, pa, lo, tb, re, sta, len, ops, ty, kd, bk, hh, dd, aF, aP, aZ, aL, lP, lF, vt, (fun j => mem j &&& 255), imm, val, loc, glo, arg) (nI 0) im) ∧ zu_F nc nfu T N tb re aP us' dep' top' pc' tr' ytr' nx' aF' aA' aT' aZ' aL' lP' lF' vt' glo' cel' loc' val' a (zu_P nfu w p aA a) := by
  obtain ⟨r1, r2, r3, ⟨t1, t2, t3, t4, t5, t6, t7, t8, t9⟩, r5⟩ := id R
  have hN := H f t1
  have h4 := hsg.1
  refine ⟨nI w, nI (a + 1), nI (12 * a + zc_S (T f p)), nI (p + 1), 1, 1, nI (p + 1), tk, lr, mem, aF, upd aA a (nI p), aT, aZ, aL, lP, lF, vt, glo, cel, loc, val, Or.inl (fun post hp => ?_), fun post hp => ?_, zu_trap (by decide) R⟩
  · refine zx_hd r1 rfl rfl (by omega) t2 hN.2.1 hN.1 t4 (by decide) H1.2.1 hi (fun _ => ?_) (fun z => by omega) (fun z => by omega) (fun z => by omega)
    refine br_f (by decide) (br_f (by decide) (br_t (by decide) ?_))
    exact hp
  · exact zy_hd r1 rfl t2 t3 (by decide) (by decide) (br_t (by decide) hp)
/-- a frame opened over a live stack -/
theorem zu_opn (H1 : zt_1 pa tb re nc f (ops (64 * f + p)) im (T f p) (T f (p + 1)) p k) (hl : zu_live (T f p)) (hk : 1 ≤ k ∧ k ≤ 3) (hz : z = zc_S (T f p) - (if k = 3 then 1 else 0)) :
    zc_S (T f (p + 1)) = z ∧ (∀ x, x < z → zc_T (T f (p + 1)) x = zc_T (T f p) x) ∧ (zc_plan pa tb re f (T f p) im k).2.1 + zc_o (im.toInt32 / 3) = z ∧ (k = 3 → 1 ≤ zc_S (T f p) ∧ zc_T (T f p) (zc_S (T f p) - 1) = 1) := by
  have hok := H1.2.2.1
  obtain ⟨a1, a2, a3, a4, a5, a6, a7, a8, a9⟩ := zn_13 H1 hk
  obtain ⟨r1, r2, r3, r4, r5⟩ := zq_rc0 H1.2.2.2.2.1
  have hs := hok.2.2.2.2.2.1
  -- the size after the condition
  have key : ∀ s, zc_h (T f p) ≤ s → s ≤ zc_S (T f p) → (zc_p (T f p) (im.toInt32 / 3) (0, s)).2.1 = 0 → (zc_p (T f p) (im.toInt32 / 3) (0, s)).2.2 + zc_o (im.toInt32 / 3) = s ∧ (im.toInt32 / 3 ≠ 0 → zc_T (T f p) (s - 1) = im.toInt32 / 3 ∧ (zc_p (T f p) (im.toInt32 / 3) (0, s)).2.2 = s - 1 ∧ 1 ≤ s) := by
    intro s h1 h2 e
    by_cases q : im.toInt32 / 3 = 0
    · rw [q, zp_0, zc_o0 rfl]
      exact ⟨rfl, fun y => absurd rfl y⟩
    · obtain ⟨b1, b2, b3, b4⟩ := zu_p hok hl h2 h1 q e
      have n4 : im.toInt32 / 3 ≠ 4 := by
        obtain ⟨b, hb, eb⟩ := H1.2.2.2.1.1 hk
        rw [eb, lN_i]
        rcases zc_d3 b (by omega) with y | y | y <;> rw [y] <;> decide
      rw [b2, zc_o1 q]
      exact ⟨by show s - 1 + 1 = s; omega, fun _ => ⟨b3 n4, rfl, by omega⟩⟩
  have fin : ∀ s, (zc_plan pa tb re f (T f p) im k).2.1 + zc_o (im.toInt32 / 3) = s → (im.toInt32 / 3 ≠ 0 → zc_T (T f p) (s - 1) = im.toInt32 / 3 ∧ (zc_plan pa tb re f (T f p) im k).2.1 = s - 1 ∧ 1 ≤ s) → zc_S (T f (p + 1)) = s ∧ (∀ x, x < s → zc_T (T f (p + 1)) x = zc_T (T f p) x) := by
    intro s h1 h2
    refine ⟨by rw [a7, h1], fun x hx => ?_⟩
    by_cases q : im.toInt32 / 3 = 0
    · rw [zc_o0 q] at h1
      exact a8 x (by omega)
    · obtain ⟨c1, c2, c3⟩ := h2 q
      by_cases y : x < (zc_plan pa tb re f (T f p) im k).2.1
      · exact a8 x y
      · have ex : x = (zc_plan pa tb re f (T f p) im k).2.1 := by omega
        rw [ex, a9 q, c2, c1]
  by_cases k3 : k = 3
  · subst k3
    rw [if_pos rfl] at hz
    have e0 : (zc_p (T f p) 1 (0, zc_S (T f p))).2.1 = 0 := Classical.byContradiction fun y => by
      have q : (zc_p (T f p) (im.toInt32 / 3) (zc_p (T f p) 1 (0, zc_S (T f p))).2).2.1 = 0 := r4
      rw [zp_err _ _ _ y] at q
      exact y q
    obtain ⟨b1, b2, b3, b4⟩ := zu_p hok hl (Nat.le_refl _) hs (by decide) e0
    have q : (zc_p (T f p) (im.toInt32 / 3) (zc_p (T f p) 1 (0, zc_S (T f p))).2).2.1 = 0 := r4
    rw [b2] at q
    obtain ⟨c1, c2⟩ := key (zc_S (T f p) - 1) (by omega) (by omega) q
    have ep : (zc_plan pa tb re f (T f p) im 3).2.1 = (zc_p (T f p) (im.toInt32 / 3) (0, zc_S (T f p) - 1)).2.2 := by
      show (zc_p (T f p) (im.toInt32 / 3) (zc_p (T f p) 1 (0, zc_S (T f p))).2).2.2 = _
      rw [b2]
    rw [← ep] at c1 c2
    obtain ⟨d1, d2⟩ := fin _ c1 c2
    rw [hz]
    exact ⟨d1, d2, c1, fun _ => ⟨by omega, b3 (by decide)⟩⟩
  · rw [if_neg k3] at hz
    have ep : zc_plan pa tb re f (T f p) im k = zc_mk (zc_p (T f p) (im.toInt32 / 3) (0, zc_S (T f p))).2 (im.toInt32 / 3) 0 := by
      have : k = 1 ∨ k = 2 := by omega
      rcases this with rfl | rfl <;> rfl
    rw [ep] at r4
    obtain ⟨c1, c2⟩ := key (zc_S (T f p)) hs (Nat.le_refl _) r4
    have ep2 : (zc_plan pa tb re f (T f p) im k).2.1 = (zc_p (T f p) (im.toInt32 / 3) (0, zc_S (T f p))).2.2 := by rw [ep]; rfl
    rw [← ep2] at c1 c2
    obtain ⟨d1, d2⟩ := fin _ c1 c2
    rw [hz]
    exact ⟨d1, d2, c1, fun y => absurd y k3⟩
/-- the reference pushes a label -/
theorem zy_lab {post : SY → Prop} {b L : Nat} (ha : a ≤ 7) (hb : b ≤ 8) (hL : L ≤ 6) (hz : z ≤ 12) (hz1 : zc_o (nI b / 3) ≤ z) (eL : aL a = nI L) (eZ : aZ a = nI z)
    (hp : post (fl, cl, ms, fu, cnt, opn, er, sz, dp, dep, ytr, nx, us, tk, lr, pa, lo, tb, re, sta, len, ops, ty, kd, bk, hh, dd, aF, aP, aZ, upd aL a (nI (L + 1)), upd lP (8 * a + L) (nI p), upd lF (8 * a + L) (nI (z - zc_o (nI b / 3))), vt, byt, imm, val, loc, glo, arg)) : wY_run_165 post (nI a) (nI p) (nI b) (nI (8 * a + L)) fl cl ms fu cnt opn er sz dp dep ytr nx us tk lr pa lo tb re sta len ops ty kd bk hh dd aF aP aZ aL lP lF vt byt imm val loc glo arg := by
  have hin : vp_in (nI a) 8 := vp_in_nI (by omega) (by decide)
  have ec : (nI a).toNatClampNeg = a := nI_clamp (by omega)
  have hin2 : vp_in (nI (8 * a + L)) 64 := vp_in_nI (by omega) (by decide)
  have ec2 : (nI (8 * a + L)).toNatClampNeg = 8 * a + L := nI_clamp (by omega)
  have ed : nI b / 3 = nI (b / 3) := pk_div (by omega) (by decide) (by decide)
  have A : ∀ x : Nat, x = zc_o (nI b / 3) → wY_run_198 post (nI a) (nI x) (nI z) (nI (8 * a + L)) fl cl ms fu cnt opn er sz dp dep ytr nx us tk lr pa lo tb re sta len ops ty kd bk hh dd aF aP aZ aL (upd lP (8 * a + L) (nI p)) lF vt byt imm val loc glo arg := by
    intro x hx
    subst hx
    exact ⟨hin2, nm_r (e' := upd lF (8 * a + L) (nI (z - zc_o (nI b / 3)))) (by rw [ec2, pk_sub hz1]) ⟨hin, hin, nm_r (e' := upd aL a (nI (L + 1))) (by rw [ec, eL, nI_1]) hp⟩⟩
  refine ⟨hin2, nm_r (e' := upd lP (8 * a + L) (nI p)) (by rw [ec2]) ⟨hin, ?_⟩⟩
  rw [ec, eZ]
  refine pk_lt b 3 (fun y => A 0 ?_) (fun y => A 1 ?_)
  · rw [ed, zc_o0 (by rw [show b / 3 = 0 from by omega]; rfl)]
  · rw [ed, zc_o1 (fun q => by
      have := (nI_eq (b := 0) (by omega) (by decide)).mp q
      omega)]
/-- the labels with one more -/
theorem zu_lab1 {cur q : Nat} (hok : zc_ok (T f p)) (t7 : zu_Lb a (T f p) aL lP lF) (c' : zc_C) (eD : zc_D c' = zc_D (T f p) + 1) (hA : ∀ x, x < zc_D (T f p) → zc_A c' x = zc_A (T f p) x ∧ zc_H c' x = zc_H (T f p) x) (hA1 : zc_A c' (zc_D (T f p)) = q) (hH1 : zc_H c' (zc_D (T f p)) = cur) :
    zu_Lb a c' (upd aL a (nI (zc_D (T f p) - 1 + 1))) (upd lP (8 * a + (zc_D (T f p) - 1)) (nI q)) (upd lF (8 * a + (zc_D (T f p) - 1)) (nI cur)) := by
  have hD := hok.1
  refine ⟨by rw [pk_us, eD]; exact congrArg nI (by omega), fun j hj => ?_⟩
  rw [eD] at hj
  by_cases y : j = zc_D (T f p) - 1
  · subst y
    have e : zc_D (T f p) - 1 + 1 = zc_D (T f p) := by omega
    rw [pk_us, pk_us, e, hA1, hH1]
    exact ⟨rfl, rfl⟩
  · rw [pk_un (by omega), pk_un (by omega), (hA (j + 1) (by omega)).1, (hA (j + 1) (by omega)).2]
    exact t7.2 j (by omega)
theorem zu_oB (H : zu_S pa tb re len ops sT sF sM imm nc T N) (hsg : zc_sg pa lo re nc) (R : zu_R nc nfu T N tb re aF aA aT aP aZ aL lP lF vt cel val loc glo a f p w) (hi : imm (64 * f + p) = im) (H1 : zt_1 pa tb re nc f (ops (64 * f + p)) im (T f p) (T f (p + 1)) p k) (hk : k = 1 ∨ k = 2) : ∃ (us' dep' top' pc' tr' ytr' nx' tk' : Int32) (lr' : Int64) (mem' aF' aA' aT' aZ' aL' lP' lF' vt' : Nat → Int32) (glo' cel' loc' val' : Nat → Int64), zu_XS (zu_F nc nfu T N tb re aP us' dep' top' pc' tr' ytr' nx' aF' aA' aT' aZ' aL' lP' lF' vt' glo' cel' loc' val' a (zu_P nfu w p aA a - 1)) (fl, cl, ms, fu, cnt, opn, tu, oc, fc, cu, pu, mk, lr, nI w, nI (a + 1), nI (12 * a + zc_S (T f p)), nI p, 0, pa, lo, tb, re, sta, len, ops, imm, sT, sF, sM, oT, fK, fT, fH, fU, fS, fC, arg, glo, mem, aF, aA, aT, cel, loc) (fl, cl, ms, fu, cnt, opn, tu, oc, fc, cu, pu, mk, lr', us', dep', top', pc', tr', pa, lo, tb, re, sta, len, ops, imm, sT, sF, sM, oT, fK, fT, fH, fU, fS, fC, arg, glo', mem', aF', aA', aT', cel', loc') ∧ (∀ post : SY → Prop, post (fl, cl, ms, fu, cnt, opn, er, sz, dp, dep', ytr', nx', us', tk', lr', pa, lo, tb, re, sta, len, ops, ty, kd, bk, hh, dd, aF', aP, aZ', aL', lP', lF', vt', (fun j => mem' j &&& 255), imm, val', loc', glo', arg) → wpY_run post (fl, cl, ms, fu, cnt, opn, er, sz, dp, nI (a + 1), 0, nI (p + 1), nI w, tk, lr, pa, lo, tb, re, sta, len, ops, ty, kd, bk, hh, dd, aF, aP, aZ, aL, lP, lF, vt, (fun j => mem j &&& 255), imm, val, loc, glo, arg) (nI k) im) ∧ zu_F nc nfu T N tb re aP us' dep' top' pc' tr' ytr' nx' aF' aA' aT' aZ' aL' lP' lF' vt' glo' cel' loc' val' a (zu_P nfu w p aA a) := by
  obtain ⟨r1, r2, r3, ⟨t1, t2, t3, t4, t5, t6, t7, t8, t9⟩, r5⟩ := id R
  have hN := H f t1
  have h4 := hsg.1
  have hok := H1.2.2.1
  have hD1 := hok.1
  have hD8 := hok.2.1
  have hS := hok.2.2.1
  obtain ⟨b, hb, eb⟩ := H1.2.2.2.1.1 (by omega)
  have ei : im.toInt32 = nI b := by rw [eb, lN_i]
  obtain ⟨q1, q2, q3, q4⟩ := zu_opn (z := zc_S (T f p)) H1 t8 (by omega) (by rw [if_neg (by omega)]; rfl)
  obtain ⟨a1, a2, a3, a4, a5, a6, a7, a8, a9⟩ := zn_13 H1 (by omega)
  have hD7 := (zq_rc0 H1.2.2.2.2.1).1 (by omega)
  have hp1 : p + 1 < N f := zu_lt H t1 (by omega) (by omega)
  obtain ⟨e, E⟩ := zt_ex hN.2.2.1 hN.2.2.2.1 (zc_D (T f p)) (N f - (p + 1)) (p + 1) (by omega) (by omega)
  obtain ⟨r4, hr4⟩ := zy_M4g (fl := fl) (cl := cl) (ms := ms) (fu := fu) (cnt := cnt) (opn := opn) (er := er) (sz := sz) (dp := dp) (dep := nI (a + 1)) (ytr := 0) (nx := nI (p + 1)) (us := nI w) (tk := tk) (lr := lr) (pa := pa) (lo := lo) (tb := tb) (re := re) (sta := sta) (len := len) (ops := ops) (ty := ty) (kd := kd) (bk := bk) (hh := hh) (dd := dd) (aF := aF) (aP := aP) (aZ := aZ) (aL := aL) (lP := lP) (lF := lF) (vt := vt) (byt := fun j => mem j &&& 255) (imm := imm) (val := val) (loc := loc) (glo := glo) (arg := arg) (i := p) (d := zc_D (T f p)) (f := f) (by omega) hN.2.1 hN.1 hN.2.2.1 hN.2.2.2.1 t4 a1
  have hcur : zc_S (T f p) - zc_o (nI b / 3) = (zc_plan pa tb re f (T f p) im k).2.1 := by rw [← ei]; omega
  refine ⟨nI w, nI (a + 1), nI (12 * a + zc_S (T f p)), nI (p + 1), 0, 0, nI (p + 1), tk, lr, mem, aF, upd aA a (nI p), aT, aZ, upd aL a (nI (zc_D (T f p) - 1 + 1)), upd lP (8 * a + (zc_D (T f p) - 1)) (nI p), upd lF (8 * a + (zc_D (T f p) - 1)) (nI (zc_plan pa tb re f (T f p) im k).2.1), vt, glo, cel, loc, val, Or.inl (fun post hp => ?_), fun post hp => ?_, ?_⟩
  · refine zx_hd r1 rfl rfl (by omega) t2 hN.2.1 hN.1 t4 (by omega) H1.2.1 hi (fun _ => ?_) (fun z => by omega) (fun z => by omega) (fun z => by omega)
    rcases hk with rfl | rfl
    · refine br_f (by decide) (br_f (by decide) (br_f (by decide) (br_t (by decide) ?_)))
      exact hp
    · refine br_f (by decide) (br_f (by decide) (br_f (by decide) (br_f (by decide) (br_t (by decide) ?_))))
      exact hp
  · refine zy_hd r1 rfl t2 t3 (by omega) (by omega) ?_
    refine pk_eq k 0 (fun _ => by omega) (fun _ => pk_lt 3 k (fun _ => by omega) (fun _ => hr4 _ (zy_M5 (by omega) hN.2.1 hN.1 hN.2.2.1 a1 E ?_)))
    have ec : (nI a).toNatClampNeg = a := nI_clamp (by omega)
    refine ⟨vp_in_nI (by omega) (by decide), nm_r (e' := nI (8 * a + (zc_D (T f p) - 1))) ?_ (br_f (by decide) (br_f (by decide) ?_))⟩
    · rw [ec, t7.1, show (8 : Int32) * nI a = nI (8 * a) from pk_mul 8 a, nI_add]
    · rw [ei]
      refine zy_lab r1 hb (by omega) hS (by rw [← ei]; omega) t7.1 t5 ?_
      rw [hcur]
      exact hp
  · refine Or.inr (Or.inr ⟨a, f, p + 1, w, rfl, rfl, rfl, rfl, by rw [q1], rfl, rfl, zu_goto H R hp1 r2 ?_ ?_ ?_ (by rw [q1]; exact t5) (fun _ _ => rfl) zu_z1 (fun y hy => ⟨pk_un (by omega), pk_un (by omega)⟩) (fun _ _ => rfl) (fun _ _ => ⟨rfl, rfl⟩), zu_Pg (by omega) (by omega)⟩)
    · rw [q1]
      intro x hx
      rw [q2 x hx]; exact t6 x hx
    · refine zu_lab1 hok t7 _ a1 (fun x hx => ⟨by rw [a6, zc_un (by omega)], by rw [a4, zc_un (by omega)]⟩) (by rw [a6, zc_us]) (by rw [a4, zc_us])
    · intro d hd
      rw [a1] at hd
      rw [a5]
      by_cases y : d = zc_D (T f p)
      · rw [y, pk_us]
      · rw [pk_un y]; exact t8 d (by omega)
end
end
section
/-! the run: IF, ELSE, END -/
section
variable {fl cl ms fu cnt opn tu oc fc cu pu mk us dep top pc tr er sz dp ytr nx tk : Int32} {lr : Int64} {pa lo tb re sta len ops sT sF sM oT fK fT fH fU fS fC mem aF aA aT ty kd bk hh dd aP aZ aL lP lF vt byt : Nat → Int32} {imm arg glo cel loc val : Nat → Int64} {nc nfu : Nat} {T : Nat → Nat → zc_C} {N : Nat → Nat} {a f p w k z : Nat} {im : Int64}
theorem zu_o3 (H : zu_S pa tb re len ops sT sF sM imm nc T N) (hsg : zc_sg pa lo re nc) (R : zu_R nc nfu T N tb re aF aA aT aP aZ aL lP lF vt cel val loc glo a f p w) (hi : imm (64 * f + p) = im) (H1 : zt_1 pa tb re nc f (ops (64 * f + p)) im (T f p) (T f (p + 1)) p 3) : ∃ (us' dep' top' pc' tr' ytr' nx' tk' : Int32) (lr' : Int64) (mem' aF' aA' aT' aZ' aL' lP' lF' vt' : Nat → Int32) (glo' cel' loc' val' : Nat → Int64), zu_XS (zu_F nc nfu T N tb re aP us' dep' top' pc' tr' ytr' nx' aF' aA' aT' aZ' aL' lP' lF' vt' glo' cel' loc' val' a (zu_P nfu w p aA a - 1)) (fl, cl, ms, fu, cnt, opn, tu, oc, fc, cu, pu, mk, lr, nI w, nI (a + 1), nI (12 * a + zc_S (T f p)), nI p, 0, pa, lo, tb, re, sta, len, ops, imm, sT, sF, sM, oT, fK, fT, fH, fU, fS, fC, arg, glo, mem, aF, aA, aT, cel, loc) (fl, cl, ms, fu, cnt, opn, tu, oc, fc, cu, pu, mk, lr', us', dep', top', pc', tr', pa, lo, tb, re, sta, len, ops, imm, sT, sF, sM, oT, fK, fT, fH, fU, fS, fC, arg, glo', mem', aF', aA', aT', cel', loc') ∧ (∀ post : SY → Prop, post (fl, cl, ms, fu, cnt, opn, er, sz, dp, dep', ytr', nx', us', tk', lr', pa, lo, tb, re, sta, len, ops, ty, kd, bk, hh, dd, aF', aP, aZ', aL', lP', lF', vt', (fun j => mem' j &&& 255), imm, val', loc', glo', arg) → wpY_run post (fl, cl, ms, fu, cnt, opn, er, sz, dp, nI (a + 1), 0, nI (p + 1), nI w, tk, lr, pa, lo, tb, re, sta, len, ops, ty, kd, bk, hh, dd, aF, aP, aZ, aL, lP, lF, vt, (fun j => mem j &&& 255), imm, val, loc, glo, arg) (nI 3) im) ∧ zu_F nc nfu T N tb re aP us' dep' top' pc' tr' ytr' nx' aF' aA' aT' aZ' aL' lP' lF' vt' glo' cel' loc' val' a (zu_P nfu w p aA a) := by
  obtain ⟨r1, r2, r3, ⟨t1, t2, t3, t4, t5, t6, t7, t8, t9⟩, r5⟩ := id R
  have hN := H f t1
  have h4 := hsg.1
  have hok := H1.2.2.1
  have hD1 := hok.1
  have hD8 := hok.2.1
  have hS := hok.2.2.1
  obtain ⟨b, hb, eb⟩ := H1.2.2.2.1.1 (by omega)
  have ei : im.toInt32 = nI b := by rw [eb, lN_i]
  obtain ⟨q1, q2, q3, q4⟩ := zu_opn (z := zc_S (T f p) - 1) H1 t8 (by omega) (by rw [if_pos rfl])
  obtain ⟨s1, s2⟩ := q4 rfl
  obtain ⟨a1, a2, a3, a4, a5, a6, a7, a8, a9⟩ := zn_13 H1 (by omega)
  have hD7 := (zq_rc0 H1.2.2.2.2.1).1 (by omega)
  have hp1 : p + 1 < N f := zu_lt H t1 (by omega) (by omega)
  obtain ⟨e, E⟩ := zt_ex hN.2.2.1 hN.2.2.2.1 (zc_D (T f p)) (N f - (p + 1)) (p + 1) (by omega) (by omega)
  obtain ⟨u1, u2, u3⟩ := t6 (zc_S (T f p) - 1) (by omega)
  have y1 : vt (16 * a + (zc_S (T f p) - 1)) = 1 := by rw [u1, s2]
  have ec : (nI a).toNatClampNeg = a := nI_clamp (by omega)
  have ex13 : 8 * nI a + aL (nI a).toNatClampNeg = nI (8 * a + (zc_D (T f p) - 1)) := by
    rw [ec, t7.1, show (8 : Int32) * nI a = nI (8 * a) from pk_mul 8 a, nI_add]
  have hin8 : vp_in (nI a) 8 := vp_in_nI (by omega) (by decide)
  have hcur : zc_S (T f p) - 1 - zc_o (nI b / 3) = (zc_plan pa tb re f (T f p) im 3).2.1 := by rw [← ei]; omega
  have hz1 : zc_o (nI b / 3) ≤ zc_S (T f p) - 1 := by rw [← ei]; omega
  have hcS : (zc_plan pa tb re f (T f p) im 3).2.1 ≤ zc_S (T f p) - 1 := by omega
  by_cases v0 : cel (12 * a + (zc_S (T f p) - 1)) = 0
  · obtain ⟨ea, hin4, ec4⟩ := zx_sa (f := f) (s := p) (by omega) (by omega)
    rcases hN.2.2.2.2.2.2.2 p t4 H1.2.1 with ⟨j, j1, j2, j3, j4, j5, j6, j7⟩ | ⟨e', E', n2, n3⟩
    · have hj4 : ops (64 * f + j) = 4 := j3
      have hsT : sT (96 * f + p) = nI (j + 1) := j7
      obtain ⟨kj, Hj⟩ := hN.2.2.1.2 j j2
      have ekj : kj = 4 := zt_k Hj.2.1 Hj.1 (by omega) j3
      subst ekj
      obtain ⟨g1, g2, g3, g4, g5, g6, g7, g8, g9, g10⟩ := zn_4 Hj
      obtain ⟨p1, p2, p3⟩ := zt_pers hN.2.2.1 j (by omega) (by omega) j5
      have edj : zc_D (T f j) - 1 = zc_D (T f p) := by omega
      have eh : zc_h (T f j) = (zc_plan pa tb re f (T f p) im 3).2.1 := by unfold zc_h; rw [edj, (p1 _ (Nat.le_refl _)).2.2.1, a4, zc_us]
      have eB : zc_B (T f j) (zc_D (T f j) - 1) = im.toInt32 := by rw [edj, (p1 _ (Nat.le_refl _)).2.1, a3, pk_us]
      rw [eB, eh] at g7 g9
      rw [eh] at g8
      have eS : zc_S (T f (j + 1)) = zc_S (T f p) - 1 := by rw [g7]; exact q3
      have hj1 : j + 1 < N f := zu_lt H t1 (by omega) (by rw [g1]; omega)
      have eH : zc_H (T f (p + 1)) (zc_D (T f p)) = (zc_plan pa tb re f (T f p) im 3).2.1 := by rw [a4, zc_us]
      refine ⟨nI w, nI (a + 1), nI (12 * a + (zc_S (T f p) - 1)), nI (j + 1), 0, 0, nI (j + 1), vt (16 * a + (zc_S (T f p) - 1)), lr, mem, aF, upd aA a (nI p), aT, upd aZ a (nI (zc_S (T f p) - 1)), upd aL a (nI (zc_D (T f p) - 1 + 1)), upd lP (8 * a + (zc_D (T f p) - 1)) (nI p), upd lF (8 * a + (zc_D (T f p) - 1)) (nI (zc_plan pa tb re f (T f p) im 3).2.1), vt, glo, cel, loc, val, Or.inl (fun post hp => ?_), fun post hp => ?_, ?_⟩
      · refine zx_hd r1 rfl rfl (by omega) t2 hN.2.1 hN.1 t4 (by omega) H1.2.1 hi (fun _ => ?_) (fun z => by omega) (fun z => by omega) (fun z => by omega)
        refine br_f (by decide) (br_f (by decide) (br_f (by decide) (br_f (by decide) (br_f (by decide) (br_t (by decide) ?_)))))
        refine zx_take r1 s1 hS rfl rfl (br_t v0 ⟨by rw [ea]; exact hin4, nm_r (e' := nI (j + 1)) (by rw [ea, ec4, hsT]) hp⟩)
      · refine zy_hdt r1 rfl t2 t3 (by omega) (by omega) s1 hS rfl t5 y1 ?_
        refine br_f (by decide) (br_f (by decide) ?_)
        refine zy_M4 (by omega) hN.2.1 hN.1 hN.2.2.1 a1 j1 j2 hj4 j4 j5 j6 (zy_M5 (by omega) hN.2.1 hN.1 hN.2.2.1 a1 E ?_)
        rw [u2]
        refine ⟨hin8, nm_r ex13 (br_t v0 (br_t (nI_pos' (by omega)) ?_))⟩
        rw [nI_1]
        refine br_t v0 (br_t (nI_pos' (by omega)) ?_)
        rw [ei]
        refine zy_lab r1 hb (by omega) (z := zc_S (T f p) - 1) (by omega) hz1 t7.1 pk_us ?_
        rw [hcur]
        exact hp
      · refine Or.inr (Or.inr ⟨a, f, j + 1, w, rfl, rfl, rfl, rfl, by rw [eS], rfl, rfl, zu_goto H R hj1 r2 ?_ ?_ ?_ (by rw [eS]; exact pk_us) zu_z1 zu_z1 (fun y hy => ⟨pk_un (by omega), pk_un (by omega)⟩) (fun _ _ => rfl) (fun _ _ => ⟨rfl, rfl⟩), zu_Pg (by omega) (by omega)⟩)
        · rw [eS]
          intro x hx
          have eT : zc_T (T f (j + 1)) x = zc_T (T f p) x := by
            by_cases y : x < (zc_plan pa tb re f (T f p) im 3).2.1
            · rw [g8 x y, p3 x (by rw [eH]; exact y), a8 x y]
            · have ob := zq_oo (im.toInt32 / 3)
              have o0 : im.toInt32 / 3 ≠ 0 := fun y0 => by rw [zc_o0 y0] at q3; omega
              have ex : x = (zc_plan pa tb re f (T f p) im 3).2.1 := by omega
              rw [ex, g9 o0, ← a9 o0, ← ex]
              exact q2 x hx
          rw [eT]; exact t6 x (by omega)
        · refine zu_lab1 hok t7 _ (by rw [g1]; exact j4) (fun x hx => ⟨?_, ?_⟩) ?_ ?_
          · rw [g6, (p1 x (by omega)).1, a6, zc_un (by omega)]
          · rw [g4, (p1 x (by omega)).2.2.1, a4, zc_un (by omega)]
          · rw [g6, (p1 _ (Nat.le_refl _)).1, a6, zc_us]
          · rw [g4, (p1 _ (Nat.le_refl _)).2.2.1, a4, zc_us]
        · intro d hd
          rw [g1, j4] at hd
          rw [g5, edj]
          by_cases y : d = zc_D (T f p)
          · rw [y, pk_us]
          · rw [pk_un y, (p2 d (by omega)).2, a5, pk_un y]; exact t8 d (by omega)
    · have hsT : sT (96 * f + p) = nI (e' + 1) := n3
      obtain ⟨g1, g2, g3, g4, g5, g6⟩ := zt_end hN.2.2.1 hD1 E'
      have H1' : zt_1 pa tb re nc f (ops (64 * f + p)) (imm (64 * f + p)) (T f p) (T f (p + 1)) p 3 := by rw [hi]; exact H1
      have hK3 : zc_K (T f e') (zc_D (T f p)) = 3 := (zt_if hN.2.2.1 H1' (by omega) e' (by have := E'.1; omega) (by have := E'.2.1; omega) E'.2.2.2.2).mpr ⟨rfl, n2⟩
      have eH : zc_H (T f (p + 1)) (zc_D (T f p)) = (zc_plan pa tb re f (T f p) im 3).2.1 := by rw [a4, zc_us]
      have eB : zc_B (T f (p + 1)) (zc_D (T f p)) = im.toInt32 := by rw [a3, pk_us]
      have er3 := g6 hK3
      rw [eB] at er3
      rw [eH, eB, ← er3] at g4 g5
      rw [eH] at g3
      have eS : zc_S (T f (e' + 1)) = zc_S (T f p) - 1 := by rw [g4]; exact q3
      have he1 := E'.2.1
      have he0 := E'.1
      have hj1 : e' + 1 < N f := zu_lt H t1 (by omega) (by rw [g1]; omega)
      refine ⟨nI w, nI (a + 1), nI (12 * a + (zc_S (T f p) - 1)), nI (e' + 1), 0, 0, nI (e' + 1), vt (16 * a + (zc_S (T f p) - 1)), lr, mem, aF, upd aA a (nI p), aT, upd aZ a (nI (zc_S (T f p) - 1)), aL, lP, lF, vt, glo, cel, loc, val, Or.inl (fun post hp => ?_), fun post hp => ?_, ?_⟩
      · refine zx_hd r1 rfl rfl (by omega) t2 hN.2.1 hN.1 t4 (by omega) H1.2.1 hi (fun _ => ?_) (fun z => by omega) (fun z => by omega) (fun z => by omega)
        refine br_f (by decide) (br_f (by decide) (br_f (by decide) (br_f (by decide) (br_f (by decide) (br_t (by decide) ?_)))))
        refine zx_take r1 s1 hS rfl rfl (br_t v0 ⟨by rw [ea]; exact hin4, nm_r (e' := nI (e' + 1)) (by rw [ea, ec4, hsT]) hp⟩)
      · refine zy_hdt r1 rfl t2 t3 (by omega) (by omega) s1 hS rfl t5 y1 ?_
        refine br_f (by decide) (br_f (by decide) ?_)
        refine zy_M4n (by omega) hN.2.1 hN.1 hN.2.2.1 a1 E' n2 (zy_M5 (by omega) hN.2.1 hN.1 hN.2.2.1 a1 E' ?_)
        rw [u2]
        refine ⟨hin8, nm_r ex13 (br_t v0 (br_f (by decide) ?_))⟩
        rw [nI_1]
        exact br_t v0 (br_f (by decide) hp)
      · refine Or.inr (Or.inr ⟨a, f, e' + 1, w, rfl, rfl, rfl, rfl, by rw [eS], rfl, rfl, zu_goto H R hj1 r2 ?_ ?_ ?_ (by rw [eS]; exact pk_us) zu_z1 (fun _ _ => rfl) (fun _ _ => ⟨rfl, rfl⟩) (fun _ _ => rfl) (fun _ _ => ⟨rfl, rfl⟩), zu_Pg (by omega) (by omega)⟩)
        · rw [eS]
          intro x hx
          have eT : zc_T (T f (e' + 1)) x = zc_T (T f p) x := by
            by_cases y : x < (zc_plan pa tb re f (T f p) im 3).2.1
            · rw [g3 x y, a8 x y]
            · have ob := zq_oo (im.toInt32 / 3)
              have o0 : im.toInt32 / 3 ≠ 0 := fun y0 => by rw [zc_o0 y0] at q3; omega
              have ex : x = (zc_plan pa tb re f (T f p) im 3).2.1 := by omega
              rw [ex, g5 o0, ← a9 o0, ← ex]
              exact q2 x hx
          rw [eT]; exact t6 x (by omega)
        · refine ⟨by rw [g1]; exact t7.1, fun x hx => ?_⟩
          rw [g1] at hx
          obtain ⟨h1, h2, h3, h4', h5⟩ := g2 (x + 1) (by omega)
          rw [h5, h3, a6, a4, zc_un (by omega), zc_un (by omega)]
          exact t7.2 x hx
        · intro d hd
          rw [g1] at hd
          rw [(g2 d hd).2.2.2.1, a5, pk_un (by omega)]; exact t8 d hd
  · obtain ⟨r4, hr4⟩ := zy_M4g (fl := fl) (cl := cl) (ms := ms) (fu := fu) (cnt := cnt) (opn := opn) (er := er) (sz := sz) (dp := dp) (dep := nI (a + 1)) (ytr := 0) (nx := nI (p + 1)) (us := nI w) (tk := vt (16 * a + (zc_S (T f p) - 1))) (lr := lr) (pa := pa) (lo := lo) (tb := tb) (re := re) (sta := sta) (len := len) (ops := ops) (ty := ty) (kd := kd) (bk := bk) (hh := hh) (dd := dd) (aF := aF) (aP := aP) (aZ := upd aZ a (nI (zc_S (T f p) - 1))) (aL := aL) (lP := lP) (lF := lF) (vt := vt) (byt := fun j => mem j &&& 255) (imm := imm) (val := val) (loc := loc) (glo := glo) (arg := arg) (i := p) (d := zc_D (T f p)) (f := f) (by omega) hN.2.1 hN.1 hN.2.2.1 hN.2.2.2.1 t4 a1
    refine ⟨nI w, nI (a + 1), nI (12 * a + (zc_S (T f p) - 1)), nI (p + 1), 0, 0, nI (p + 1), vt (16 * a + (zc_S (T f p) - 1)), lr, mem, aF, upd aA a (nI p), aT, upd aZ a (nI (zc_S (T f p) - 1)), upd aL a (nI (zc_D (T f p) - 1 + 1)), upd lP (8 * a + (zc_D (T f p) - 1)) (nI p), upd lF (8 * a + (zc_D (T f p) - 1)) (nI (zc_plan pa tb re f (T f p) im 3).2.1), vt, glo, cel, loc, val, Or.inl (fun post hp => ?_), fun post hp => ?_, ?_⟩
    · refine zx_hd r1 rfl rfl (by omega) t2 hN.2.1 hN.1 t4 (by omega) H1.2.1 hi (fun _ => ?_) (fun z => by omega) (fun z => by omega) (fun z => by omega)
      refine br_f (by decide) (br_f (by decide) (br_f (by decide) (br_f (by decide) (br_f (by decide) (br_t (by decide) ?_)))))
      exact zx_take r1 s1 hS rfl rfl (br_f v0 hp)
    · refine zy_hdt r1 rfl t2 t3 (by omega) (by omega) s1 hS rfl t5 y1 ?_
      refine br_f (by decide) (br_f (by decide) ?_)
      refine hr4 _ (zy_M5 (by omega) hN.2.1 hN.1 hN.2.2.1 a1 E ?_)
      rw [u2]
      refine ⟨hin8, nm_r ex13 (br_f v0 (br_f v0 ?_))⟩
      rw [ei]
      refine zy_lab r1 hb (by omega) (z := zc_S (T f p) - 1) (by omega) hz1 t7.1 pk_us ?_
      rw [hcur]
      exact hp
    · refine Or.inr (Or.inr ⟨a, f, p + 1, w, rfl, rfl, rfl, rfl, by rw [q1], rfl, rfl, zu_goto H R hp1 r2 ?_ ?_ ?_ (by rw [q1]; exact pk_us) zu_z1 zu_z1 (fun y hy => ⟨pk_un (by omega), pk_un (by omega)⟩) (fun _ _ => rfl) (fun _ _ => ⟨rfl, rfl⟩), zu_Pg (by omega) (by omega)⟩)
      · rw [q1]
        intro x hx
        rw [q2 x hx]; exact t6 x (by omega)
      · refine zu_lab1 hok t7 _ a1 (fun x hx => ⟨by rw [a6, zc_un (by omega)], by rw [a4, zc_un (by omega)]⟩) (by rw [a6, zc_us]) (by rw [a4, zc_us])
      · intro d hd
        rw [a1] at hd
        rw [a5]
        by_cases y : d = zc_D (T f p)
        · rw [y, pk_us]
        · rw [pk_un y]; exact t8 d (by omega)
/-- the stack at ELSE and END -/
theorem zu_cls (H1 : zt_1 pa tb re nc f (ops (64 * f + p)) im (T f p) (T f (p + 1)) p k) (hl : zu_live (T f p)) (hk : k = 4 ∨ k = 5) :
    zc_S (T f p) = zc_h (T f p) + zc_o (zc_r (zc_B (T f p) (zc_D (T f p) - 1))) ∧ (zc_r (zc_B (T f p) (zc_D (T f p) - 1)) ≠ 0 → zc_T (T f p) (zc_h (T f p)) = zc_r (zc_B (T f p) (zc_D (T f p) - 1))) := by
  have hok := H1.2.2.1
  have hD1 := hok.1
  obtain ⟨r1, r2, r3, r4, r5⟩ := zq_rc0 H1.2.2.2.2.1
  have e := zq_lv hk r4
  have n4 : zc_r (zc_B (T f p) (zc_D (T f p) - 1)) ≠ 4 := zf_n4 (zp_B3 hok (by omega)).2
  have eC : (zc_p (T f p) (zc_r (zc_B (T f p) (zc_D (T f p) - 1))) (0, zc_S (T f p))).2.2 = zc_h (T f p) := by
    rcases hk with rfl | rfl <;> exact e
  have e0 : (zc_p (T f p) (zc_r (zc_B (T f p) (zc_D (T f p) - 1))) (0, zc_S (T f p))).2.1 = 0 := by
    have q : (zc_lv (T f p) (zc_p (T f p) (zc_r (zc_B (T f p) (zc_D (T f p) - 1))) (0, zc_S (T f p))).2).1 = 0 := by
      rcases hk with rfl | rfl <;> exact r4
    unfold zc_lv at q
    rw [if_neg (fun y => y.2 eC)] at q
    exact q
  by_cases q : zc_r (zc_B (T f p) (zc_D (T f p) - 1)) = 0
  · rw [q, zp_0] at eC
    rw [q, zc_o0 rfl]
    exact ⟨eC, fun y => absurd rfl y⟩
  · obtain ⟨b1, b2, b3, b4⟩ := zu_p hok hl (Nat.le_refl _) hok.2.2.2.2.2.1 q e0
    rw [b2] at eC
    have eC' : zc_S (T f p) - 1 = zc_h (T f p) := eC
    rw [zc_o1 q]
    refine ⟨by omega, fun _ => ?_⟩
    rw [← eC']; exact b3 n4
/-- one label less -/
theorem zu_lab0 {c' : zc_C} (t7 : zu_Lb a (T f p) aL lP lF) (h2 : 2 ≤ zc_D (T f p)) (eD : zc_D c' = zc_D (T f p) - 1) (hA : ∀ x, x < zc_D (T f p) - 1 → zc_A c' x = zc_A (T f p) x ∧ zc_H c' x = zc_H (T f p) x) : zu_Lb a c' (upd aL a (nI (zc_D (T f p) - 1 - 1))) lP lF := by
  refine ⟨by rw [pk_us, eD], fun j hj => ?_⟩
  rw [eD] at hj
  rw [(hA (j + 1) hj).1, (hA (j + 1) hj).2]
  exact t7.2 j (by omega)
theorem zu_o4 (H : zu_S pa tb re len ops sT sF sM imm nc T N) (hsg : zc_sg pa lo re nc) (R : zu_R nc nfu T N tb re aF aA aT aP aZ aL lP lF vt cel val loc glo a f p w) (hi : imm (64 * f + p) = im) (H1 : zt_1 pa tb re nc f (ops (64 * f + p)) im (T f p) (T f (p + 1)) p 4) : ∃ (us' dep' top' pc' tr' ytr' nx' tk' : Int32) (lr' : Int64) (mem' aF' aA' aT' aZ' aL' lP' lF' vt' : Nat → Int32) (glo' cel' loc' val' : Nat → Int64), zu_XS (zu_F nc nfu T N tb re aP us' dep' top' pc' tr' ytr' nx' aF' aA' aT' aZ' aL' lP' lF' vt' glo' cel' loc' val' a (zu_P nfu w p aA a - 1)) (fl, cl, ms, fu, cnt, opn, tu, oc, fc, cu, pu, mk, lr, nI w, nI (a + 1), nI (12 * a + zc_S (T f p)), nI p, 0, pa, lo, tb, re, sta, len, ops, imm, sT, sF, sM, oT, fK, fT, fH, fU, fS, fC, arg, glo, mem, aF, aA, aT, cel, loc) (fl, cl, ms, fu, cnt, opn, tu, oc, fc, cu, pu, mk, lr', us', dep', top', pc', tr', pa, lo, tb, re, sta, len, ops, imm, sT, sF, sM, oT, fK, fT, fH, fU, fS, fC, arg, glo', mem', aF', aA', aT', cel', loc') ∧ (∀ post : SY → Prop, post (fl, cl, ms, fu, cnt, opn, er, sz, dp, dep', ytr', nx', us', tk', lr', pa, lo, tb, re, sta, len, ops, ty, kd, bk, hh, dd, aF', aP, aZ', aL', lP', lF', vt', (fun j => mem' j &&& 255), imm, val', loc', glo', arg) → wpY_run post (fl, cl, ms, fu, cnt, opn, er, sz, dp, nI (a + 1), 0, nI (p + 1), nI w, tk, lr, pa, lo, tb, re, sta, len, ops, ty, kd, bk, hh, dd, aF, aP, aZ, aL, lP, lF, vt, (fun j => mem j &&& 255), imm, val, loc, glo, arg) (nI 4) im) ∧ zu_F nc nfu T N tb re aP us' dep' top' pc' tr' ytr' nx' aF' aA' aT' aZ' aL' lP' lF' vt' glo' cel' loc' val' a (zu_P nfu w p aA a) := by
  obtain ⟨r1, r2, r3, ⟨t1, t2, t3, t4, t5, t6, t7, t8, t9⟩, r5⟩ := id R
  have hN := H f t1
  have h4 := hsg.1
  have hok := H1.2.2.1
  have hD1 := hok.1
  have hD8 := hok.2.1
  have hS := hok.2.2.1
  obtain ⟨s1, s2⟩ := zu_cls H1 t8 (Or.inl rfl)
  have hK := (zn_4 H1).2.2.2.2.2.2.2.2.2
  have eD1 := (zn_4 H1).1
  have h2 : 2 ≤ zc_D (T f p) := by
    rcases Nat.lt_or_ge 1 (zc_D (T f p)) with y | y
    · exact y
    · have e : zc_D (T f p) - 1 = 0 := by omega
      rw [e, hok.2.2.2.2.2.2.2.2.1] at hK; exact absurd hK (by decide)
  obtain ⟨e, E, hsT⟩ := hN.2.2.2.2.2.1 p t4 H1.2.1
  rw [if_neg (by omega)] at hsT
  have hsT' : sT (96 * f + p) = nI (e + 1) := hsT
  obtain ⟨g1, g2, g3, g4, g5, g6⟩ := zt_end hN.2.2.1 (by omega) E
  obtain ⟨E1, E2, E3, E4, E5⟩ := E
  have hpe : p < e := by
    rcases Nat.lt_or_ge p e with y | y
    · exact y
    · have e1 : p = e := by omega
      subst e1
      have := zt_k (m := 5) H1.2.1 H1.1 (by omega) E3
      omega
  have E' : zt_E (fun i => ops (64 * f + i)) (T f) (N f) (zc_D (T f p) - 1) (p + 1) e := ⟨by omega, E2, E3, E4, fun j b1 b2 => E5 j (by omega) b2⟩
  have eS : zc_S (T f (e + 1)) = zc_S (T f p) := by rw [g4, s1]; rfl
  have hj1 : e + 1 < N f := zu_lt H t1 (by omega) (by rw [g1]; omega)
  obtain ⟨ea, hin4, ec4⟩ := zx_sa (f := f) (s := p) (by omega) (by omega)
  have ec : (nI a).toNatClampNeg = a := nI_clamp (by omega)
  have hin8 : vp_in (nI a) 8 := vp_in_nI (by omega) (by decide)
  refine ⟨nI w, nI (a + 1), nI (12 * a + zc_S (T f p)), nI (e + 1), 0, 0, nI (e + 1), tk, lr, mem, aF, upd aA a (nI p), aT, aZ, upd aL a (nI (zc_D (T f p) - 1 - 1)), lP, lF, vt, glo, cel, loc, val, Or.inl (fun post hp => ?_), fun post hp => ?_, ?_⟩
  · refine zx_hd r1 rfl rfl (by omega) t2 hN.2.1 hN.1 t4 (by omega) H1.2.1 hi (fun _ => ?_) (fun z => by omega) (fun z => by omega) (fun z => by omega)
    refine br_f (by decide) (br_f (by decide) (br_f (by decide) (br_f (by decide) (br_f (by decide) (br_f (by decide) (br_t (by decide) ?_))))))
    exact ⟨by rw [ea]; exact hin4, nm_r (e' := nI (e + 1)) (by rw [ea, ec4, hsT']) hp⟩
  · refine zy_hd r1 rfl t2 t3 (by omega) (by omega) ?_
    refine br_f (by decide) (br_t (by decide) (br_t (by decide) ?_))
    refine ⟨hin8, hin8, nm_r (e' := upd aL a (nI (zc_D (T f p) - 1 - 1))) (by rw [ec, t7.1, show nI (zc_D (T f p) - 1) - 1 = nI (zc_D (T f p) - 1 - 1) from pk_sub (b := 1) (by omega)]) ?_⟩
    exact zy_M5 (d := zc_D (T f p) - 1) (by omega) hN.2.1 hN.1 hN.2.2.1 (by rw [eD1]; omega) E' (nm_r (nI_1 e) hp)
  · refine Or.inr (Or.inr ⟨a, f, e + 1, w, rfl, rfl, rfl, rfl, by rw [eS], rfl, rfl, zu_goto H R hj1 r2 ?_ ?_ ?_ (by rw [eS]; exact t5) (fun _ _ => rfl) zu_z1 (fun _ _ => ⟨rfl, rfl⟩) (fun _ _ => rfl) (fun _ _ => ⟨rfl, rfl⟩), zu_Pg (by omega) (by omega)⟩)
    · rw [eS]
      intro x hx
      have eT : zc_T (T f (e + 1)) x = zc_T (T f p) x := by
        by_cases y : x < zc_h (T f p)
        · exact g3 x y
        · have ob := zq_oo (zc_r (zc_B (T f p) (zc_D (T f p) - 1)))
          have o0 : zc_r (zc_B (T f p) (zc_D (T f p) - 1)) ≠ 0 := fun y0 => by rw [zc_o0 y0] at s1; omega
          have ex : x = zc_h (T f p) := by omega
          rw [ex, s2 o0]; exact g5 o0
      rw [eT]; exact t6 x hx
    · exact zu_lab0 t7 h2 g1 (fun x hx => ⟨(g2 x hx).2.2.2.2, (g2 x hx).2.2.1⟩)
    · intro d hd
      rw [g1] at hd
      rw [(g2 d hd).2.2.2.1]; exact t8 d (by omega)
theorem zu_o5 (H : zu_S pa tb re len ops sT sF sM imm nc T N) (hsg : zc_sg pa lo re nc) (R : zu_R nc nfu T N tb re aF aA aT aP aZ aL lP lF vt cel val loc glo a f p w) (hi : imm (64 * f + p) = im) (H1 : zt_1 pa tb re nc f (ops (64 * f + p)) im (T f p) (T f (p + 1)) p 5) (h2 : 2 ≤ zc_D (T f p)) : ∃ (us' dep' top' pc' tr' ytr' nx' tk' : Int32) (lr' : Int64) (mem' aF' aA' aT' aZ' aL' lP' lF' vt' : Nat → Int32) (glo' cel' loc' val' : Nat → Int64), zu_XS (zu_F nc nfu T N tb re aP us' dep' top' pc' tr' ytr' nx' aF' aA' aT' aZ' aL' lP' lF' vt' glo' cel' loc' val' a (zu_P nfu w p aA a - 1)) (fl, cl, ms, fu, cnt, opn, tu, oc, fc, cu, pu, mk, lr, nI w, nI (a + 1), nI (12 * a + zc_S (T f p)), nI p, 0, pa, lo, tb, re, sta, len, ops, imm, sT, sF, sM, oT, fK, fT, fH, fU, fS, fC, arg, glo, mem, aF, aA, aT, cel, loc) (fl, cl, ms, fu, cnt, opn, tu, oc, fc, cu, pu, mk, lr', us', dep', top', pc', tr', pa, lo, tb, re, sta, len, ops, imm, sT, sF, sM, oT, fK, fT, fH, fU, fS, fC, arg, glo', mem', aF', aA', aT', cel', loc') ∧ (∀ post : SY → Prop, post (fl, cl, ms, fu, cnt, opn, er, sz, dp, dep', ytr', nx', us', tk', lr', pa, lo, tb, re, sta, len, ops, ty, kd, bk, hh, dd, aF', aP, aZ', aL', lP', lF', vt', (fun j => mem' j &&& 255), imm, val', loc', glo', arg) → wpY_run post (fl, cl, ms, fu, cnt, opn, er, sz, dp, nI (a + 1), 0, nI (p + 1), nI w, tk, lr, pa, lo, tb, re, sta, len, ops, ty, kd, bk, hh, dd, aF, aP, aZ, aL, lP, lF, vt, (fun j => mem j &&& 255), imm, val, loc, glo, arg) (nI 5) im) ∧ zu_F nc nfu T N tb re aP us' dep' top' pc' tr' ytr' nx' aF' aA' aT' aZ' aL' lP' lF' vt' glo' cel' loc' val' a (zu_P nfu w p aA a) := by
  obtain ⟨r1, r2, r3, ⟨t1, t2, t3, t4, t5, t6, t7, t8, t9⟩, r5⟩ := id R
  have hN := H f t1
  have h4 := hsg.1
  have hok := H1.2.2.1
  have hD1 := hok.1
  have hD8 := hok.2.1
  have hS := hok.2.2.1
  obtain ⟨s1, s2⟩ := zu_cls H1 t8 (Or.inr rfl)
  obtain ⟨g1, g2, g3, g4, g5, g6, g7, g8, g9, g10⟩ := zn_5 H1
  rw [if_neg (by omega)] at g7 g9
  have eS : zc_S (T f (p + 1)) = zc_S (T f p) := by rw [g7, ← s1]
  have hp1 : p + 1 < N f := zu_lt H t1 (by omega) (by omega)
  have ec : (nI a).toNatClampNeg = a := nI_clamp (by omega)
  have ecf : (nI f).toNatClampNeg = f := nI_clamp (by omega)
  have hin8 : vp_in (nI a) 8 := vp_in_nI (by omega) (by decide)
  refine ⟨nI w, nI (a + 1), nI (12 * a + zc_S (T f p)), nI (p + 1), 0, 0, nI (p + 1), tk, lr, mem, aF, upd aA a (nI p), aT, aZ, upd aL a (nI (zc_D (T f p) - 1 - 1)), lP, lF, vt, glo, cel, loc, val, Or.inl (fun post hp => ?_), fun post hp => ?_, ?_⟩
  · refine zx_hd r1 rfl rfl (by omega) t2 hN.2.1 hN.1 t4 (by omega) H1.2.1 hi (fun _ => ?_) (fun z => by omega) (fun z => by omega) (fun z => by omega)
    refine br_f (by decide) (br_f (by decide) (br_f (by decide) (br_f (by decide) (br_f (by decide) (br_f (by decide) (br_f (by decide) (br_t (by decide) ?_)))))))
    refine ⟨vp_in_nI (by omega) (by decide), br_f ?_ hp⟩
    rw [ecf, hN.2.1, show nI (N f) - 1 = nI (N f - 1) from pk_sub (b := 1) (by omega)]
    intro y
    have := (nI_eq (by omega) (by omega)).mp y
    omega
  · refine zy_hd r1 rfl t2 t3 (by omega) (by omega) ?_
    refine br_f (by decide) (br_t (by decide) (br_f (by decide) (br_t (by decide) ?_)))
    refine ⟨hin8, ?_⟩
    rw [ec, t7.1]
    refine br_f (nI_nle (by omega) (by omega)) ⟨hin8, hin8, nm_r (e' := upd aL a (nI (zc_D (T f p) - 1 - 1))) (by rw [show nI (zc_D (T f p) - 1) - 1 = nI (zc_D (T f p) - 1 - 1) from pk_sub (b := 1) (by omega)]) hp⟩
  · refine Or.inr (Or.inr ⟨a, f, p + 1, w, rfl, rfl, rfl, rfl, by rw [eS], rfl, rfl, zu_goto H R hp1 r2 ?_ ?_ ?_ (by rw [eS]; exact t5) (fun _ _ => rfl) zu_z1 (fun _ _ => ⟨rfl, rfl⟩) (fun _ _ => rfl) (fun _ _ => ⟨rfl, rfl⟩), zu_Pg (by omega) (by omega)⟩)
    · rw [eS]
      intro x hx
      have eT : zc_T (T f (p + 1)) x = zc_T (T f p) x := by
        by_cases y : x < zc_h (T f p)
        · exact g8 x y
        · have ob := zq_oo (zc_r (zc_B (T f p) (zc_D (T f p) - 1)))
          have o0 : zc_r (zc_B (T f p) (zc_D (T f p) - 1)) ≠ 0 := fun y0 => by rw [zc_o0 y0] at s1; omega
          have ex : x = zc_h (T f p) := by omega
          rw [ex, s2 o0]; exact g9 o0
      rw [eT]; exact t6 x hx
    · exact zu_lab0 t7 h2 g1 (fun x hx => ⟨by rw [g6], by rw [g4]⟩)
    · intro d hd
      rw [g1] at hd
      rw [g5]; exact t8 d (by omega)
end
end
section
/-! the run: returns -/
def zu_up (r : Int32) (g : Nat → Int64) (k : Nat) (v : Int64) : Nat → Int64 := if r = 0 then g else vp_updL g k v
theorem zu_up0 {r : Int32} {g : Nat → Int64} {k : Nat} {v : Int64} (h : r = 0) : zu_up r g k v = g := if_pos h
theorem zu_up1 {r : Int32} {g : Nat → Int64} {k : Nat} {v : Int64} (h : r ≠ 0) : zu_up r g k v = vp_updL g k v := if_neg h
theorem zu_upl {r : Int32} {g : Nat → Int64} {k x : Nat} {v : Int64} (h : x < k) : zu_up r g k v x = g x := by
  unfold zu_up; split
  · rfl
  · exact pk_uLn (by omega)
def zu_sl (r : Int32) (g : Nat → Int32) (k : Nat) (x : Int32) : Nat → Int32 := if r = 0 then g else upd g k x
theorem zu_sl0 {r : Int32} {g : Nat → Int32} {k : Nat} {x : Int32} (h : r = 0) : zu_sl r g k x = g := if_pos h
theorem zu_sl1 {r : Int32} {g : Nat → Int32} {k : Nat} {x : Int32} (h : r ≠ 0) : zu_sl r g k x = upd g k x := if_neg h
section
variable {fl cl ms fu cnt opn tu oc fc cu pu mk us dep top pc tr er sz dp ytr nx tk : Int32} {lr : Int64} {pa lo tb re sta len ops sT sF sM oT fK fT fH fU fS fC mem aF aA aT ty kd bk hh dd aP aZ aL lP lF vt byt : Nat → Int32} {imm arg glo cel loc val : Nat → Int64} {nc nfu : Nat} {T : Nat → Nat → zc_C} {N : Nat → Nat} {a f p w k z zX zY : Nat} {im v : Int64} {r : Int32}
/-- the component leaves the first activation -/
theorem zx_leave0 {post : SX → Prop} (hf : f < 4) (hr : re f = r) (hd : dep = nI 1) (ht : top = nI (12 * 0 + z)) (h0 : tr = 0) (hz : r ≠ 0 → 1 ≤ z ∧ z ≤ 12 ∧ cel (12 * 0 + (z - 1)) = v) (hv : r = 0 → v = 0)
    (hp : post (fl, cl, ms, fu, cnt, opn, tu, oc, fc, cu, pu, mk, v, us, 0, nI (12 * 0 + (z - zc_o r)), pc, tr, pa, lo, tb, re, sta, len, ops, imm, sT, sF, sM, oT, fK, fT, fH, fU, fS, fC, arg, glo, mem, aF, aA, aT, cel, loc)) : wpX_leave post (fl, cl, ms, fu, cnt, opn, tu, oc, fc, cu, pu, mk, lr, us, dep, top, pc, tr, pa, lo, tb, re, sta, len, ops, imm, sT, sF, sM, oT, fK, fT, fH, fU, fS, fC, arg, glo, mem, aF, aA, aT, cel, loc) (nI f) := by
  subst hd ht h0
  have ec : (nI f).toNatClampNeg = f := nI_clamp (by omega)
  refine ⟨vp_in_nI hf (by decide), ?_⟩
  rw [ec, hr]
  by_cases y : r = 0
  · have ev := hv y
    rw [zc_o0 y] at hp
    subst ev
    exact br_t y (br_t rfl (nm_r (e' := 0) (by decide) (br_t rfl hp)))
  · obtain ⟨h1, h2, h3⟩ := hz y
    rw [zc_o1 y] at hp
    refine br_f y (br_f (by decide) (zx_take (a := 0) (z := z) (by omega) h1 h2 rfl rfl ?_))
    rw [h3]
    exact br_t rfl (nm_r (e' := 0) (by decide) (br_t rfl hp))
/-- the component leaves a further activation -/
theorem zx_leave1 {post : SX → Prop} {p' z' : Nat} (hf : f < 4) (ha : a + 1 ≤ 7) (hr : re f = r) (hd : dep = nI (a + 1 + 1)) (ht : top = nI (12 * (a + 1) + z)) (h0 : tr = 0) (hz : r ≠ 0 → 1 ≤ z ∧ z ≤ 12 ∧ cel (12 * (a + 1) + (z - 1)) = v)
    (hT : aT a = nI (12 * a + z')) (hA : aA a = nI p') (hz' : z' + zc_o r ≤ 12)
    (hp : post (fl, cl, ms, fu, cnt, opn, tu, oc, fc, cu, pu, mk, lr, us, nI (a + 1), nI (12 * a + (z' + zc_o r)), nI (p' + 1), tr, pa, lo, tb, re, sta, len, ops, imm, sT, sF, sM, oT, fK, fT, fH, fU, fS, fC, arg, glo, mem, aF, aA, aT, zu_up r cel (12 * a + z') v, loc)) : wpX_leave post (fl, cl, ms, fu, cnt, opn, tu, oc, fc, cu, pu, mk, lr, us, dep, top, pc, tr, pa, lo, tb, re, sta, len, ops, imm, sT, sF, sM, oT, fK, fT, fH, fU, fS, fC, arg, glo, mem, aF, aA, aT, cel, loc) (nI f) := by
  subst hd ht h0
  have ec : (nI f).toNatClampNeg = f := nI_clamp (by omega)
  have ed : nI (a + 1 + 1) - 1 = nI (a + 1) := nI_pred (a + 1)
  have n0 : ¬ nI (a + 1) = 0 := nI_ne0 (by omega) (by omega)
  have ed2 : nI (a + 1) - 1 = nI a := nI_pred a
  have hin : vp_in (nI (a + 1) - 1) 8 := by rw [ed2]; exact vp_in_nI (by omega) (by decide)
  have eca : (nI (a + 1) - 1).toNatClampNeg = a := by rw [ed2]; exact nI_clamp (by omega)
  refine ⟨vp_in_nI hf (by decide), ?_⟩
  rw [ec, hr]
  by_cases y : r = 0
  · rw [zc_o0 y, zu_up0 y] at hp
    exact br_t y (br_t rfl (nm_r ed (br_f n0 ⟨hin, nm_r (e' := nI (12 * a + z')) (by rw [eca, hT]) ⟨hin, nm_r (e' := nI (p' + 1)) (by rw [eca, hA, nI_1]) (br_t rfl hp)⟩⟩)))
  · obtain ⟨h1, h2, h3⟩ := hz y
    rw [zc_o1 y, zu_up1 y] at hp
    rw [zc_o1 y] at hz'
    refine br_f y (br_f (by decide) (zx_take (a := a + 1) (z := z) (by omega) h1 h2 rfl rfl ?_))
    rw [h3]
    exact br_t rfl (nm_r ed (br_f n0 ⟨hin, nm_r (e' := nI (12 * a + z')) (by rw [eca, hT]) ⟨hin, nm_r (e' := nI (p' + 1)) (by rw [eca, hA, nI_1]) (br_f (by decide) (zx_put (a := a) (z := z') (by omega) (by omega) rfl rfl hp))⟩⟩))
/-- the reference returns -/
theorem zy_ret0 {post : SY → Prop} {x3 x4 x5 : Int32} (hx4 : ¬ 0 ≤ x4) (hd : dep = nI 1) (hy : ytr = 0) (hA : aZ 0 = nI z) (hz : r ≠ 0 → 1 ≤ z ∧ z ≤ 12 ∧ val (16 * 0 + (z - 1)) = v ∧ vt (16 * 0 + (z - 1)) = r) (hv : r = 0 → v = 0)
    (hp : post (fl, cl, ms, fu, cnt, opn, er, sz, dp, 0, ytr, 0, us, (if r = 0 then tk else r), v, pa, lo, tb, re, sta, len, ops, ty, kd, bk, hh, dd, aF, aP, zu_sl r aZ 0 (nI (z - 1)), aL, lP, lF, vt, byt, imm, val, loc, glo, arg)) : wY_branch_133 post (nI 0) x3 x4 x5 0 r fl cl ms fu cnt opn er sz dp dep ytr nx us tk lr pa lo tb re sta len ops ty kd bk hh dd aF aP aZ aL lP lF vt byt imm val loc glo arg := by
  subst hd hy
  have e0 : nI 1 - 1 = 0 := by decide
  by_cases y : r = 0
  · have ev := hv y
    rw [zu_sl0 y, if_pos y] at hp
    subst ev
    refine zy_take0 y (br_t rfl (br_f hx4 (nm_r e0 (br_t rfl (br_t rfl hp)))))
  · obtain ⟨h1, h2, h3, h4⟩ := hz y
    rw [zu_sl1 y, if_neg y] at hp
    refine zy_take (a := 0) (z := z) (by omega) h1 h2 rfl rfl hA y (Or.inr h4) ?_
    rw [h3, h4]
    exact br_t rfl (br_f hx4 (nm_r e0 (br_t rfl (br_t rfl hp))))
theorem zy_ret1 {post : SY → Prop} {x3 x4 x5 : Int32} {p' z' : Nat} (ha : a + 1 ≤ 7) (hx4 : ¬ 0 ≤ x4) (hd : dep = nI (a + 1 + 1)) (hy : ytr = 0) (hA : aZ (a + 1) = nI z) (hz : r ≠ 0 → 1 ≤ z ∧ z ≤ 12 ∧ val (16 * (a + 1) + (z - 1)) = v ∧ vt (16 * (a + 1) + (z - 1)) = r)
    (hA2 : aZ a = nI z') (hP : aP a = nI p') (hz' : z' + zc_o r ≤ 12)
    (hp : post (fl, cl, ms, fu, cnt, opn, er, sz, dp, nI (a + 1), ytr, nI (p' + 1), us, (if r = 0 then tk else r), lr, pa, lo, tb, re, sta, len, ops, ty, kd, bk, hh, dd, aF, aP, zu_sl r (zu_sl r aZ (a + 1) (nI (z - 1))) a (nI (z' + 1)), aL, lP, lF, zu_sl r vt (16 * a + z') r, byt, imm, zu_up r val (16 * a + z') (zu_cut r v), loc, glo, arg)) : wY_branch_133 post (nI (a + 1)) x3 x4 x5 0 r fl cl ms fu cnt opn er sz dp dep ytr nx us tk lr pa lo tb re sta len ops ty kd bk hh dd aF aP aZ aL lP lF vt byt imm val loc glo arg := by
  subst hd hy
  have ed : nI (a + 1 + 1) - 1 = nI (a + 1) := nI_pred (a + 1)
  have n0 : ¬ nI (a + 1) = 0 := nI_ne0 (by omega) (by omega)
  have ed2 : nI (a + 1) - 1 = nI a := nI_pred a
  have hin : vp_in (nI (a + 1) - 1) 8 := by rw [ed2]; exact vp_in_nI (by omega) (by decide)
  have eca : (nI (a + 1) - 1).toNatClampNeg = a := by rw [ed2]; exact nI_clamp (by omega)
  by_cases y : r = 0
  · rw [zu_sl0 y, zu_sl0 y, zu_sl0 y, zu_up0 y, if_pos y] at hp
    exact zy_take0 y (br_t rfl (br_f hx4 (nm_r ed (br_f n0 (zy_put0 y (br_f n0 (br_f hx4 ⟨hin, nm_r (e' := nI (p' + 1)) (by rw [eca, hP, nI_1]) hp⟩)))))))
  · obtain ⟨h1, h2, h3, h4⟩ := hz y
    rw [zu_sl1 y, zu_sl1 y, zu_sl1 y, zu_up1 y, if_neg y] at hp
    rw [zc_o1 y] at hz'
    refine zy_take (a := a + 1) (z := z) (by omega) h1 h2 rfl rfl hA y (Or.inr h4) ?_
    rw [h3, h4]
    exact br_t rfl (br_f hx4 (nm_r ed (br_f n0 (zy_put (a := a) (z := z') (by omega) (by omega) rfl rfl (by rw [pk_un (by omega)]; exact hA2) y (br_f n0 (br_f hx4 ⟨hin, nm_r (e' := nI (p' + 1)) (by rw [eca, hP, nI_1]) hp⟩))))))
/-- both return -/
theorem zu_ret {aA1 aZ1 : Nat → Int32} {cX : Nat → Int64} {tk1 pcX nx1 x3 x4 x5 : Int32} (H : zu_S pa tb re len ops sT sF sM imm nc T N) (hsg : zc_sg pa lo re nc) (R : zu_R nc nfu T N tb re aF aA aT aP aZ aL lP lF vt cel val loc glo a f p w) (hr : re f = r) (hx4 : ¬ 0 ≤ x4)
    (hA1 : ∀ b, b < a → aA1 b = aA b) (hZ1 : ∀ b, b < a → aZ1 b = aZ b) (hZa : aZ1 a = nI zY) (hc : ∀ y, y < 12 * a → cX y = cel y)
    (hX : r ≠ 0 → 1 ≤ zX ∧ zX ≤ 12 ∧ cX (12 * a + (zX - 1)) = v) (hY : r ≠ 0 → 1 ≤ zY ∧ zY ≤ 12 ∧ val (16 * a + (zY - 1)) = v ∧ vt (16 * a + (zY - 1)) = r) (hv : r = 0 → v = 0) (hsx : r = 1 → zu_sx v) :
    ∃ (us' dep' top' pc' tr' ytr' nx' tk' : Int32) (lr' : Int64) (mem' aF' aA' aT' aZ' aL' lP' lF' vt' : Nat → Int32) (glo' cel' loc' val' : Nat → Int64),
      (∀ post : SX → Prop, post (fl, cl, ms, fu, cnt, opn, tu, oc, fc, cu, pu, mk, lr', us', dep', top', pc', tr', pa, lo, tb, re, sta, len, ops, imm, sT, sF, sM, oT, fK, fT, fH, fU, fS, fC, arg, glo', mem', aF', aA', aT', cel', loc') → wpX_leave post (fl, cl, ms, fu, cnt, opn, tu, oc, fc, cu, pu, mk, lr, nI w, nI (a + 1), nI (12 * a + zX), pcX, 0, pa, lo, tb, re, sta, len, ops, imm, sT, sF, sM, oT, fK, fT, fH, fU, fS, fC, arg, glo, mem, aF, aA1, aT, cX, loc) (nI f)) ∧
      (∀ post : SY → Prop, post (fl, cl, ms, fu, cnt, opn, er, sz, dp, dep', ytr', nx', us', tk', lr', pa, lo, tb, re, sta, len, ops, ty, kd, bk, hh, dd, aF', aP, aZ', aL', lP', lF', vt', (fun j => mem' j &&& 255), imm, val', loc', glo', arg) → wY_branch_133 post (nI a) x3 x4 x5 0 r fl cl ms fu cnt opn er sz dp (nI (a + 1)) 0 nx1 (nI w) tk1 lr pa lo tb re sta len ops ty kd bk hh dd aF aP aZ1 aL lP lF vt ((fun j => mem j &&& 255)) imm val loc glo arg) ∧
      zu_F nc nfu T N tb re aP us' dep' top' pc' tr' ytr' nx' aF' aA' aT' aZ' aL' lP' lF' vt' glo' cel' loc' val' a (zu_P nfu w p aA a - (63 - p)) := by
  obtain ⟨r1, r2, r3, ⟨t1, t2, t3, t4, t5, t6, t7, t8, t9⟩, r5⟩ := R
  have h4 := hsg.1
  have hN64 := (H f t1).1
  cases a with
  | zero =>
    refine ⟨nI w, 0, nI (12 * 0 + (zX - zc_o r)), pcX, 0, 0, 0, if r = 0 then tk1 else r, v, mem, aF, aA1, aT, zu_sl r aZ1 0 (nI (zY - 1)), aL, lP, lF, vt, glo, cX, loc, val, fun post hp => ?_, fun post hp => ?_, Or.inr (Or.inl ⟨rfl, rfl, rfl, r5⟩)⟩
    · exact zx_leave0 (by omega) hr rfl rfl rfl hX hv hp
    · exact zy_ret0 hx4 rfl rfl hZa hY hv hp
  | succ a =>
    obtain ⟨f', g, p', z', ⟨h1, h2, h3, h4', h5, h6, h7, h8, h9, h10⟩, h11, h12, h13, h14, h15, h16⟩ := r3 a (by omega)
    have hok' := zu_ok H h1 h9
    have hS' := hok'.2.2.1
    have hN' := (H f' h1).1
    have egf : g = f := by
      rw [t2] at h4'
      exact ((nI_eq (by omega) (by omega)).mp h4').symm
    subst egf
    rw [hr] at h14 h15
    have l1 : 16 * (a + 1) = 16 * a + 16 := by omega
    refine ⟨nI w, nI (a + 1), nI (12 * a + (z' + zc_o r)), nI (p' + 1), 0, 0, nI (p' + 1), if r = 0 then tk1 else r, lr, mem, aF, aA1, aT, zu_sl r (zu_sl r aZ1 (a + 1) (nI (zY - 1))) a (nI (z' + 1)), aL, lP, lF, zu_sl r vt (16 * a + z') r, glo, zu_up r cX (12 * a + z') v, loc, zu_up r val (16 * a + z') (zu_cut r v), fun post hp => ?_, fun post hp => ?_, ?_⟩
    · exact zx_leave1 (by omega) r1 hr rfl rfl rfl hX h7 (by rw [hA1 a (by omega)]; exact h5) (by omega) hp
    · exact zy_ret1 r1 hx4 rfl rfl hZa hY (by rw [hZ1 a (by omega)]; exact h8) h6 (by omega) hp
    · refine Or.inr (Or.inr ⟨a, f', p' + 1, w, rfl, rfl, rfl, rfl, by rw [h14], rfl, rfl, ⟨by omega, r2, fun b hb => ?_, ⟨h1, h3, pk_us, h9, ?_, fun i hi => ?_, h12, h13, h16⟩, r5⟩, ?_⟩)
      · refine zu_Cf H hb (fun _ _ => rfl) (fun x hx => hA1 x (by omega)) (fun _ _ => rfl) (fun x hx => pk_un (by omega)) (fun x hx => ?_) (fun _ _ => rfl) (fun _ _ => ⟨rfl, rfl, rfl⟩) (fun y hy => by rw [zu_upl (by omega)]; exact hc y (by omega)) (fun y hy => ⟨?_, zu_upl (by omega)⟩) (r3 b (by omega))
        · unfold zu_sl; split
          · exact hZ1 x (by omega)
          · rw [pk_un (by omega), pk_un (by omega)]; exact hZ1 x (by omega)
        · unfold zu_sl; split
          · rfl
          · exact pk_un (by omega)
      · rw [h14]
        by_cases y : r = 0
        · rw [zu_sl0 y, zu_sl0 y, zc_o0 y, hZ1 a (by omega), h8]; rfl
        · rw [zu_sl1 y, pk_us, zc_o1 y]
      · rw [h14] at hi
        by_cases y : i < z'
        · have e1 : zu_sl r vt (16 * a + z') r (16 * a + i) = vt (16 * a + i) := by
            unfold zu_sl; split
            · rfl
            · exact pk_un (by omega)
          rw [e1, zu_upl (by omega), zu_upl (by omega), hc (12 * a + i) (by omega)]
          exact h11 i y
        · have ob := zq_oo r
          have r0 : r ≠ 0 := fun q => by rw [zc_o0 q] at hi; omega
          have ei : i = z' := by omega
          subst ei
          rw [zu_sl1 r0, zu_up1 r0, zu_up1 r0, pk_us, pk_uLs, pk_uLs, h15 r0]
          exact ⟨rfl, zu_cut1 hsx, hsx⟩
      · unfold zu_P
        have ew : zu_w aA (a + 1) = zu_w aA a + (63 - p') := by
          show zu_w aA a + (63 - (aA a).toNatClampNeg) = _
          rw [h5, nI_clamp (by omega)]
        rw [zu_wc (aA := aA) a (fun b hb => hA1 b (by omega)), ew]
        omega
end
end
section
/-! the run: branches -/
theorem zk_neg : ∀ L, L < 9 → ¬ 0 ≤ nI L - 1 - nI L := by decide
theorem zk_neg2 : ∀ L, L < 9 → nI L - 1 - nI L < 0 := by decide
theorem zk_r3 {r : Int32} (h : zc_o3 r) : zc_r r = r := by
  rcases h with z | z | z <;> rw [z] <;> decide
section
variable {fl cl ms fu cnt opn tu oc fc cu pu mk us dep top pc tr er sz dp ytr nx tk : Int32} {lr : Int64} {pa lo tb re sta len ops sT sF sM oT fK fT fH fU fS fC mem aF aA aT ty kd bk hh dd aP aZ aL lP lF vt byt : Nat → Int32} {imm arg glo cel loc val : Nat → Int64} {nc nfu : Nat} {T : Nat → Nat → zc_C} {N : Nat → Nat} {a f p w k z d L st hd : Nat} {im v : Int64} {r t x6 : Int32}
/-- a label beyond the list -/
theorem zy_bneg {post : SY → Prop} (ha : a ≤ 7) (hf : f < 4) (hL : L ≤ 7) (hd' : dep = nI (a + 1)) (hF : aF a = nI f) (eL : aL a = nI L) (hr : re f = r) (h3 : zc_o3 r)
    (h : wY_branch_133 post (nI a) (nI f) (nI L - 1 - nI L) 0 0 r fl cl ms fu cnt opn er sz dp dep ytr nx us tk lr pa lo tb re sta len ops ty kd bk hh dd aF aP aZ aL lP lF vt byt imm val loc glo arg) : wpY_branch post (fl, cl, ms, fu, cnt, opn, er, sz, dp, dep, ytr, nx, us, tk, lr, pa, lo, tb, re, sta, len, ops, ty, kd, bk, hh, dd, aF, aP, aZ, aL, lP, lF, vt, byt, imm, val, loc, glo, arg) (nI L) := by
  subst hd'
  have hin : vp_in (nI a) 8 := vp_in_nI (by omega) (by decide)
  have ec : (nI a).toNatClampNeg = a := nI_clamp (by omega)
  have ecf : (nI f).toNatClampNeg = f := nI_clamp (by omega)
  have hn := zk_neg L (by omega)
  have h' : wY_branch_133 post (nI a) (nI f) (nI L - 1 - nI L) 0 0 (r - r / 3 * 3) fl cl ms fu cnt opn er sz dp (nI (a + 1)) ytr nx us tk lr pa lo tb re sta len ops ty kd bk hh dd aF aP aZ aL lP lF vt byt imm val loc glo arg := by
    rw [show r - r / 3 * 3 = r from zk_r3 h3]; exact h
  refine nm_r zx_d1 ⟨hin, nm_r (e' := nI f) (by rw [ec, hF]) ⟨hin, nm_r (e' := nI L - 1 - nI L) (by rw [ec, eL]) (br_f hn (br_t (zk_neg2 L (by omega)) (br_f hn ⟨vp_in_nI hf (by decide), ?_⟩)))⟩⟩
  rw [ecf, hr]
  exact br_t rfl ⟨by decide, br_t rfl h'⟩
/-- frame 0 -/
theorem zu_f0 (H : zu_S pa tb re len ops sT sF sM imm nc T N) (hf : f < nc) (hp : p < N f) : zc_B (T f p) 0 = re f ∧ zc_H (T f p) 0 = 0 := by
  have HF := (H f hf).2.2.1
  obtain ⟨p1, _, _⟩ := zt_pers HF (i := 0) (d := 0) p (by omega) (by omega) (fun j _ b => (zu_ok H hf (show j < N f by omega)).1)
  obtain ⟨b1, b2, b3, b4⟩ := p1 0 (Nat.le_refl _)
  exact ⟨by rw [b2, HF.1.2.2.2.1], by rw [b3, HF.1.2.2.2.2.1]⟩
theorem zu_o9 (H : zu_S pa tb re len ops sT sF sM imm nc T N) (hsg : zc_sg pa lo re nc) (R : zu_R nc nfu T N tb re aF aA aT aP aZ aL lP lF vt cel val loc glo a f p w) (hi : imm (64 * f + p) = im) (H1 : zt_1 pa tb re nc f (ops (64 * f + p)) im (T f p) (T f (p + 1)) p 9) : ∃ (us' dep' top' pc' tr' ytr' nx' tk' : Int32) (lr' : Int64) (mem' aF' aA' aT' aZ' aL' lP' lF' vt' : Nat → Int32) (glo' cel' loc' val' : Nat → Int64), zu_XS (zu_F nc nfu T N tb re aP us' dep' top' pc' tr' ytr' nx' aF' aA' aT' aZ' aL' lP' lF' vt' glo' cel' loc' val' a (zu_P nfu w p aA a - 1)) (fl, cl, ms, fu, cnt, opn, tu, oc, fc, cu, pu, mk, lr, nI w, nI (a + 1), nI (12 * a + zc_S (T f p)), nI p, 0, pa, lo, tb, re, sta, len, ops, imm, sT, sF, sM, oT, fK, fT, fH, fU, fS, fC, arg, glo, mem, aF, aA, aT, cel, loc) (fl, cl, ms, fu, cnt, opn, tu, oc, fc, cu, pu, mk, lr', us', dep', top', pc', tr', pa, lo, tb, re, sta, len, ops, imm, sT, sF, sM, oT, fK, fT, fH, fU, fS, fC, arg, glo', mem', aF', aA', aT', cel', loc') ∧ (∀ post : SY → Prop, post (fl, cl, ms, fu, cnt, opn, er, sz, dp, dep', ytr', nx', us', tk', lr', pa, lo, tb, re, sta, len, ops, ty, kd, bk, hh, dd, aF', aP, aZ', aL', lP', lF', vt', (fun j => mem' j &&& 255), imm, val', loc', glo', arg) → wpY_run post (fl, cl, ms, fu, cnt, opn, er, sz, dp, nI (a + 1), 0, nI (p + 1), nI w, tk, lr, pa, lo, tb, re, sta, len, ops, ty, kd, bk, hh, dd, aF, aP, aZ, aL, lP, lF, vt, (fun j => mem j &&& 255), imm, val, loc, glo, arg) (nI 9) im) ∧ zu_F nc nfu T N tb re aP us' dep' top' pc' tr' ytr' nx' aF' aA' aT' aZ' aL' lP' lF' vt' glo' cel' loc' val' a (zu_P nfu w p aA a) := by
  obtain ⟨r1, r2, r3, ⟨t1, t2, t3, t4, t5, t6, t7, t8, t9⟩, r5⟩ := id R
  have hN := H f t1
  have h4 := hsg.1
  have hok := H1.2.2.1
  have hD1 := hok.1
  have hD8 := hok.2.1
  have hS := hok.2.2.1
  have h3 := (hsg.2 f t1).2.2
  obtain ⟨_, _, _, e0, _⟩ := zq_rc0 H1.2.2.2.2.1
  have hq : re f ≠ 0 → 1 ≤ zc_S (T f p) ∧ zc_T (T f p) (zc_S (T f p) - 1) = re f := fun y => by
    obtain ⟨p1, p2, p3, p4, p5⟩ := zu_p1 H1 t8 y e0
    exact ⟨p1, p3 (zf_n4 h3)⟩
  have ec : (nI a).toNatClampNeg = a := nI_clamp (by omega)
  obtain ⟨us', dep', top', pc', tr', ytr', nx', tk', lr', mem', aF', aA', aT', aZ', aL', lP', lF', vt', glo', cel', loc', val', A1, A2, A3⟩ :=
    zu_ret (v := if re f = 0 then 0 else cel (12 * a + (zc_S (T f p) - 1))) (aA1 := upd aA a (nI p)) (aZ1 := aZ) (cX := cel) (tk1 := tk) (pcX := nI (p + 1)) (nx1 := nI (p + 1)) (x3 := nI f) (x4 := nI (zc_D (T f p) - 1) - 1 - nI (zc_D (T f p) - 1)) (x5 := 0) (zX := zc_S (T f p)) (zY := zc_S (T f p)) (mem := mem) (fl := fl) (cl := cl) (ms := ms) (fu := fu) (cnt := cnt) (opn := opn) (tu := tu) (oc := oc) (fc := fc) (cu := cu) (pu := pu) (mk := mk) (lr := lr) (er := er) (sz := sz) (dp := dp) (sta := sta) (oT := oT) (fK := fK) (fT := fT) (fH := fH) (fU := fU) (fS := fS) (fC := fC) (arg := arg) (ty := ty) (kd := kd) (bk := bk) (hh := hh) (dd := dd) H hsg R rfl (zk_neg _ (by omega))
      zu_z1 (fun _ _ => rfl) t5 (fun _ _ => rfl) (fun y => ⟨(hq y).1, hS, by rw [if_neg y]⟩) (fun y => ⟨(hq y).1, hS, by rw [if_neg y]; exact (t6 _ (by have := (hq y).1; omega)).2.1, by rw [(t6 _ (by have := (hq y).1; omega)).1]; exact (hq y).2⟩) (fun y => if_pos y) (fun y => by
        have y0 : re f ≠ 0 := by rw [y]; decide
        rw [if_neg y0]
        exact (t6 _ (by have := (hq y0).1; omega)).2.2 (by rw [(hq y0).2]; exact y))
  refine ⟨us', dep', top', pc', tr', ytr', nx', tk', lr', mem', aF', aA', aT', aZ', aL', lP', lF', vt', glo', cel', loc', val', Or.inl (fun post hp => ?_), fun post hp => ?_, zu_Fm A3 (by omega)⟩
  · refine zx_hd r1 rfl rfl (by omega) t2 hN.2.1 hN.1 t4 (by omega) H1.2.1 hi (fun _ => ?_) (fun z => by omega) (fun z => by omega) (fun z => by omega)
    refine br_f (by decide) (br_f (by decide) (br_f (by decide) (br_f (by decide) (br_f (by decide) (br_f (by decide) (br_f (by decide) (br_f (by decide) (br_f (by decide) (br_f (by decide) (br_f (by decide) (br_t (by decide) ?_)))))))))))
    exact A1 _ hp
  · refine zy_hd r1 rfl t2 t3 (by omega) (by omega) (zy_277 (by decide) (by decide) ?_)
    refine br_f (by decide) (br_t (by decide) ?_)
    refine ⟨vp_in_nI (by omega) (by decide), ?_⟩
    rw [ec, t7.1]
    exact zy_bneg r1 (by omega) (by omega) rfl t2 t7.1 rfl h3 (A2 _ hp)
theorem zu_o5e (H : zu_S pa tb re len ops sT sF sM imm nc T N) (hsg : zc_sg pa lo re nc) (R : zu_R nc nfu T N tb re aF aA aT aP aZ aL lP lF vt cel val loc glo a f p w) (hi : imm (64 * f + p) = im) (H1 : zt_1 pa tb re nc f (ops (64 * f + p)) im (T f p) (T f (p + 1)) p 5) (hD : zc_D (T f p) = 1) : ∃ (us' dep' top' pc' tr' ytr' nx' tk' : Int32) (lr' : Int64) (mem' aF' aA' aT' aZ' aL' lP' lF' vt' : Nat → Int32) (glo' cel' loc' val' : Nat → Int64), zu_XS (zu_F nc nfu T N tb re aP us' dep' top' pc' tr' ytr' nx' aF' aA' aT' aZ' aL' lP' lF' vt' glo' cel' loc' val' a (zu_P nfu w p aA a - 1)) (fl, cl, ms, fu, cnt, opn, tu, oc, fc, cu, pu, mk, lr, nI w, nI (a + 1), nI (12 * a + zc_S (T f p)), nI p, 0, pa, lo, tb, re, sta, len, ops, imm, sT, sF, sM, oT, fK, fT, fH, fU, fS, fC, arg, glo, mem, aF, aA, aT, cel, loc) (fl, cl, ms, fu, cnt, opn, tu, oc, fc, cu, pu, mk, lr', us', dep', top', pc', tr', pa, lo, tb, re, sta, len, ops, imm, sT, sF, sM, oT, fK, fT, fH, fU, fS, fC, arg, glo', mem', aF', aA', aT', cel', loc') ∧ (∀ post : SY → Prop, post (fl, cl, ms, fu, cnt, opn, er, sz, dp, dep', ytr', nx', us', tk', lr', pa, lo, tb, re, sta, len, ops, ty, kd, bk, hh, dd, aF', aP, aZ', aL', lP', lF', vt', (fun j => mem' j &&& 255), imm, val', loc', glo', arg) → wpY_run post (fl, cl, ms, fu, cnt, opn, er, sz, dp, nI (a + 1), 0, nI (p + 1), nI w, tk, lr, pa, lo, tb, re, sta, len, ops, ty, kd, bk, hh, dd, aF, aP, aZ, aL, lP, lF, vt, (fun j => mem j &&& 255), imm, val, loc, glo, arg) (nI 5) im) ∧ zu_F nc nfu T N tb re aP us' dep' top' pc' tr' ytr' nx' aF' aA' aT' aZ' aL' lP' lF' vt' glo' cel' loc' val' a (zu_P nfu w p aA a) := by
  obtain ⟨r1, r2, r3, ⟨t1, t2, t3, t4, t5, t6, t7, t8, t9⟩, r5⟩ := id R
  have hN := H f t1
  have h4 := hsg.1
  have hok := H1.2.2.1
  have hS := hok.2.2.1
  have h3 := (hsg.2 f t1).2.2
  obtain ⟨s1, s2⟩ := zu_cls H1 t8 (Or.inr rfl)
  obtain ⟨b0, b1⟩ := zu_f0 H t1 t4
  have hh0 : zc_h (T f p) = 0 := by unfold zc_h; rw [hD]; exact b1
  rw [hD, show 1 - 1 = 0 from rfl, b0, zk_r3 h3, hh0] at s1 s2
  have hNp : p = N f - 1 := by
    have e := (zn_5 H1).1
    rcases Nat.lt_or_ge (p + 1) (N f) with y | y
    · have := (zu_ok H t1 y).1; omega
    · omega
  have hq : re f ≠ 0 → zc_S (T f p) = 1 ∧ zc_T (T f p) (zc_S (T f p) - 1) = re f := fun y => by
    rw [zc_o1 y] at s1
    have e : zc_S (T f p) = 1 := by omega
    exact ⟨e, by rw [e]; exact s2 y⟩
  have ec : (nI a).toNatClampNeg = a := nI_clamp (by omega)
  have ecf : (nI f).toNatClampNeg = f := nI_clamp (by omega)
  obtain ⟨us', dep', top', pc', tr', ytr', nx', tk', lr', mem', aF', aA', aT', aZ', aL', lP', lF', vt', glo', cel', loc', val', A1, A2, A3⟩ :=
    zu_ret (v := if re f = 0 then 0 else cel (12 * a + (zc_S (T f p) - 1))) (aA1 := upd aA a (nI p)) (aZ1 := aZ) (cX := cel) (tk1 := tk) (pcX := nI (p + 1)) (nx1 := nI (p + 1)) (x3 := nI f) (x4 := nI 0 - 1 - nI 0) (x5 := 0) (zX := zc_S (T f p)) (zY := zc_S (T f p)) (mem := mem) (fl := fl) (cl := cl) (ms := ms) (fu := fu) (cnt := cnt) (opn := opn) (tu := tu) (oc := oc) (fc := fc) (cu := cu) (pu := pu) (mk := mk) (lr := lr) (er := er) (sz := sz) (dp := dp) (sta := sta) (oT := oT) (fK := fK) (fT := fT) (fH := fH) (fU := fU) (fS := fS) (fC := fC) (arg := arg) (ty := ty) (kd := kd) (bk := bk) (hh := hh) (dd := dd) H hsg R rfl (zk_neg _ (by omega))
      zu_z1 (fun _ _ => rfl) t5 (fun _ _ => rfl) (fun y => ⟨by have := (hq y).1; omega, hS, by rw [if_neg y]⟩) (fun y => ⟨by have := (hq y).1; omega, hS, by rw [if_neg y]; exact (t6 _ (by have := (hq y).1; omega)).2.1, by rw [(t6 _ (by have := (hq y).1; omega)).1]; exact (hq y).2⟩) (fun y => if_pos y) (fun y => by
        have y0 : re f ≠ 0 := by rw [y]; decide
        rw [if_neg y0]
        exact (t6 _ (by have := (hq y0).1; omega)).2.2 (by rw [(hq y0).2]; exact y))
  have eL0 : aL a = nI 0 := by rw [t7.1, hD]
  refine ⟨us', dep', top', pc', tr', ytr', nx', tk', lr', mem', aF', aA', aT', aZ', aL', lP', lF', vt', glo', cel', loc', val', Or.inl (fun post hp => ?_), fun post hp => ?_, zu_Fm A3 (by omega)⟩
  · refine zx_hd r1 rfl rfl (by omega) t2 hN.2.1 hN.1 t4 (by omega) H1.2.1 hi (fun _ => ?_) (fun z => by omega) (fun z => by omega) (fun z => by omega)
    refine br_f (by decide) (br_f (by decide) (br_f (by decide) (br_f (by decide) (br_f (by decide) (br_f (by decide) (br_f (by decide) (br_t (by decide) ?_)))))))
    refine ⟨vp_in_nI (by omega) (by decide), br_t ?_ (A1 _ hp)⟩
    rw [ecf, hN.2.1, show nI (N f) - 1 = nI (N f - 1) from pk_sub (b := 1) (by omega), ← hNp]
  · refine zy_hd r1 rfl t2 t3 (by omega) (by omega) ?_
    refine br_f (by decide) (br_t (by decide) (br_f (by decide) (br_t (by decide) ?_)))
    refine ⟨vp_in_nI (by omega) (by decide), ?_⟩
    rw [ec, eL0]
    refine br_t (by decide) ?_
    refine br_t (by decide) ?_
    refine ⟨vp_in_nI (by omega) (by decide), ?_⟩
    rw [ec, eL0]
    exact zy_bneg r1 (by omega) (by omega) rfl t2 eL0 rfl h3 (A2 _ hp)
/-- the forms of a jump -/
theorem zw_fm2 (c : zc_C) (d : Nat) : (zw_fm c d &&& 2 = 0 ↔ zc_K c d ≠ 2) ∧ (zw_fm c d &&& 1 = 0 ↔ zw_ld c d = 0) := by
  unfold zw_fm zw_f0
  by_cases k2 : zc_K c d = 2
  · rw [if_pos k2]
    by_cases l0 : zw_ld c d = 0
    · rw [if_pos l0]
      exact ⟨⟨fun y => absurd y (by decide), fun y => absurd k2 y⟩, ⟨fun _ => l0, fun _ => by decide⟩⟩
    · rw [if_neg l0]
      exact ⟨⟨fun y => absurd y (by decide), fun y => absurd k2 y⟩, ⟨fun y => absurd y (by decide), fun y => absurd y l0⟩⟩
  · rw [if_neg k2]
    by_cases l0 : zw_ld c d = 0
    · rw [if_pos l0]
      exact ⟨⟨fun _ => k2, fun _ => by decide⟩, ⟨fun _ => l0, fun _ => by decide⟩⟩
    · rw [if_neg l0]
      exact ⟨⟨fun _ => k2, fun _ => by decide⟩, ⟨fun y => absurd y (by decide), fun y => absurd y l0⟩⟩
/-- the component's branch behind the fuel -/
theorem zx_br {post : SX → Prop} {s tg : Nat} {c : zc_C} (ha : a ≤ 7) (hf : f < 4) (hs : s < 96) (hd' : dep = nI (a + 1)) (ht : top = nI (12 * a + z)) (hz : z ≤ 12) (hF : sF (96 * f + s) = nI hd) (hT : sT (96 * f + s) = nI tg)
    (h1 : zw_ld c d ≠ 0 → 1 ≤ z ∧ cel (12 * a + (z - 1)) = v) (h2 : hd + zc_o (zw_ld c d) ≤ z)
    (hp : post (fl, cl, ms, fu, cnt, opn, tu, oc, fc, cu, pu, mk, lr, us, dep, nI (12 * a + (hd + zc_o (zw_ld c d))), nI tg, tr, pa, lo, tb, re, sta, len, ops, imm, sT, sF, sM, oT, fK, fT, fH, fU, fS, fC, arg, glo, mem, aF, aA, aT, zu_up (zw_ld c d) cel (12 * a + hd) v, loc)) : wX_branch_34 post (nI (96 * f + s)) (zw_fm c d) fl cl ms fu cnt opn tu oc fc cu pu mk lr us dep top pc tr pa lo tb re sta len ops imm sT sF sM oT fK fT fH fU fS fC arg glo mem aF aA aT cel loc := by
  subst hd' ht
  obtain ⟨ea, hin, ec⟩ := zx_sa (f := f) (s := s) hf hs
  have ef : (nI (a + 1) - 1) * 12 + sF (nI (96 * f + s)).toNatClampNeg = nI (12 * a + hd) := by rw [zx_d12, ec, hF, nI_add]
  have m1 := (zw_fm2 c d).2
  by_cases l0 : zw_ld c d = 0
  · rw [zc_o0 l0] at h2 hp
    rw [zu_up0 l0] at hp
    exact br_t (m1.mpr l0) (br_t rfl ⟨hin, nm_r ef (br_t (nI_le (by omega) (by omega)) (br_t rfl ⟨hin, nm_r (e' := nI tg) (by rw [ec, hT]) hp⟩))⟩)
  · obtain ⟨g1, g2⟩ := h1 l0
    rw [zc_o1 l0] at h2 hp
    rw [zu_up1 l0] at hp
    refine br_f (fun y => l0 (m1.mp y)) (br_f (by decide) (zx_take (a := a) (z := z) ha g1 hz rfl rfl ?_))
    rw [g2]
    exact ⟨hin, nm_r ef (br_t (nI_le (by omega) (by omega)) (br_f (by decide) (zx_put (a := a) (z := hd) ha (by omega) rfl rfl ⟨hin, nm_r (e' := nI tg) (by rw [ec, hT]) hp⟩)))⟩
/-- the reference's branch to a label that is there, up to its fuel -/
theorem zy_b47 {post : SY → Prop} {l ks : Nat} {B : Int32} (ha : a ≤ 7) (hf : f < 4) (hd' : dep = nI (a + 1)) (hF : aF a = nI f) (eL : aL a = nI L) (hdl : L - 1 - l = d) (hL : l + 1 ≤ L) (hL7 : L ≤ 7) (hP : lP (8 * a + d) = nI st) (hst : st < 64) (ho : ops (64 * f + st) = nI ks) (hks : ks < 42) (hi : (imm (64 * f + st)).toInt32 = B)
    (h : wY_branch_104 post (nI a) (nI f) (nI d) (nI st) (if ks = 2 then 1 else 0) B fl cl ms fu cnt opn er sz dp dep ytr nx us tk lr pa lo tb re sta len ops ty kd bk hh dd aF aP aZ aL lP lF vt byt imm val loc glo arg) : wpY_branch post (fl, cl, ms, fu, cnt, opn, er, sz, dp, dep, ytr, nx, us, tk, lr, pa, lo, tb, re, sta, len, ops, ty, kd, bk, hh, dd, aF, aP, aZ, aL, lP, lF, vt, byt, imm, val, loc, glo, arg) (nI l) := by
  subst hd'
  have hin : vp_in (nI a) 8 := vp_in_nI (by omega) (by decide)
  have ec : (nI a).toNatClampNeg = a := nI_clamp (by omega)
  have e4 : nI L - 1 - nI l = nI d := by
    rw [show nI L - 1 = nI (L - 1) from pk_sub (b := 1) (by omega), pk_sub (by omega), hdl]
  have e8 : 8 * nI a + nI d = nI (8 * a + d) := by rw [show (8 : Int32) * nI a = nI (8 * a) from pk_mul 8 a, nI_add]
  have hin8 : vp_in (nI (8 * a + d)) 64 := vp_in_nI (by omega) (by decide)
  have ec8 : (nI (8 * a + d)).toNatClampNeg = 8 * a + d := nI_clamp (by omega)
  obtain ⟨b1, b2, b3⟩ := zy_ad (f := f) (i := st) hf hst
  have h0 : 0 ≤ nI d := nI_pos' (by omega)
  refine nm_r zx_d1 ⟨hin, nm_r (e' := nI f) (by rw [ec, hF]) ⟨hin, nm_r (e' := nI d) (by rw [ec, eL, e4]) (br_t h0 ?_)⟩⟩
  rw [e8]
  refine ⟨hin8, ?_⟩
  rw [ec8, hP]
  refine br_f (nI_pos (by omega)) ⟨b2, ?_⟩
  rw [b3, ho]
  refine pk_eq ks 2 (fun y => ?_) (fun y => ?_)
  · rw [if_pos y] at h
    refine br_t h0 ⟨b2, ?_⟩
    rw [b3, hi]; exact h
  · rw [if_neg y] at h
    refine br_t h0 ⟨b2, ?_⟩
    rw [b3, hi]; exact h
/-- the reference's branch to a label that is there, behind its fuel -/
theorem zy_133b {post : SY → Prop} {x5 : Int32} {L' : Nat} (ha : a ≤ 7) (hd' : dep = nI (a + 1)) (hy : ytr = 0) (hd8 : d ≤ 6) (hz : z ≤ 12) (hA : aZ a = nI z) (hF : lF (8 * a + d) = nI hd) (h12 : hd + zc_o t ≤ 12) (ht : t ≠ 0 → 1 ≤ z ∧ val (16 * a + (z - 1)) = v ∧ vt (16 * a + (z - 1)) = t)
    (hL' : nI L' = if x6 = 0 then nI d else nI d + 1)
    (hp : wY_branch_229 post (nI f) (nI d) x5 x6 fl cl ms fu cnt opn er sz dp dep ytr nx us ((if t = 0 then tk else t)) lr pa lo tb re sta len ops ty kd bk hh dd aF aP (zu_sl t (upd (zu_sl t aZ a (nI (z - 1))) a (nI hd)) a (nI (hd + 1))) (upd aL a (nI L')) lP lF (zu_sl t vt (16 * a + hd) t) byt imm (zu_up t val (16 * a + hd) (zu_cut t v)) loc glo arg) :
    wY_branch_133 post (nI a) (nI f) (nI d) x5 x6 t fl cl ms fu cnt opn er sz dp dep ytr nx us tk lr pa lo tb re sta len ops ty kd bk hh dd aF aP aZ aL lP lF vt byt imm val loc glo arg := by
  subst hd' hy
  have hin : vp_in (nI a) 8 := vp_in_nI (by omega) (by decide)
  have ec : (nI a).toNatClampNeg = a := nI_clamp (by omega)
  have e8 : 8 * nI a + nI d = nI (8 * a + d) := by rw [show (8 : Int32) * nI a = nI (8 * a) from pk_mul 8 a, nI_add]
  have hin8 : vp_in (nI (8 * a + d)) 64 := vp_in_nI (by omega) (by decide)
  have ec8 : (nI (8 * a + d)).toNatClampNeg = 8 * a + d := nI_clamp (by omega)
  have h0 : 0 ≤ nI d := nI_pos' (by omega)
  have n0 : ¬ nI (a + 1) = 0 := nI_ne0 (by omega) (by omega)
  have B : ∀ {aZq aZ2 : Nat → Int32} {tkq : Int32} {vq : Int64}, aZ2 = upd aZq a (nI hd) → wY_branch_205 post (nI f) (nI d) x5 x6 t vq fl cl ms fu cnt opn er sz dp (nI (a + 1)) 0 nx us tkq lr pa lo tb re sta len ops ty kd bk hh dd aF aP aZ2 (upd aL a (nI L')) lP lF vt byt imm val loc glo arg →
      (vp_in (8 * nI a + nI d) 64 ∧ (vp_in (nI a) 8 ∧ ∀ aZx : Nat → Int32, aZx = upd aZq (nI a).toNatClampNeg (lF (8 * nI a + nI d).toNatClampNeg) → (((x6 = 0 → (wY_branch_204 post (nI f) (nI d) x5 x6 t vq (nI d) (nI a) fl cl ms fu cnt opn er sz dp (nI (a + 1)) 0 nx us tkq lr pa lo tb re sta len ops ty kd bk hh dd aF aP aZx aL lP lF vt byt imm val loc glo arg)) ∧ (¬ x6 = 0 → (wY_branch_204 post (nI f) (nI d) x5 x6 t vq (nI d + 1) (nI a) fl cl ms fu cnt opn er sz dp (nI (a + 1)) 0 nx us tkq lr pa lo tb re sta len ops ty kd bk hh dd aF aP aZx aL lP lF vt byt imm val loc glo arg)))))) := by
    intro aZq aZ2 tkq vq e h
    subst e
    rw [e8]
    refine ⟨hin8, hin, nm_r (e' := upd aZq a (nI hd)) (by rw [ec, ec8, hF]) ?_⟩
    by_cases y : x6 = 0
    · rw [if_pos y] at hL'
      exact br_t y ⟨hin, nm_r (e' := upd aL a (nI L')) (by rw [ec, hL']) h⟩
    · rw [if_neg y] at hL'
      exact br_f y ⟨hin, nm_r (e' := upd aL a (nI L')) (by rw [ec, hL']) h⟩
  by_cases y : t = 0
  · rw [zu_sl0 y, zu_sl0 y, zu_sl0 y, zu_up0 y, if_pos y] at hp
    exact zy_take0 y (br_t rfl (br_t h0 (B rfl (br_f n0 (zy_put0 y hp)))))
  · obtain ⟨h1, h2, h3⟩ := ht y
    rw [zu_sl1 y, zu_sl1 y, zu_sl1 y, zu_up1 y, if_neg y] at hp
    rw [zc_o1 y] at h12
    refine zy_take (a := a) (z := z) ha h1 hz rfl rfl hA y (Or.inr h3) ?_
    rw [h2, h3]
    exact br_t rfl (br_t h0 (B rfl (br_f n0 (zy_put (a := a) (z := hd) ha (by omega) rfl rfl pk_us y hp))))
end
end
section
/-! the run: all branches -/
section
variable {fl cl ms fu cnt opn tu oc fc cu pu mk us dep top pc tr er sz dp ytr nx tk : Int32} {lr : Int64} {pa lo tb re sta len ops sT sF sM oT fK fT fH fU fS fC mem aF aA aT ty kd bk hh dd aP aZ aL lP lF vt byt : Nat → Int32} {imm arg glo cel loc val : Nat → Int64} {nc nfu : Nat} {T : Nat → Nat → zc_C} {N : Nat → Nat} {a f p w k z d l s hd : Nat} {im v : Int64} {t tk1 : Int32} {aZ1 : Nat → Int32}
theorem zu_Vb {c c' : zc_C} {S : Nat} (V : zu_V a S c cel val vt) (hS : hd ≤ S) (hT : ∀ x, x < hd → zc_T c' x = zc_T c x) (hT1 : t ≠ 0 → zc_T c' hd = t) (hsx : t = 1 → zu_sx v) :
    zu_V a (hd + zc_o t) c' (zu_up t cel (12 * a + hd) v) (zu_up t val (16 * a + hd) (zu_cut t v)) (zu_sl t vt (16 * a + hd) t) := by
  intro i hi
  by_cases y : i < hd
  · have e1 : zu_sl t vt (16 * a + hd) t (16 * a + i) = vt (16 * a + i) := by
      unfold zu_sl; split
      · rfl
      · exact pk_un (by omega)
    rw [e1, zu_upl (by omega), zu_upl (by omega), hT i y]
    exact V i (by omega)
  · have ob := zq_oo t
    have t0 : t ≠ 0 := fun q => by rw [zc_o0 q] at hi; omega
    have ei : i = hd := by omega
    subst ei
    rw [zu_sl1 t0, zu_up1 t0, zu_up1 t0, pk_us, pk_uLs, pk_uLs, hT1 t0]
    exact ⟨rfl, zu_cut1 hsx, hsx⟩
theorem zu_AZ {x1 : Int32} : zu_sl t (upd (zu_sl t aZ1 a x1) a (nI hd)) a (nI (hd + 1)) a = nI (hd + zc_o t) := by
  by_cases y : t = 0
  · rw [zu_sl0 y, zu_sl0 y, pk_us, zc_o0 y]; rfl
  · rw [zu_sl1 y, pk_us, zc_o1 y]
theorem zu_AZ2 {x1 : Int32} : ∀ x, x < a → zu_sl t (upd (zu_sl t aZ1 a x1) a (nI hd)) a (nI (hd + 1)) x = aZ1 x := fun x hx => by
  by_cases y : t = 0
  · rw [zu_sl0 y, zu_sl0 y, pk_un (by omega)]
  · rw [zu_sl1 y, zu_sl1 y, pk_un (by omega), pk_un (by omega), pk_un (by omega)]
theorem zu_brO (H : zu_S pa tb re len ops sT sF sM imm nc T N) (hsg : zc_sg pa lo re nc) (R : zu_R nc nfu T N tb re aF aA aT aP aZ aL lP lF vt cel val loc glo a f p w) (hi : imm (64 * f + p) = im) (H1 : zt_1 pa tb re nc f (ops (64 * f + p)) im (T f p) (T f (p + 1)) p k) (hfu : fu = nI nfu) (h100 : nfu ≤ 100) (hk5 : k ≠ 5) (hzS : z ≤ zc_S (T f p)) (hhz : zc_h (T f p) ≤ z) (hl : l < zc_D (T f p)) (hdl : d = zc_D (T f p) - 1 - l)
    (ht : zw_ld (T f p) d ≠ 0 → zc_h (T f p) < z ∧ zc_T (T f p) (z - 1) = zw_ld (T f p) d) (hs : s < 96)
    (W : zw_t (fun i => ops (64 * f + i)) (T f) (N f) (fun s => sT (96 * f + s)) (fun s => sF (96 * f + s)) (fun s => sM (96 * f + s)) s p d)
    (hZ1 : ∀ b, b < a → aZ1 b = aZ b) (hZa : aZ1 a = nI z)
    (hX : ∀ post : SX → Prop, wpX_branch (fun u => match u with | (fl, cl, ms, fu, cnt, opn, tu, oc, fc, cu, pu, mk, lr, us, dep, top, pc, tr, pa, lo, tb, re, sta, len, ops, imm, sT, sF, sM, oT, fK, fT, fH, fU, fS, fC, arg, glo, mem, aF, aA, aT, cel, loc) => post (fl, cl, ms, fu, cnt, opn, tu, oc, fc, cu, pu, mk, lr, us, dep, top, pc, tr, pa, lo, tb, re, sta, len, ops, imm, sT, sF, sM, oT, fK, fT, fH, fU, fS, fC, arg, glo, mem, aF, aA, aT, cel, loc)) (fl, cl, ms, fu, cnt, opn, tu, oc, fc, cu, pu, mk, lr, nI w, nI (a + 1), nI (12 * a + z), nI (p + 1), 0, pa, lo, tb, re, sta, len, ops, imm, sT, sF, sM, oT, fK, fT, fH, fU, fS, fC, arg, glo, mem, aF, upd aA a (nI p), aT, cel, loc) (nI f) (nI s) → wpX_step post (fl, cl, ms, fu, cnt, opn, tu, oc, fc, cu, pu, mk, lr, nI w, nI (a + 1), nI (12 * a + zc_S (T f p)), nI p, 0, pa, lo, tb, re, sta, len, ops, imm, sT, sF, sM, oT, fK, fT, fH, fU, fS, fC, arg, glo, mem, aF, aA, aT, cel, loc))
    (hY : ∀ post : SY → Prop, wpY_branch (fun u => match u with | (fl, cl, ms, fu, cnt, opn, er, sz, dp, dep, ytr, nx, us, tk, lr, pa, lo, tb, re, sta, len, ops, ty, kd, bk, hh, dd, aF, aP, aZ, aL, lP, lF, vt, byt, imm, val, loc, glo, arg) => post (fl, cl, ms, fu, cnt, opn, er, sz, dp, dep, ytr, nx, us, tk, lr, pa, lo, tb, re, sta, len, ops, ty, kd, bk, hh, dd, aF, aP, aZ, aL, lP, lF, vt, byt, imm, val, loc, glo, arg)) (fl, cl, ms, fu, cnt, opn, er, sz, dp, nI (a + 1), 0, nI (p + 1), nI w, tk1, lr, pa, lo, tb, re, sta, len, ops, ty, kd, bk, hh, dd, aF, aP, aZ1, aL, lP, lF, vt, (fun j => mem j &&& 255), imm, val, loc, glo, arg) (nI l) → wpY_run post (fl, cl, ms, fu, cnt, opn, er, sz, dp, nI (a + 1), 0, nI (p + 1), nI w, tk, lr, pa, lo, tb, re, sta, len, ops, ty, kd, bk, hh, dd, aF, aP, aZ, aL, lP, lF, vt, (fun j => mem j &&& 255), imm, val, loc, glo, arg) (nI k) im) : ∃ (us' dep' top' pc' tr' ytr' nx' tk' : Int32) (lr' : Int64) (mem' aF' aA' aT' aZ' aL' lP' lF' vt' : Nat → Int32) (glo' cel' loc' val' : Nat → Int64), zu_XS (zu_F nc nfu T N tb re aP us' dep' top' pc' tr' ytr' nx' aF' aA' aT' aZ' aL' lP' lF' vt' glo' cel' loc' val' a (zu_P nfu w p aA a - 1)) (fl, cl, ms, fu, cnt, opn, tu, oc, fc, cu, pu, mk, lr, nI w, nI (a + 1), nI (12 * a + zc_S (T f p)), nI p, 0, pa, lo, tb, re, sta, len, ops, imm, sT, sF, sM, oT, fK, fT, fH, fU, fS, fC, arg, glo, mem, aF, aA, aT, cel, loc) (fl, cl, ms, fu, cnt, opn, tu, oc, fc, cu, pu, mk, lr', us', dep', top', pc', tr', pa, lo, tb, re, sta, len, ops, imm, sT, sF, sM, oT, fK, fT, fH, fU, fS, fC, arg, glo', mem', aF', aA', aT', cel', loc') ∧ (∀ post : SY → Prop, post (fl, cl, ms, fu, cnt, opn, er, sz, dp, dep', ytr', nx', us', tk', lr', pa, lo, tb, re, sta, len, ops, ty, kd, bk, hh, dd, aF', aP, aZ', aL', lP', lF', vt', (fun j => mem' j &&& 255), imm, val', loc', glo', arg) → wpY_run post (fl, cl, ms, fu, cnt, opn, er, sz, dp, nI (a + 1), 0, nI (p + 1), nI w, tk, lr, pa, lo, tb, re, sta, len, ops, ty, kd, bk, hh, dd, aF, aP, aZ, aL, lP, lF, vt, (fun j => mem j &&& 255), imm, val, loc, glo, arg) (nI k) im) ∧ zu_F nc nfu T N tb re aP us' dep' top' pc' tr' ytr' nx' aF' aA' aT' aZ' aL' lP' lF' vt' glo' cel' loc' val' a (zu_P nfu w p aA a) := by
  obtain ⟨r1, r2, r3, ⟨t1, t2, t3, t4, t5, t6, t7, t8, t9⟩, r5⟩ := id R
  have hN := H f t1
  have h4 := hsg.1
  have hok := H1.2.2.1
  have hD1 := hok.1
  have hD8 := hok.2.1
  have hS := hok.2.2.1
  obtain ⟨w1, w2, w3, w4⟩ := W
  have w3' : sF (96 * f + s) = nI (zc_H (T f p) d) := w3
  have w4' : sM (96 * f + s) = zw_fm (T f p) d := w4
  have hH : zc_H (T f p) d ≤ zc_h (T f p) := zo_h hok w1
  have hho : zc_H (T f p) d + zc_o (zw_ld (T f p) d) ≤ z := by
    by_cases y : zw_ld (T f p) d = 0
    · rw [zc_o0 y]; omega
    · rw [zc_o1 y]; have := (ht y).1; omega
  obtain ⟨ea, hin4, ec4⟩ := zx_sa (f := f) (s := s) (by omega) hs
  have htv : zw_ld (T f p) d ≠ 0 → 1 ≤ z ∧ val (16 * a + (z - 1)) = cel (12 * a + (z - 1)) ∧ vt (16 * a + (z - 1)) = zw_ld (T f p) d := fun y => by
    obtain ⟨y1, y2⟩ := ht y
    obtain ⟨u1, u2, u3⟩ := t6 (z - 1) (by omega)
    exact ⟨by omega, u2, by rw [u1, y2]⟩
  have hsx : zw_ld (T f p) d = 1 → zu_sx (cel (12 * a + (z - 1))) := fun y => by
    obtain ⟨y1, y2⟩ := ht (by rw [y]; decide)
    exact (t6 (z - 1) (by omega)).2.2 (by rw [y2]; exact y)
  have ofm := zw_fm2 (T f p) d
  by_cases d0 : d = 0
  · -- the function's own frame: the component goes to its END, the reference returns
    have K0 : zc_K (T f p) d ≠ 2 := by rw [d0, hok.2.2.2.2.2.2.2.2.1]; decide
    rcases w2 with w2 | ⟨_, e, E, w2⟩
    · exact absurd w2.1 K0
    rw [if_pos d0] at w2
    have w2' : sT (96 * f + s) = nI e := w2
    have h3 := (hsg.2 f t1).2.2
    obtain ⟨b0, b1⟩ := zu_f0 H t1 t4
    have el : zw_ld (T f p) d = re f := by
      unfold zw_ld; rw [if_neg K0, d0, b0, zk_r3 h3]
    have eH0 : zc_H (T f p) d = 0 := by rw [d0]; exact b1
    obtain ⟨E1, E2, E3, E4, E5⟩ := E
    obtain ⟨ke, He⟩ := hN.2.2.1.2 e E2
    have ek5 : ke = 5 := zt_k He.2.1 He.1 (by omega) E3
    subst ek5
    have hNe : e = N f - 1 := by
      have e1 := (zn_5 He).1
      rcases Nat.lt_or_ge (e + 1) (N f) with y | y
      · have := (zu_ok H t1 y).1; omega
      · omega
    have hL : nI l = nI (zc_D (T f p) - 1) := congrArg nI (by omega)
    have hpe : p ≠ e := fun y => hk5 (zt_k H1.2.1 H1.1 (by omega) (by rw [y]; exact E3))
    have hp62 : p ≤ 62 := by have := hN.1; omega
    have ecf : (nI f).toNatClampNeg = f := nI_clamp (by omega)
    obtain ⟨us', dep', top', pc', tr', ytr', nx', tk', lr', mem', aF', aA', aT', aZ', aL', lP', lF', vt', glo', cel', loc', val', A1, A2, A3⟩ :=
      zu_ret (v := if re f = 0 then 0 else cel (12 * a + (z - 1))) (aA1 := upd (upd aA a (nI p)) a (nI e)) (aZ1 := aZ1) (cX := zu_up (re f) cel (12 * a + 0) (cel (12 * a + (z - 1)))) (tk1 := tk1) (pcX := nI (e + 1)) (nx1 := nI (p + 1)) (x3 := nI f) (x4 := nI (zc_D (T f p) - 1) - 1 - nI (zc_D (T f p) - 1)) (x5 := 0) (zX := zc_o (re f)) (zY := z) (mem := mem) (fl := fl) (cl := cl) (ms := ms) (fu := fu) (cnt := cnt) (opn := opn) (tu := tu) (oc := oc) (fc := fc) (cu := cu) (pu := pu) (mk := mk) (lr := lr) (er := er) (sz := sz) (dp := dp) (sta := sta) (oT := oT) (fK := fK) (fT := fT) (fH := fH) (fU := fU) (fS := fS) (fC := fC) (arg := arg) (ty := ty) (kd := kd) (bk := bk) (hh := hh) (dd := dd) H hsg R rfl (zk_neg _ (by omega))
        zu_z2 hZ1 hZa (fun y hy => zu_upl (by omega)) (fun y => by
          rw [zc_o1 y, zu_up1 y, if_neg y]
          exact ⟨by omega, by omega, pk_uLs⟩) (fun y => by
          rw [← el] at y
          obtain ⟨y1, y2, y3⟩ := htv y
          rw [el] at y y3
          exact ⟨y1, by omega, by rw [if_neg y]; exact y2, y3⟩) (fun y => if_pos y) (fun y => by
          have y0 : re f ≠ 0 := by rw [y]; decide
          rw [if_neg y0]
          exact hsx (by rw [el]; exact y))
    refine ⟨us', dep', top', pc', tr', ytr', nx', tk', lr', mem', aF', aA', aT', aZ', aL', lP', lF', vt', glo', cel', loc', val', Or.inr ⟨zu_Fm A3 (by omega), (fl, cl, ms, fu, cnt, opn, tu, oc, fc, cu, pu, mk, lr, nI w, nI (a + 1), nI (12 * a + zc_o (re f)), nI e, 0, pa, lo, tb, re, sta, len, ops, imm, sT, sF, sM, oT, fK, fT, fH, fU, fS, fC, arg, glo, mem, aF, upd aA a (nI p), aT, zu_up (re f) cel (12 * a + 0) (cel (12 * a + (z - 1))), loc), ⟨rfl, nI_ne0 (by omega) (by omega)⟩, fun post hp => hX post ?_, fun post hp => ?_⟩, fun post hp => hY post ?_, zu_Fm A3 (by omega)⟩
    · refine nm_r ea ⟨hin4, nm_r (e' := zw_fm (T f p) d) (by rw [ec4, w4']) (br_t (ofm.1.mpr K0) ?_)⟩
      refine zx_br (c := T f p) (d := d) (v := cel (12 * a + (z - 1))) (z := z) (hd := 0) (tg := e) r1 (by omega) hs rfl rfl (by omega) (by rw [w3', eH0]) w2' (fun y => ⟨(htv y).1, rfl⟩) (by rw [eH0] at hho; exact hho) ?_
      rw [el, Nat.zero_add]
      exact hp
    · refine zx_hd (p := e) (k := 5) r1 rfl rfl (by omega) t2 hN.2.1 hN.1 E2 (by omega) E3 rfl (fun _ => ?_) (fun z => by omega) (fun z => by omega) (fun z => by omega)
      refine br_f (by decide) (br_f (by decide) (br_f (by decide) (br_f (by decide) (br_f (by decide) (br_f (by decide) (br_f (by decide) (br_t (by decide) ⟨vp_in_nI (by omega) (by decide), br_t ?_ (A1 _ hp)⟩)))))))
      rw [ecf, hN.2.1, show nI (N f) - 1 = nI (N f - 1) from pk_sub (b := 1) (by omega), ← hNe]
    · rw [hL]
      exact zy_bneg r1 (by omega) (by omega) rfl t2 t7.1 rfl h3 (A2 _ hp)
  · -- a frame within
    obtain ⟨st, ks, o1, o2, Hs, o4, o5, o6⟩ := zt_orig hN.2.2.1 p (by omega) d (by omega) w1
    obtain ⟨f1, f2, f3, f4⟩ := zt_fr hN.2.2.1 Hs o4 o1 (by omega) (by rw [o5]; exact o6)
    rw [o5] at f1 f2 f3 f4
    have hos : ops (64 * f + st) = nI ks := Hs.2.1
    have his : (imm (64 * f + st)).toInt32 = zc_B (T f p) d := f2.symm
    have hlP : lP (8 * a + (d - 1)) = nI st := by
      have q := (t7.2 (d - 1) (by omega)).1
      rw [show d - 1 + 1 = d from by omega, o2] at q
      exact q
    have hlF : lF (8 * a + (d - 1)) = nI (zc_H (T f p) d) := by
      have q := (t7.2 (d - 1) (by omega)).2
      rw [show d - 1 + 1 = d from by omega] at q
      exact q
    by_cases K2 : zc_K (T f p) d = 2
    · -- a loop
      have ek2 : ks = 2 := f4.mp K2
      have elt : zw_ld (T f p) d = zc_B (T f p) d / 3 := by unfold zw_ld; rw [if_pos K2]
      rcases w2 with ⟨_, w2⟩ | w2
      rotate_left
      · exact absurd K2 w2.1
      have w2' : sT (96 * f + s) = nI (st + 1) := by rw [← o2]; exact w2
      have hform : ¬ (zw_fm (T f p) d &&& 2) = 0 := fun y => absurd K2 (ofm.1.mp y)
      by_cases hw : w < nfu
      · obtain ⟨g0, g1, g2, g3, g4, g5, g6, g7, g8, g9⟩ := zt_loop hN.2.2.1 (i := p) (d := d) (by omega) (by omega) w1
        rw [o2] at g1 g2 g3 g4 g5 g6 g7 g8 g9
        rw [← elt] at g8 g9
        refine ⟨nI (w + 1), nI (a + 1), nI (12 * a + (zc_H (T f p) d + zc_o (zw_ld (T f p) d))), nI (st + 1), 0, 0, nI (st + 1), (if zw_ld (T f p) d = 0 then tk1 else zw_ld (T f p) d), lr, mem, aF, upd aA a (nI p), aT, zu_sl (zw_ld (T f p) d) (upd (zu_sl (zw_ld (T f p) d) aZ1 a (nI (z - 1))) a (nI (zc_H (T f p) d))) a (nI (zc_H (T f p) d + 1)), upd aL a (nI d), lP, lF, zu_sl (zw_ld (T f p) d) vt (16 * a + zc_H (T f p) d) (zw_ld (T f p) d), glo, zu_up (zw_ld (T f p) d) cel (12 * a + zc_H (T f p) d) (cel (12 * a + (z - 1))), loc, zu_up (zw_ld (T f p) d) val (16 * a + zc_H (T f p) d) (zu_cut (zw_ld (T f p) d) (cel (12 * a + (z - 1)))), Or.inl (fun post hp => hX post ?_), fun post hp => hY post ?_, ?_⟩
        · refine nm_r ea ⟨hin4, nm_r (e' := zw_fm (T f p) d) (by rw [ec4, w4']) (br_f hform ?_)⟩
          refine br_t (by rw [hfu]; exact nI_lt hw (by omega)) (nm_r (nI_1 w) (br_f (by decide) ?_))
          exact zx_br (c := T f p) (d := d) (v := cel (12 * a + (z - 1))) (z := z) (tg := st + 1) r1 (by omega) hs rfl rfl (by omega) w3' w2' (fun y => ⟨(htv y).1, rfl⟩) hho hp
        · refine zy_b47 (L := zc_D (T f p) - 1) (d := d - 1) (st := st) (ks := ks) r1 (by omega) rfl t2 t7.1 (by omega) (by omega) (by omega) hlP (by omega) hos (by omega) his ?_
          rw [if_pos ek2]
          refine br_f (by decide) ⟨by decide, br_f (by decide) ?_⟩
          rw [← elt]
          refine br_f (by rw [hfu]; intro y; have := (nI_eq (by omega) (by omega)).mp y; omega) (nm_r (nI_1 w) ?_)
          refine zy_133b (v := cel (12 * a + (z - 1))) (hd := zc_H (T f p) d) (L' := d) (z := z) r1 rfl rfl (by omega) (by omega) hZa hlF (by omega) htv (by rw [if_neg (by decide), nI_1]; exact congrArg nI (by omega)) ?_
          exact br_f (nI_ne0 (by omega) (by omega)) (br_t (nI_pos' (by omega)) (br_f (by decide) (nm_r (nI_1 st) hp)))
        · refine Or.inr (Or.inr ⟨a, f, st + 1, w + 1, rfl, rfl, rfl, rfl, by rw [g8], rfl, rfl, zu_goto H R (by omega) (by omega) ?_ ?_ ?_ (by rw [g8]; exact zu_AZ) (fun x hx => by rw [zu_AZ2 x hx]; exact hZ1 x hx) zu_z1 (fun _ _ => ⟨rfl, rfl⟩) (fun y hy => zu_upl (by omega)) (fun y hy => ⟨by unfold zu_sl; split; rfl; exact pk_un (by omega), zu_upl (by omega)⟩), zu_Pl (by omega) hw⟩)
          · rw [g8]
            exact zu_Vb t6 (by omega) g7 g9 hsx
          · refine ⟨by rw [pk_us, g1]; rfl, fun j hj => ?_⟩
            rw [g1] at hj
            by_cases y : j + 1 = d
            · rw [y, g5, g4]
              have q := t7.2 j (by omega)
              rw [y, o2] at q
              exact q
            · rw [(g2 (j + 1) (by omega)).2.2.2.2, (g2 (j + 1) (by omega)).2.2.1]
              exact t7.2 j (by omega)
          · intro x hx
            rw [g1] at hx
            by_cases y : x = d
            · rw [y]; exact g6
            · rw [(g2 x (by omega)).2.2.2.1]; exact t8 x (by omega)
      · have ew : w = nfu := by omega
        refine ⟨nI w, nI (a + 1), nI (12 * a + z), nI (p + 1), 5, 5, nI (p + 1), tk1, lr, mem, aF, upd aA a (nI p), aT, aZ1, aL, lP, lF, vt, glo, cel, loc, val, Or.inl (fun post hp => hX post ?_), fun post hp => hY post ?_, zu_trap (by decide) R⟩
        · refine nm_r ea ⟨hin4, nm_r (e' := zw_fm (T f p) d) (by rw [ec4, w4']) (br_f hform ?_)⟩
          exact br_f (by rw [hfu]; exact nI_nlt (by omega) (by omega)) (br_t rfl hp)
        · refine zy_b47 (L := zc_D (T f p) - 1) (d := d - 1) (st := st) (ks := ks) r1 (by omega) rfl t2 t7.1 (by omega) (by omega) (by omega) hlP (by omega) hos (by omega) his ?_
          rw [if_pos ek2]
          refine br_f (by decide) ⟨by decide, br_f (by decide) ?_⟩
          rw [← elt]
          refine br_t (by rw [hfu, ew]) ?_
          by_cases y : zw_ld (T f p) d = 0
          · exact br_t y (br_f (by decide) hp)
          · exact br_f y (br_f (by decide) (br_f (by decide) hp))
    · -- a block, an IF or its ELSE
      have ek2 : ks ≠ 2 := fun y => K2 (f4.mpr y)
      have elt : zw_ld (T f p) d = zc_r (zc_B (T f p) d) := by unfold zw_ld; rw [if_neg K2]
      rcases w2 with ⟨w2, _⟩ | ⟨_, e, E, w2⟩
      · exact absurd w2 K2
      rw [if_neg d0] at w2
      have w2' : sT (96 * f + s) = nI (e + 1) := w2
      obtain ⟨g1, g2, g3, g4, g5, g6⟩ := zt_end hN.2.2.1 (by omega) E
      rw [← elt] at g4 g5
      obtain ⟨E1, E2, E3, E4, E5⟩ := E
      have he1 : e + 1 < N f := zu_lt H t1 (by omega) (by rw [g1]; omega)
      have eDs : zc_D (T f (st + 1)) = d + 1 := by rw [(zn_13 Hs o4).1, o5]
      have E' : zt_E (fun i => ops (64 * f + i)) (T f) (N f) d (st + 1) e := ⟨by omega, E2, E3, E4, fun j b1 b2 => by
        rcases Nat.lt_or_ge j p with y | y
        · exact o6 j b1 (by omega)
        · exact E5 j y b2⟩
      refine ⟨nI w, nI (a + 1), nI (12 * a + (zc_H (T f p) d + zc_o (zw_ld (T f p) d))), nI (e + 1), 0, 0, nI (e + 1), (if zw_ld (T f p) d = 0 then tk1 else zw_ld (T f p) d), lr, mem, aF, upd aA a (nI p), aT, zu_sl (zw_ld (T f p) d) (upd (zu_sl (zw_ld (T f p) d) aZ1 a (nI (z - 1))) a (nI (zc_H (T f p) d))) a (nI (zc_H (T f p) d + 1)), upd aL a (nI (d - 1)), lP, lF, zu_sl (zw_ld (T f p) d) vt (16 * a + zc_H (T f p) d) (zw_ld (T f p) d), glo, zu_up (zw_ld (T f p) d) cel (12 * a + zc_H (T f p) d) (cel (12 * a + (z - 1))), loc, zu_up (zw_ld (T f p) d) val (16 * a + zc_H (T f p) d) (zu_cut (zw_ld (T f p) d) (cel (12 * a + (z - 1)))), Or.inl (fun post hp => hX post ?_), fun post hp => hY post ?_, ?_⟩
      · refine nm_r ea ⟨hin4, nm_r (e' := zw_fm (T f p) d) (by rw [ec4, w4']) (br_t (ofm.1.mpr K2) ?_)⟩
        exact zx_br (c := T f p) (d := d) (v := cel (12 * a + (z - 1))) (z := z) (tg := e + 1) r1 (by omega) hs rfl rfl (by omega) w3' w2' (fun y => ⟨(htv y).1, rfl⟩) hho hp
      · refine zy_b47 (L := zc_D (T f p) - 1) (d := d - 1) (st := st) (ks := ks) r1 (by omega) rfl t2 t7.1 (by omega) (by omega) (by omega) hlP (by omega) hos (by omega) his ?_
        rw [if_neg ek2]
        refine br_t rfl ⟨by decide, br_t rfl ?_⟩
        rw [show zc_B (T f p) d - zc_B (T f p) d / 3 * 3 = zw_ld (T f p) d from elt.symm]
        refine zy_133b (v := cel (12 * a + (z - 1))) (hd := zc_H (T f p) d) (L' := d - 1) (z := z) r1 rfl rfl (by omega) (by omega) hZa hlF (by omega) htv (by rw [if_pos rfl]) ?_
        exact br_f (nI_ne0 (by omega) (by omega)) (br_t (nI_pos' (by omega)) (br_t rfl (zy_M5 (by omega) hN.2.1 hN.1 hN.2.2.1 eDs E' (nm_r (nI_1 e) hp))))
      · refine Or.inr (Or.inr ⟨a, f, e + 1, w, rfl, rfl, rfl, rfl, by rw [g4], rfl, rfl, zu_goto H R he1 r2 ?_ ?_ ?_ (by rw [g4]; exact zu_AZ) (fun x hx => by rw [zu_AZ2 x hx]; exact hZ1 x hx) zu_z1 (fun _ _ => ⟨rfl, rfl⟩) (fun y hy => zu_upl (by omega)) (fun y hy => ⟨by unfold zu_sl; split; rfl; exact pk_un (by omega), zu_upl (by omega)⟩), zu_Pg (by omega) (by omega)⟩)
        · rw [g4]
          exact zu_Vb t6 (by omega) g3 g5 hsx
        · refine ⟨by rw [pk_us, g1], fun j hj => ?_⟩
          rw [g1] at hj
          rw [(g2 (j + 1) hj).2.2.2.2, (g2 (j + 1) hj).2.2.1]
          exact t7.2 j (by omega)
        · intro x hx
          rw [g1] at hx
          rw [(g2 x hx).2.2.2.1]; exact t8 x (by omega)
end
end
section
/-! the run: BR, BR_IF, BR_TABLE -/
theorem zp_tsj {c : zc_C} {im : Int64} {s0 : Int32 × Nat} {n : Nat} (h : (zc_ts c im (n + 1) s0).1 = 0) {j : Nat} (hj : j ≤ n) : (zc_p c (zc_lt c (zc_lb im j)) (0, s0.2)).2.1 = 0 := by
  have e1 : (zc_ts c im (j + 1) s0).1 = 0 := Classical.byContradiction fun z => by
    rw [zp_tsE c im s0 z (n + 1) (by omega)] at h; exact z h
  have e0 : (zc_ts c im j s0).1 = 0 := Classical.byContradiction fun z => by
    rw [zp_tsE c im s0 z (n + 1) (by omega)] at h; exact z h
  have q : (zc_t1 c im j (zc_ts c im j s0)).1 = 0 := e1
  unfold zc_t1 at q
  rw [zp_ts c im j s0, e0] at q
  by_cases y : (0 : Int32) = 0 ∧ ¬ (zc_lt c (zc_lb im j) = 0 ↔ zc_lt c (zc_lb im (zc_n im)) = 0)
  · rw [if_pos y, zp_err c _ _ (by show (-8 : Int32) ≠ 0; decide)] at q
    exact absurd (show (-8 : Int32) = 0 from q) (by decide)
  · rw [if_neg y] at q
    exact q
section
variable {fl cl ms fu cnt opn tu oc fc cu pu mk us dep top pc tr er sz dp ytr nx tk : Int32} {lr : Int64} {pa lo tb re sta len ops sT sF sM oT fK fT fH fU fS fC mem aF aA aT ty kd bk hh dd aP aZ aL lP lF vt byt : Nat → Int32} {imm arg glo cel loc val : Nat → Int64} {nc nfu : Nat} {T : Nat → Nat → zc_C} {N : Nat → Nat} {a f p w k z d l s hd : Nat} {im v : Int64} {t tk1 : Int32} {aZ1 : Nat → Int32}
theorem zu_o6 (H : zu_S pa tb re len ops sT sF sM imm nc T N) (hsg : zc_sg pa lo re nc) (R : zu_R nc nfu T N tb re aF aA aT aP aZ aL lP lF vt cel val loc glo a f p w) (hi : imm (64 * f + p) = im) (H1 : zt_1 pa tb re nc f (ops (64 * f + p)) im (T f p) (T f (p + 1)) p 6) (hfu : fu = nI nfu) (h100 : nfu ≤ 100) : ∃ (us' dep' top' pc' tr' ytr' nx' tk' : Int32) (lr' : Int64) (mem' aF' aA' aT' aZ' aL' lP' lF' vt' : Nat → Int32) (glo' cel' loc' val' : Nat → Int64), zu_XS (zu_F nc nfu T N tb re aP us' dep' top' pc' tr' ytr' nx' aF' aA' aT' aZ' aL' lP' lF' vt' glo' cel' loc' val' a (zu_P nfu w p aA a - 1)) (fl, cl, ms, fu, cnt, opn, tu, oc, fc, cu, pu, mk, lr, nI w, nI (a + 1), nI (12 * a + zc_S (T f p)), nI p, 0, pa, lo, tb, re, sta, len, ops, imm, sT, sF, sM, oT, fK, fT, fH, fU, fS, fC, arg, glo, mem, aF, aA, aT, cel, loc) (fl, cl, ms, fu, cnt, opn, tu, oc, fc, cu, pu, mk, lr', us', dep', top', pc', tr', pa, lo, tb, re, sta, len, ops, imm, sT, sF, sM, oT, fK, fT, fH, fU, fS, fC, arg, glo', mem', aF', aA', aT', cel', loc') ∧ (∀ post : SY → Prop, post (fl, cl, ms, fu, cnt, opn, er, sz, dp, dep', ytr', nx', us', tk', lr', pa, lo, tb, re, sta, len, ops, ty, kd, bk, hh, dd, aF', aP, aZ', aL', lP', lF', vt', (fun j => mem' j &&& 255), imm, val', loc', glo', arg) → wpY_run post (fl, cl, ms, fu, cnt, opn, er, sz, dp, nI (a + 1), 0, nI (p + 1), nI w, tk, lr, pa, lo, tb, re, sta, len, ops, ty, kd, bk, hh, dd, aF, aP, aZ, aL, lP, lF, vt, (fun j => mem j &&& 255), imm, val, loc, glo, arg) (nI 6) im) ∧ zu_F nc nfu T N tb re aP us' dep' top' pc' tr' ytr' nx' aF' aA' aT' aZ' aL' lP' lF' vt' glo' cel' loc' val' a (zu_P nfu w p aA a) := by
  obtain ⟨r1, r2, r3, ⟨t1, t2, t3, t4, t5, t6, t7, t8, t9⟩, r5⟩ := id R
  have hN := H f t1
  have h4 := hsg.1
  have hok := H1.2.2.1
  have hD8 := hok.2.1
  obtain ⟨l, hl, el⟩ := H1.2.2.2.1.2.1 (Or.inl rfl)
  have ei : im.toInt32 = nI l := by rw [el, lN_i]
  have ec : im.toInt32.toNatClampNeg = l := by rw [ei, nI_clamp (by omega)]
  obtain ⟨_, _, _, e0, _⟩ := zq_rc0 H1.2.2.2.2.1
  have e0' : (zc_pl (T f p) [zc_lt (T f p) l] (0, zc_S (T f p))).1 = 0 := by rw [← ec]; exact e0
  have W := hN.2.2.2.2.1 p t4 (Or.inl H1.2.1)
  dsimp only at W
  rw [hi, ec] at W
  refine zu_brO (z := zc_S (T f p)) (l := l) (s := p) (tk1 := tk) (aZ1 := aZ) H hsg R hi H1 hfu h100 (by decide) (Nat.le_refl _) hok.2.2.2.2.2.1 hl rfl (fun y => ?_) (by omega) W (fun _ _ => rfl) t5 (fun post h => ?_) (fun post h => ?_)
  · obtain ⟨p1, p2, p3, p4, p5⟩ := zu_p1 H1 t8 (t := zc_lt (T f p) l) y e0'
    exact ⟨by omega, p3 (zf_n4 (zp_lt3 hok hl))⟩
  · refine zx_hd r1 rfl rfl (by omega) t2 hN.2.1 hN.1 t4 (by omega) H1.2.1 hi (fun _ => ?_) (fun z => by omega) (fun z => by omega) (fun z => by omega)
    refine br_f (by decide) (br_f (by decide) (br_f (by decide) (br_f (by decide) (br_f (by decide) (br_f (by decide) (br_f (by decide) (br_f (by decide) (br_t (by decide) ?_))))))))
    exact h
  · refine zy_hd r1 rfl t2 t3 (by omega) (by omega) (zy_277 (by decide) (by decide) ?_)
    refine br_f (by decide) (br_f (by decide) (br_t (by decide) (br_f (by decide) ?_)))
    rw [ei]; exact h
theorem zu_o7 (H : zu_S pa tb re len ops sT sF sM imm nc T N) (hsg : zc_sg pa lo re nc) (R : zu_R nc nfu T N tb re aF aA aT aP aZ aL lP lF vt cel val loc glo a f p w) (hi : imm (64 * f + p) = im) (H1 : zt_1 pa tb re nc f (ops (64 * f + p)) im (T f p) (T f (p + 1)) p 7) (hfu : fu = nI nfu) (h100 : nfu ≤ 100) : ∃ (us' dep' top' pc' tr' ytr' nx' tk' : Int32) (lr' : Int64) (mem' aF' aA' aT' aZ' aL' lP' lF' vt' : Nat → Int32) (glo' cel' loc' val' : Nat → Int64), zu_XS (zu_F nc nfu T N tb re aP us' dep' top' pc' tr' ytr' nx' aF' aA' aT' aZ' aL' lP' lF' vt' glo' cel' loc' val' a (zu_P nfu w p aA a - 1)) (fl, cl, ms, fu, cnt, opn, tu, oc, fc, cu, pu, mk, lr, nI w, nI (a + 1), nI (12 * a + zc_S (T f p)), nI p, 0, pa, lo, tb, re, sta, len, ops, imm, sT, sF, sM, oT, fK, fT, fH, fU, fS, fC, arg, glo, mem, aF, aA, aT, cel, loc) (fl, cl, ms, fu, cnt, opn, tu, oc, fc, cu, pu, mk, lr', us', dep', top', pc', tr', pa, lo, tb, re, sta, len, ops, imm, sT, sF, sM, oT, fK, fT, fH, fU, fS, fC, arg, glo', mem', aF', aA', aT', cel', loc') ∧ (∀ post : SY → Prop, post (fl, cl, ms, fu, cnt, opn, er, sz, dp, dep', ytr', nx', us', tk', lr', pa, lo, tb, re, sta, len, ops, ty, kd, bk, hh, dd, aF', aP, aZ', aL', lP', lF', vt', (fun j => mem' j &&& 255), imm, val', loc', glo', arg) → wpY_run post (fl, cl, ms, fu, cnt, opn, er, sz, dp, nI (a + 1), 0, nI (p + 1), nI w, tk, lr, pa, lo, tb, re, sta, len, ops, ty, kd, bk, hh, dd, aF, aP, aZ, aL, lP, lF, vt, (fun j => mem j &&& 255), imm, val, loc, glo, arg) (nI 7) im) ∧ zu_F nc nfu T N tb re aP us' dep' top' pc' tr' ytr' nx' aF' aA' aT' aZ' aL' lP' lF' vt' glo' cel' loc' val' a (zu_P nfu w p aA a) := by
  obtain ⟨r1, r2, r3, ⟨t1, t2, t3, t4, t5, t6, t7, t8, t9⟩, r5⟩ := id R
  have hN := H f t1
  have h4 := hsg.1
  have hok := H1.2.2.1
  have hD1 := hok.1
  have hD8 := hok.2.1
  have hS := hok.2.2.1
  obtain ⟨l, hl, el⟩ := H1.2.2.2.1.2.1 (Or.inr rfl)
  have ei : im.toInt32 = nI l := by rw [el, lN_i]
  have ec : im.toInt32.toNatClampNeg = l := by rw [ei, nI_clamp (by omega)]
  obtain ⟨s1, s2, s3, s4, s5⟩ := zu_st H1 (by decide) rfl
  have eP : zc_plan pa tb re f (T f p) im 7 = zc_mk (zc_pl (T f p) [1, zc_lt (T f p) l] (0, zc_S (T f p))) (zc_lt (T f p) l) 0 := by rw [← ec]; rfl
  rw [eP] at s1 s2 s3 s4 s5
  have e1 : (zc_pl (T f p) [1] (0, zc_S (T f p))).1 = 0 := Classical.byContradiction fun y => by
    have q : (zc_p (T f p) (zc_lt (T f p) l) (zc_pl (T f p) [1] (0, zc_S (T f p)))).2.1 = 0 := s2
    rw [zp_err _ _ _ y] at q; exact y q
  obtain ⟨p1, p2, p3, p4, p5⟩ := zu_p1 H1 t8 (t := 1) (by decide) e1
  obtain ⟨u1, u2, u3⟩ := t6 (zc_S (T f p) - 1) (by omega)
  have y1 : vt (16 * a + (zc_S (T f p) - 1)) = 1 := by rw [u1, p3 (by decide)]
  have hq : zc_lt (T f p) l ≠ 0 → 2 ≤ zc_S (T f p) ∧ zc_h (T f p) < zc_S (T f p) - 1 ∧ zc_T (T f p) (zc_S (T f p) - 1 - 1) = zc_lt (T f p) l ∧ (zc_pl (T f p) [1, zc_lt (T f p) l] (0, zc_S (T f p))).2 = zc_S (T f p) - 2 := fun y => by
    obtain ⟨q1, q2, q3, q4, q5, q6⟩ := zu_p2 H1 t8 (t := 1) (s := zc_lt (T f p) l) (by decide) y s2
    have q := s5
    rw [show (zc_mk (zc_pl (T f p) [1, zc_lt (T f p) l] (0, zc_S (T f p))) (zc_lt (T f p) l) 0).2.1 = zc_S (T f p) - 2 from by show (zc_pl (T f p) [1, zc_lt (T f p) l] (0, zc_S (T f p))).2 = _; rw [q2]] at q
    refine ⟨q1, by omega, ?_, by rw [q2]⟩
    rw [show zc_S (T f p) - 1 - 1 = zc_S (T f p) - 2 from by omega]
    exact q4 (zf_n4 (zp_lt3 hok hl))
  by_cases v0 : cel (12 * a + (zc_S (T f p) - 1)) = 0
  · have hS' : (zc_pl (T f p) [1, zc_lt (T f p) l] (0, zc_S (T f p))).2 + zc_o (zc_lt (T f p) l) = zc_S (T f p) - 1 := by
      by_cases y : zc_lt (T f p) l = 0
      · rw [y, zp_l0, p2, zc_o0 rfl]; rfl
      · rw [(hq y).2.2.2, zc_o1 y]; have := (hq y).1; omega
    have s1' : T f (p + 1) = zc_set (T f p) (zc_pl (T f p) [1, zc_lt (T f p) l] (0, zc_S (T f p))).2 (zc_lt (T f p) l) 0 := s1
    have eS : zc_S (T f (p + 1)) = zc_S (T f p) - 1 := by rw [s1', zs_S rfl, hS']
    have hp1 : p + 1 < N f := zu_lt H t1 (by omega) (by rw [s1', zs_D]; exact hD1)
    refine ⟨nI w, nI (a + 1), nI (12 * a + (zc_S (T f p) - 1)), nI (p + 1), 0, 0, nI (p + 1), vt (16 * a + (zc_S (T f p) - 1)), lr, mem, aF, upd aA a (nI p), aT, upd aZ a (nI (zc_S (T f p) - 1)), aL, lP, lF, vt, glo, cel, loc, val, Or.inl (fun post hp => ?_), fun post hp => ?_, ?_⟩
    · refine zx_hd r1 rfl rfl (by omega) t2 hN.2.1 hN.1 t4 (by omega) H1.2.1 hi (fun _ => ?_) (fun z => by omega) (fun z => by omega) (fun z => by omega)
      refine br_f (by decide) (br_f (by decide) (br_f (by decide) (br_f (by decide) (br_f (by decide) (br_f (by decide) (br_f (by decide) (br_f (by decide) (br_f (by decide) (br_t (by decide) ?_)))))))))
      exact zx_take r1 p1 hS rfl rfl (br_t v0 hp)
    · refine zy_hdt r1 rfl t2 t3 (by omega) (by omega) p1 hS rfl t5 y1 (zy_277 (by decide) (by decide) ?_)
      refine br_f (by decide) (br_f (by decide) (br_f (by decide) (br_t (by decide) ?_)))
      rw [u2]
      exact br_t v0 hp
    · refine Or.inr (Or.inr ⟨a, f, p + 1, w, rfl, rfl, rfl, rfl, by rw [eS], rfl, rfl, zu_goto H R hp1 r2 ?_ ?_ ?_ (by rw [eS]; exact pk_us) zu_z1 (fun _ _ => rfl) (fun _ _ => ⟨rfl, rfl⟩) (fun _ _ => rfl) (fun _ _ => ⟨rfl, rfl⟩), zu_Pg (by omega) (by omega)⟩)
      · rw [eS]
        intro x hx
        have eT : zc_T (T f (p + 1)) x = zc_T (T f p) x := by
          rw [s1']
          by_cases y : x < (zc_pl (T f p) [1, zc_lt (T f p) l] (0, zc_S (T f p))).2
          · exact zs_T x y
          · have ob := zq_oo (zc_lt (T f p) l)
            have o0 : zc_lt (T f p) l ≠ 0 := fun q => by rw [zc_o0 q] at hS'; omega
            have ex : x = (zc_pl (T f p) [1, zc_lt (T f p) l] (0, zc_S (T f p))).2 := by omega
            rw [ex, zs_Tc rfl o0, (hq o0).2.2.2, ← (hq o0).2.2.1]
            exact congrArg _ (by omega)
        rw [eT]; exact t6 x (by omega)
      · refine ⟨by rw [s1', zs_D]; exact t7.1, fun j hj => ?_⟩
        rw [s1', zs_D] at hj
        rw [s1', zs_A, zs_H]; exact t7.2 j hj
      · intro x hx
        rw [s1', zs_D] at hx
        rw [s1', zs_U rfl]; exact t8 x hx
  · have W := hN.2.2.2.2.1 p t4 (Or.inr H1.2.1)
    dsimp only at W
    rw [hi, ec] at W
    refine zu_brO (z := zc_S (T f p) - 1) (l := l) (s := p) (tk1 := vt (16 * a + (zc_S (T f p) - 1))) (aZ1 := upd aZ a (nI (zc_S (T f p) - 1))) H hsg R hi H1 hfu h100 (by decide) (by omega) p5 hl rfl (fun y => ⟨(hq y).2.1, (hq y).2.2.1⟩) (by omega) W zu_z1 pk_us (fun post h => ?_) (fun post h => ?_)
    · refine zx_hd r1 rfl rfl (by omega) t2 hN.2.1 hN.1 t4 (by omega) H1.2.1 hi (fun _ => ?_) (fun z => by omega) (fun z => by omega) (fun z => by omega)
      refine br_f (by decide) (br_f (by decide) (br_f (by decide) (br_f (by decide) (br_f (by decide) (br_f (by decide) (br_f (by decide) (br_f (by decide) (br_f (by decide) (br_t (by decide) ?_)))))))))
      exact zx_take r1 p1 hS rfl rfl (br_f v0 h)
    · refine zy_hdt r1 rfl t2 t3 (by omega) (by omega) p1 hS rfl t5 y1 (zy_277 (by decide) (by decide) ?_)
      refine br_f (by decide) (br_f (by decide) (br_f (by decide) (br_t (by decide) ?_)))
      rw [u2]
      refine br_f v0 ?_
      rw [ei]; exact h
theorem zu_o8 (H : zu_S pa tb re len ops sT sF sM imm nc T N) (hsg : zc_sg pa lo re nc) (R : zu_R nc nfu T N tb re aF aA aT aP aZ aL lP lF vt cel val loc glo a f p w) (hi : imm (64 * f + p) = im) (H1 : zt_1 pa tb re nc f (ops (64 * f + p)) im (T f p) (T f (p + 1)) p 8) (hfu : fu = nI nfu) (h100 : nfu ≤ 100) : ∃ (us' dep' top' pc' tr' ytr' nx' tk' : Int32) (lr' : Int64) (mem' aF' aA' aT' aZ' aL' lP' lF' vt' : Nat → Int32) (glo' cel' loc' val' : Nat → Int64), zu_XS (zu_F nc nfu T N tb re aP us' dep' top' pc' tr' ytr' nx' aF' aA' aT' aZ' aL' lP' lF' vt' glo' cel' loc' val' a (zu_P nfu w p aA a - 1)) (fl, cl, ms, fu, cnt, opn, tu, oc, fc, cu, pu, mk, lr, nI w, nI (a + 1), nI (12 * a + zc_S (T f p)), nI p, 0, pa, lo, tb, re, sta, len, ops, imm, sT, sF, sM, oT, fK, fT, fH, fU, fS, fC, arg, glo, mem, aF, aA, aT, cel, loc) (fl, cl, ms, fu, cnt, opn, tu, oc, fc, cu, pu, mk, lr', us', dep', top', pc', tr', pa, lo, tb, re, sta, len, ops, imm, sT, sF, sM, oT, fK, fT, fH, fU, fS, fC, arg, glo', mem', aF', aA', aT', cel', loc') ∧ (∀ post : SY → Prop, post (fl, cl, ms, fu, cnt, opn, er, sz, dp, dep', ytr', nx', us', tk', lr', pa, lo, tb, re, sta, len, ops, ty, kd, bk, hh, dd, aF', aP, aZ', aL', lP', lF', vt', (fun j => mem' j &&& 255), imm, val', loc', glo', arg) → wpY_run post (fl, cl, ms, fu, cnt, opn, er, sz, dp, nI (a + 1), 0, nI (p + 1), nI w, tk, lr, pa, lo, tb, re, sta, len, ops, ty, kd, bk, hh, dd, aF, aP, aZ, aL, lP, lF, vt, (fun j => mem j &&& 255), imm, val, loc, glo, arg) (nI 8) im) ∧ zu_F nc nfu T N tb re aP us' dep' top' pc' tr' ytr' nx' aF' aA' aT' aZ' aL' lP' lF' vt' glo' cel' loc' val' a (zu_P nfu w p aA a) := by
  obtain ⟨r1, r2, r3, ⟨t1, t2, t3, t4, t5, t6, t7, t8, t9⟩, r5⟩ := id R
  have hN := H f t1
  have h4 := hsg.1
  have hok := H1.2.2.1
  have hD1 := hok.1
  have hD8 := hok.2.1
  have hS := hok.2.2.1
  obtain ⟨n7, hlab⟩ := H1.2.2.2.1.2.2.2.2.2.2.1 rfl
  obtain ⟨_, _, _, e0, _⟩ := zq_rc0 H1.2.2.2.2.1
  have e0' : (zc_ts (T f p) im (zc_n im + 1) (zc_pl (T f p) [1] (0, zc_S (T f p)))).1 = 0 := e0
  have e1 : (zc_pl (T f p) [1] (0, zc_S (T f p))).1 = 0 := Classical.byContradiction fun y => by
    rw [zp_tsE (T f p) im (zc_pl (T f p) [1] (0, zc_S (T f p))) (j := 0) y (zc_n im + 1) (by omega)] at e0'
    exact y e0'
  obtain ⟨p1, p2, p3, p4, p5⟩ := zu_p1 H1 t8 (t := 1) (by decide) e1
  obtain ⟨u1, u2, u3⟩ := t6 (zc_S (T f p) - 1) (by omega)
  have y1 : vt (16 * a + (zc_S (T f p) - 1)) = 1 := by rw [u1, p3 (by decide)]
  obtain ⟨W1, W2, W3⟩ := hN.2.2.2.2.2.2.1 p t4 H1.2.1
  have W3' : ∀ j, j ≤ zc_n (imm (64 * f + p)) → zw_t (fun i => ops (64 * f + i)) (T f) (N f) (fun s => sT (96 * f + s)) (fun s => sF (96 * f + s)) (fun s => sM (96 * f + s)) (64 + zw_sum (fun i => ops (64 * f + i)) (fun i => imm (64 * f + i)) p + j) p (zc_D (T f p) - 1 - zc_lb (imm (64 * f + p)) j) := W3
  have W2' : zw_sum (fun i => ops (64 * f + i)) (fun i => imm (64 * f + i)) p + zc_n (imm (64 * f + p)) < 32 := W2
  rw [hi] at W2' W3'
  have W1' : sT (96 * f + p) = nI (zw_sum (fun i => ops (64 * f + i)) (fun i => imm (64 * f + i)) p) := W1
  obtain ⟨m, hm, em⟩ := wb_of im
  have hm35 : m < 2 ^ 35 := by
    have q : zc_n im = m / 2 ^ 32 := by unfold zc_n; rw [em, wb_tn hm]
    rw [q] at n7
    omega
  have eX7 : (im >>> ((32 : Int32).toInt64 &&& 63)).toInt32 = nI (zc_n im) := by
    have q : zc_n im = m / 2 ^ 32 := by unfold zc_n; rw [em, wb_tn hm]
    rw [q, em, pf_shr (d := 32) (by decide) (by omega), lN_i]
  obtain ⟨ea, hin4, ec4⟩ := zx_sa (f := f) (s := p) (by omega) (by omega)
  -- the label chosen
  have hc : ∃ j, j ≤ zc_n im ∧ ((cel (12 * a + (zc_S (T f p) - 1)) < 0 ∧ j = zc_n im) ∨ (¬ cel (12 * a + (zc_S (T f p) - 1)) < 0 ∧ (nI (zc_n im)).toInt64 ≤ cel (12 * a + (zc_S (T f p) - 1)) ∧ j = zc_n im) ∨ (¬ cel (12 * a + (zc_S (T f p) - 1)) < 0 ∧ ¬ (nI (zc_n im)).toInt64 ≤ cel (12 * a + (zc_S (T f p) - 1)) ∧ cel (12 * a + (zc_S (T f p) - 1)) = lN j)) := by
    by_cases y : cel (12 * a + (zc_S (T f p) - 1)) < 0
    · exact ⟨zc_n im, Nat.le_refl _, Or.inl ⟨y, rfl⟩⟩
    · by_cases y2 : (nI (zc_n im)).toInt64 ≤ cel (12 * a + (zc_S (T f p) - 1))
      · exact ⟨zc_n im, Nat.le_refl _, Or.inr (Or.inl ⟨y, y2, rfl⟩)⟩
      · obtain ⟨j, hj, ej⟩ := pk_lOf y
        refine ⟨j, ?_, Or.inr (Or.inr ⟨y, y2, ej⟩)⟩
        rw [ej, nI_l (by omega), pk_lLE (by omega) hj] at y2
        omega
  obtain ⟨j, hj, hch⟩ := hc
  have hlj := hlab j hj
  have hpj := zp_tsj e0' hj
  rw [p2] at hpj
  refine zu_brO (z := zc_S (T f p) - 1) (l := zc_lb im j) (s := 64 + zw_sum (fun i => ops (64 * f + i)) (fun i => imm (64 * f + i)) p + j) (tk1 := vt (16 * a + (zc_S (T f p) - 1))) (aZ1 := upd aZ a (nI (zc_S (T f p) - 1))) H hsg R hi H1 hfu h100 (by decide) (by omega) p5 hlj rfl (fun y => ?_) (by omega) (W3' j hj) zu_z1 pk_us (fun post h => ?_) (fun post h => ?_)
  · obtain ⟨q1, q2, q3, q4⟩ := zu_p hok t8 (s := zc_S (T f p) - 1) (by omega) p5 (t := zc_lt (T f p) (zc_lb im j)) y hpj
    exact ⟨q1, q3 (zf_n4 (zp_lt3 hok hlj))⟩
  · refine zx_hd r1 rfl rfl (by omega) t2 hN.2.1 hN.1 t4 (by omega) H1.2.1 hi (fun _ => ?_) (fun z => by omega) (fun z => by omega) (fun z => by omega)
    refine br_f (by decide) (br_f (by decide) (br_f (by decide) (br_f (by decide) (br_f (by decide) (br_f (by decide) (br_f (by decide) (br_f (by decide) (br_f (by decide) (br_f (by decide) (br_t (by decide) ?_))))))))))
    unfold wpX_runTable
    have A : ∀ z0 : Int32, z0 = nI j → wX_runTable_37 (fun u => match u with | (fl, cl, ms, fu, cnt, opn, tu, oc, fc, cu, pu, mk, lr, us, dep, top, pc, tr, pa, lo, tb, re, sta, len, ops, imm, sT, sF, sM, oT, fK, fT, fH, fU, fS, fC, arg, glo, mem, aF, aA, aT, cel, loc) => post (fl, cl, ms, fu, cnt, opn, tu, oc, fc, cu, pu, mk, lr, us, dep, top, pc, tr, pa, lo, tb, re, sta, len, ops, imm, sT, sF, sM, oT, fK, fT, fH, fU, fS, fC, arg, glo, mem, aF, aA, aT, cel, loc)) (nI f) (nI p) z0 fl cl ms fu cnt opn tu oc fc cu pu mk lr (nI w) (nI (a + 1)) (nI (12 * a + (zc_S (T f p) - 1))) (nI (p + 1)) 0 pa lo tb re sta len ops imm sT sF sM oT fK fT fH fU fS fC arg glo mem aF (upd aA a (nI p)) aT cel loc := by
      intro z0 hz
      subst hz
      refine ⟨by rw [ea]; exact hin4, nm_r (e' := nI (64 + zw_sum (fun i => ops (64 * f + i)) (fun i => imm (64 * f + i)) p + j)) ?_ (br_f (nI_nlt (b := 64) (by omega) (by omega)) (br_t (nI_lt (b := 96) (by omega) (by decide)) h))⟩
      rw [ea, ec4, W1', show (64 : Int32) + nI (zw_sum (fun i => ops (64 * f + i)) (fun i => imm (64 * f + i)) p) = nI (64 + zw_sum (fun i => ops (64 * f + i)) (fun i => imm (64 * f + i)) p) from nI_add 64 _, nI_add]
    refine zx_take r1 p1 hS rfl rfl (nm_r eX7 ?_)
    rcases hch with ⟨h1, h2⟩ | ⟨h1, h2, h3⟩ | ⟨h1, h2, h3⟩
    · exact br_t h1 (A _ (by rw [h2]))
    · exact br_f h1 (br_t h2 (A _ (by rw [h3])))
    · exact br_f h1 (br_f h2 (A _ (by rw [h3, lN_i])))
  · refine zy_hdt r1 rfl t2 t3 (by omega) (by omega) p1 hS rfl t5 y1 (zy_277 (by decide) (by decide) ?_)
    refine br_f (by decide) (br_f (by decide) (br_f (by decide) (br_f (by decide) (br_t (by decide) ?_))))
    rw [u2, zb_n]
    have A : ∀ z0 : Int64, z0 = lN j → wY_run_365 post z0 4 im fl cl ms fu cnt opn er sz dp (nI (a + 1)) 0 (nI (p + 1)) (nI w) (vt (16 * a + (zc_S (T f p) - 1))) lr pa lo tb re sta len ops ty kd bk hh dd aF aP (upd aZ a (nI (zc_S (T f p) - 1))) aL lP lF vt ((fun j => mem j &&& 255)) imm val loc glo arg := by
      intro z0 hz
      subst hz
      have e4 : ((4 : Int64) * lN j).toInt32 = 4 * nI j := by
        rw [show (4 : Int64) = lN 4 from rfl, lN_mul, lN_i, show (4 : Int32) * nI j = nI (4 * j) from pk_mul 4 j]
      unfold wY_run_365
      rw [e4, zb_lb im (by omega)]
      exact h
    rcases hch with ⟨h1, h2⟩ | ⟨h1, h2, h3⟩ | ⟨h1, h2, h3⟩
    · exact br_t h1 (A _ (by rw [h2]; exact nI_l (by omega)))
    · exact br_f h1 (br_t h2 (A _ (by rw [h3]; exact nI_l (by omega))))
    · exact br_f h1 (br_f h2 (A _ h3))
end
end
section
/-! the run: CALL -/
def zl_G (L c : Nat → Int64) (b s i j : Nat) : Nat → Int64 := fun y => if b + i ≤ y ∧ y < b + j then c (s + (y - b)) else L y
section
variable {L c : Nat → Int64} {b s i j : Nat}
theorem zl_e : zl_G L c b s i i = L := funext fun y => if_neg (by omega)
theorem zl_up (h : i ≤ j) : vp_updL (zl_G L c b s i j) (b + j) (c (s + j)) = zl_G L c b s i (j + 1) := funext fun y => by
  by_cases z : y = b + j
  · subst z
    rw [pk_uLs]
    unfold zl_G
    rw [if_pos (by omega)]
    exact congrArg c (by omega)
  · rw [pk_uLn z]
    unfold zl_G
    by_cases q : b + i ≤ y ∧ y < b + j
    · rw [if_pos q, if_pos (by omega)]
    · rw [if_neg q, if_neg (by omega)]
theorem zl_dn (h : i < j) : vp_updL (zl_G L c b s (i + 1) j) (b + i) (c (s + i)) = zl_G L c b s i j := funext fun y => by
  by_cases z : y = b + i
  · subst z
    rw [pk_uLs]
    unfold zl_G
    rw [if_pos (by omega)]
    exact congrArg c (by omega)
  · rw [pk_uLn z]
    unfold zl_G
    by_cases q : b + i ≤ y ∧ y < b + j
    · rw [if_pos q, if_pos (by omega)]
    · rw [if_neg q, if_neg (by omega)]
theorem zl_in {y : Nat} (h1 : i ≤ y) (h2 : y < j) : zl_G L c b s i j (b + y) = c (s + y) := by
  unfold zl_G
  rw [if_pos (by omega)]
  exact congrArg c (by omega)
theorem zl_out {y : Nat} (h : y < b + i ∨ b + j ≤ y) : zl_G L c b s i j y = L y := by
  unfold zl_G
  rw [if_neg (by omega)]
end
theorem zl_uu {g : Nat → Int32} {k : Nat} {x y : Int32} : upd (upd g k x) k y = upd g k y := funext fun z => by
  by_cases q : z = k
  · subst q; rw [pk_us, pk_us]
  · rw [pk_un q, pk_un q, pk_un q]
theorem zl_id {g : Nat → Int32} {k : Nat} {x : Int32} (h : g k = x) : upd g k x = g := funext fun z => by
  by_cases q : z = k
  · subst q; rw [pk_us, h]
  · rw [pk_un q]
theorem zl_8 {a i : Nat} : nI (8 * a) + nI i = nI (8 * a + i) := nI_add _ _
theorem zl_8y {a : Nat} : (8 : Int32) * nI a = nI (8 * a) := pk_mul 8 a
/-- the parameters popped -/
theorem zu_pcl {c : zc_C} {tb : Nat → Int32} {g : Nat} (hok : zc_ok c) (hl : zu_live c) : ∀ (n s : Nat), s ≤ zc_S c → zc_h c ≤ s → (zc_pl c (zc_cl tb g n) (0, s)).1 = 0 →
    n ≤ s ∧ zc_pl c (zc_cl tb g n) (0, s) = (0, s - n) ∧ ∀ j, j < n → zc_T c (s - n + j) = zc_ly tb g (nI j)
  | 0, s, _, _, _ => ⟨Nat.zero_le _, rfl, fun j hj => absurd hj (Nat.not_lt_zero _)⟩
  | n + 1, s, h1, h2, h3 => by
    have e : zc_pl c (zc_cl tb g (n + 1)) (0, s) = zc_pl c (zc_cl tb g n) (zc_p c (zc_ly tb g (nI n)) (0, s)).2 := rfl
    have l3 := zp_ly3 tb g (nI n)
    have e0 : (zc_p c (zc_ly tb g (nI n)) (0, s)).2.1 = 0 := Classical.byContradiction fun z => by
      rw [e, zp_lerr c _ _ z] at h3
      exact z h3
    obtain ⟨q1, q2, q3, q4⟩ := zu_p hok hl h1 h2 (by rcases l3 with z | z <;> rw [z] <;> decide) e0
    rw [q2] at e
    rw [e] at h3
    obtain ⟨i1, i2, i3⟩ := zu_pcl hok hl n (s - 1) (by omega) (by omega) h3
    refine ⟨by omega, by rw [e, i2, show s - 1 - n = s - (n + 1) from by omega], fun j hj => ?_⟩
    by_cases y : j = n
    · subst y
      rw [← q3 (by rcases l3 with z | z <;> rw [z] <;> decide)]
      exact congrArg _ (by omega)
    · rw [← i3 j (by omega)]
      exact congrArg _ (by omega)
section
variable {fl cl ms fu cnt opn tu oc fc cu pu mk us dep top pc tr er sz dp ytr nx tk : Int32} {lr : Int64} {pa lo tb re sta len ops sT sF sM oT fK fT fH fU fS fC mem aF aA aT ty kd bk hh dd aP aZ aL lP lF vt byt : Nat → Int32} {imm arg glo cel loc val : Nat → Int64} {nc nfu : Nat} {T : Nat → Nat → zc_C} {N : Nat → Nat} {a f g n p w k s : Nat} {im v : Int64}
theorem zx_b31 {post : SX → Prop} (ha : a ≤ 7) (hp : post (fl, cl, ms, fu, cnt, opn, tu, oc, fc, cu, pu, mk, lr, us, nI (a + 1), nI (12 * a), 0, tr, pa, lo, tb, re, sta, len, ops, imm, sT, sF, sM, oT, fK, fT, fH, fU, fS, fC, arg, glo, mem, upd aF a (nI g), upd aA a 0, aT, cel, zl_G loc (fun _ => 0) (8 * a) 0 n 8)) : ∀ (m i fuel : Nat), i + m = 8 → n ≤ i → m < fuel →
    wX_begin_31 post (nI g) (nI (8 * a)) fl cl ms fu cnt opn tu oc fc cu pu mk lr us (nI a) top pc tr fuel (nI i) pa lo tb re sta len ops imm sT sF sM oT fK fT fH fU fS fC arg glo mem aF aA aT cel (zl_G loc (fun _ => 0) (8 * a) 0 n i)
  | 0, i, fuel + 1, h1, h2, h3 => by
    have e : i = 8 := by omega
    subst e
    have hin : vp_in (nI a) 8 := vp_in_nI (by omega) (by decide)
    have ec : (nI a).toNatClampNeg = a := nI_clamp (by omega)
    exact br_t (by decide) ⟨hin, nm_r (e' := upd aF a (nI g)) (by rw [ec]) ⟨hin, nm_r (e' := upd aA a 0) (by rw [ec]) (nm_r (e' := nI (12 * a)) (by rw [show nI a * 12 = nI (a * 12) from pk_mul a 12, Nat.mul_comm]) (nm_r (nI_1 a) hp))⟩⟩
  | m + 1, i, fuel + 1, h1, h2, h3 => by
    have IH := zx_b31 ha hp m (i + 1) fuel (by omega) (by omega) (by omega)
    refine pk_le 8 i (fun _ => by omega) (fun _ => ⟨by rw [zl_8]; exact vp_in_nI (by omega) (by decide), nm_r (e' := zl_G loc (fun _ => 0) (8 * a) 0 n (i + 1)) ?_ (nm_r (nI_1 i) IH)⟩)
    rw [zl_8, nI_clamp (by omega)]
    exact zl_up (c := fun _ => 0) h2
theorem zx_beg {post : SX → Prop} (ha : a ≤ 7) (hg : g < 4) (hn : pa g = nI n) (h8 : n ≤ 8) (hp : post (fl, cl, ms, fu, cnt, opn, tu, oc, fc, cu, pu, mk, lr, us, nI (a + 1), nI (12 * a), 0, tr, pa, lo, tb, re, sta, len, ops, imm, sT, sF, sM, oT, fK, fT, fH, fU, fS, fC, arg, glo, mem, upd aF a (nI g), upd aA a 0, aT, cel, zl_G loc (fun _ => 0) (8 * a) 0 n 8)) : wpX_begin post (fl, cl, ms, fu, cnt, opn, tu, oc, fc, cu, pu, mk, lr, us, nI a, top, pc, tr, pa, lo, tb, re, sta, len, ops, imm, sT, sF, sM, oT, fK, fT, fH, fU, fS, fC, arg, glo, mem, aF, aA, aT, cel, loc) (nI g) := by
  have q := zx_b31 (n := n) (top := top) (pc := pc) ha hp (8 - n) n 9 (by omega) (Nat.le_refl _) (by omega)
  rw [zl_e] at q
  exact br_t (nI_lt (b := 8) (by omega) (by decide)) (nm_r (e' := nI (8 * a)) (by rw [show nI a * 8 = nI (a * 8) from pk_mul a 8, Nat.mul_comm]) ⟨vp_in_nI hg (by decide), nm_r (e' := nI n) (by rw [nI_clamp (by omega), hn]) ⟨9, q⟩⟩)
theorem zx_c74 {post : SX → Prop} (ha : a < 7) (hs : s + n ≤ 12) (hn : n ≤ 8) (hp : wpX_begin (fun u => match u with | (fl, cl, ms, fu, cnt, opn, tu, oc, fc, cu, pu, mk, lr, us, dep, top, pc, tr, pa, lo, tb, re, sta, len, ops, imm, sT, sF, sM, oT, fK, fT, fH, fU, fS, fC, arg, glo, mem, aF, aA, aT, cel, loc) => post (fl, cl, ms, fu, cnt, opn, tu, oc, fc, cu, pu, mk, lr, us, dep, top, pc, tr, pa, lo, tb, re, sta, len, ops, imm, sT, sF, sM, oT, fK, fT, fH, fU, fS, fC, arg, glo, mem, aF, aA, aT, cel, loc)) (fl, cl, ms, fu, cnt, opn, tu, oc, fc, cu, pu, mk, lr, us, nI (a + 1), top, pc, tr, pa, lo, tb, re, sta, len, ops, imm, sT, sF, sM, oT, fK, fT, fH, fU, fS, fC, arg, glo, mem, aF, aA, upd aT a (nI (12 * a + s)), cel, zl_G loc cel (8 * (a + 1)) (12 * a + s) 0 n) (nI g)) : ∀ (m i fuel : Nat), i + m = n → m < fuel →
    wX_call_74 post (nI g) (nI n) (nI (12 * a + s)) (nI (8 * (a + 1))) fl cl ms fu cnt opn tu oc fc cu pu mk lr us (nI (a + 1)) top pc tr fuel (nI i) pa lo tb re sta len ops imm sT sF sM oT fK fT fH fU fS fC arg glo mem aF aA aT cel (zl_G loc cel (8 * (a + 1)) (12 * a + s) 0 i)
  | 0, i, fuel + 1, h1, h3 => by
    have e : i = n := by omega
    subst e
    refine br_t (nI_le (Nat.le_refl _) (by omega)) ⟨by rw [zx_d1]; exact vp_in_nI (by omega) (by decide), nm_r (e' := upd aT a (nI (12 * a + s))) (by rw [zx_d1, nI_clamp (by omega)]) hp⟩
  | m + 1, i, fuel + 1, h1, h3 => by
    have IH := zx_c74 ha hs hn hp m (i + 1) fuel (by omega) (by omega)
    have e2 : nI (12 * a + s) + nI i = nI (12 * a + s + i) := nI_add _ _
    refine pk_le n i (fun _ => by omega) (fun _ => ⟨by rw [e2]; exact vp_in_nI (by omega) (by decide), by rw [zl_8]; exact vp_in_nI (by omega) (by decide), nm_r (e' := zl_G loc cel (8 * (a + 1)) (12 * a + s) 0 (i + 1)) ?_ (nm_r (nI_1 i) IH)⟩)
    rw [zl_8, nI_clamp (by omega), e2, nI_clamp (by omega)]
    exact zl_up (Nat.zero_le _)
theorem zy_b7 {post : SY → Prop} (ha : a ≤ 7) (hp : post (fl, cl, ms, fu, cnt, opn, er, sz, dp, nI (a + 1), ytr, 0, us, tk, lr, pa, lo, tb, re, sta, len, ops, ty, kd, bk, hh, dd, upd aF a (nI g), upd aP a 0, upd aZ a 0, upd aL a 0, lP, lF, vt, byt, imm, val, zl_G loc (fun _ => 0) (8 * a) 0 n 8, glo, arg)) : ∀ (m i fuel : Nat), i + m = 8 → n ≤ i → m < fuel →
    wY_begin_7 post (nI g) fl cl ms fu cnt opn er sz dp (nI a) ytr nx us tk lr fuel (nI i) pa lo tb re sta len ops ty kd bk hh dd aF aP aZ aL lP lF vt byt imm val (zl_G loc (fun _ => 0) (8 * a) 0 n i) glo arg
  | 0, i, fuel + 1, h1, h2, h3 => by
    have e : i = 8 := by omega
    subst e
    have hin : vp_in (nI a) 8 := vp_in_nI (by omega) (by decide)
    have ec : (nI a).toNatClampNeg = a := nI_clamp (by omega)
    exact br_t (by decide) ⟨hin, nm_r (e' := upd aF a (nI g)) (by rw [ec]) ⟨hin, nm_r (e' := upd aP a 0) (by rw [ec]) ⟨hin, nm_r (e' := upd aZ a 0) (by rw [ec]) ⟨hin, nm_r (e' := upd aL a 0) (by rw [ec]) (nm_r (nI_1 a) hp)⟩⟩⟩⟩
  | m + 1, i, fuel + 1, h1, h2, h3 => by
    have IH := zy_b7 ha hp m (i + 1) fuel (by omega) (by omega) (by omega)
    refine pk_le 8 i (fun _ => by omega) (fun _ => ⟨by rw [zl_8y, zl_8]; exact vp_in_nI (by omega) (by decide), nm_r (e' := zl_G loc (fun _ => 0) (8 * a) 0 n (i + 1)) ?_ (nm_r (nI_1 i) IH)⟩)
    rw [zl_8y, zl_8, nI_clamp (by omega)]
    exact zl_up (c := fun _ => 0) h2
theorem zy_beg {post : SY → Prop} (ha : a ≤ 7) (hg : g < 4) (hn : pa g = nI n) (h8 : n ≤ 8) (hp : post (fl, cl, ms, fu, cnt, opn, er, sz, dp, nI (a + 1), ytr, 0, us, tk, lr, pa, lo, tb, re, sta, len, ops, ty, kd, bk, hh, dd, upd aF a (nI g), upd aP a 0, upd aZ a 0, upd aL a 0, lP, lF, vt, byt, imm, val, zl_G loc (fun _ => 0) (8 * a) 0 n 8, glo, arg)) : wpY_begin post (fl, cl, ms, fu, cnt, opn, er, sz, dp, nI a, ytr, nx, us, tk, lr, pa, lo, tb, re, sta, len, ops, ty, kd, bk, hh, dd, aF, aP, aZ, aL, lP, lF, vt, byt, imm, val, loc, glo, arg) (nI g) := by
  have q := zy_b7 (n := n) (nx := nx) ha hp (8 - n) n 9 (by omega) (Nat.le_refl _) (by omega)
  rw [zl_e] at q
  exact ⟨vp_in_nI hg (by decide), nm_r (e' := nI n) (by rw [nI_clamp (by omega), hn]) ⟨9, q⟩⟩
theorem zy_c429 {post : SY → Prop} (ha : a < 7) (hg : g < 4) (hs : s + n ≤ 12) (hn : n ≤ 8) (hV : ∀ j, j < n → vt (16 * a + (s + j)) = zc_ly tb g (nI j) ∧ val (16 * a + (s + j)) = cel (12 * a + (s + j)))
    (hp : wpY_begin (fun u => match u with | (fl, cl, ms, fu, cnt, opn, er, sz, dp, dep, ytr, nx, us, tk, lr, pa, lo, tb, re, sta, len, ops, ty, kd, bk, hh, dd, aF, aP, aZ, aL, lP, lF, vt, byt, imm, val, loc, glo, arg) => post (fl, cl, ms, fu, cnt, opn, er, sz, dp, dep, ytr, nx, us, tk, lr, pa, lo, tb, re, sta, len, ops, ty, kd, bk, hh, dd, aF, aP, aZ, aL, lP, lF, vt, byt, imm, val, loc, glo, arg)) (fl, cl, ms, fu, cnt, opn, er, sz, dp, nI (a + 1), 0, nx, us, (if 0 = n then tk else vt (16 * a + (s + 0))), lr, pa, lo, tb, re, sta, len, ops, ty, kd, bk, hh, dd, aF, aP, upd aZ a (nI (s + 0)), aL, lP, lF, vt, byt, imm, val, zl_G loc cel (8 * (a + 1)) (12 * a + s) 0 n, glo, arg) (nI g)) : ∀ (j fuel : Nat), j ≤ n → j < fuel →
    wY_run_429 post (nI g) fuel (zy_ix j) fl cl ms fu cnt opn er sz dp (nI (a + 1)) 0 nx us ((if j = n then tk else vt (16 * a + (s + j)))) lr pa lo tb re sta len ops ty kd bk hh dd aF aP (upd aZ a (nI (s + j))) aL lP lF vt byt imm val (zl_G loc cel (8 * (a + 1)) (12 * a + s) j n) glo arg
  | 0, fuel + 1, _, _ => br_t zy_ix0 hp
  | j + 1, fuel + 1, h1, h3 => by
    have IH := zy_c429 ha hg hs hn hV hp j fuel (by omega) (by omega)
    rw [if_neg (by omega)] at IH
    obtain ⟨v1, v2⟩ := hV j (by omega)
    have l3 := zp_ly3 tb g (nI j)
    have e1 : s + (j + 1) - 1 = s + j := by omega
    refine br_f (nI_pos (n := j) (by omega)) (zy_ly hg (zy_take (a := a) (z := s + (j + 1)) (by omega) (by omega) (by omega) rfl rfl pk_us ?_ (Or.inr ?_) ?_))
    · show zc_ly tb g (nI j) ≠ 0
      rcases l3 with z | z <;> rw [z] <;> decide
    · rw [e1, v1]; rfl
    · rw [e1, zl_uu, v2]
      have e2 : (8 : Int32) * nI (a + 1) + zy_ix (j + 1) = nI (8 * (a + 1) + j) := by rw [zl_8y]; exact nI_add _ _
      refine ⟨by rw [e2]; exact vp_in_nI (by omega) (by decide), nm_r (e' := zl_G loc cel (8 * (a + 1)) (12 * a + s) j n) ?_ (nm_r (zy_ixm j) IH)⟩
      rw [e2, nI_clamp (by omega), ← Nat.add_assoc]
      exact zl_dn (by omega)
theorem zu_o10 (H : zu_S pa tb re len ops sT sF sM imm nc T N) (hsg : zc_sg pa lo re nc) (R : zu_R nc nfu T N tb re aF aA aT aP aZ aL lP lF vt cel val loc glo a f p w) (hi : imm (64 * f + p) = im) (H1 : zt_1 pa tb re nc f (ops (64 * f + p)) im (T f p) (T f (p + 1)) p 10) (hfu : fu = nI nfu) (h100 : nfu ≤ 100) : ∃ (aP' : Nat → Int32) (us' dep' top' pc' tr' ytr' nx' tk' : Int32) (lr' : Int64) (mem' aF' aA' aT' aZ' aL' lP' lF' vt' : Nat → Int32) (glo' cel' loc' val' : Nat → Int64), zu_XS (zu_F nc nfu T N tb re aP' us' dep' top' pc' tr' ytr' nx' aF' aA' aT' aZ' aL' lP' lF' vt' glo' cel' loc' val' a (zu_P nfu w p aA a - 1)) (fl, cl, ms, fu, cnt, opn, tu, oc, fc, cu, pu, mk, lr, nI w, nI (a + 1), nI (12 * a + zc_S (T f p)), nI p, 0, pa, lo, tb, re, sta, len, ops, imm, sT, sF, sM, oT, fK, fT, fH, fU, fS, fC, arg, glo, mem, aF, aA, aT, cel, loc) (fl, cl, ms, fu, cnt, opn, tu, oc, fc, cu, pu, mk, lr', us', dep', top', pc', tr', pa, lo, tb, re, sta, len, ops, imm, sT, sF, sM, oT, fK, fT, fH, fU, fS, fC, arg, glo', mem', aF', aA', aT', cel', loc') ∧ (∀ post : SY → Prop, post (fl, cl, ms, fu, cnt, opn, er, sz, dp, dep', ytr', nx', us', tk', lr', pa, lo, tb, re, sta, len, ops, ty, kd, bk, hh, dd, aF', aP', aZ', aL', lP', lF', vt', (fun j => mem' j &&& 255), imm, val', loc', glo', arg) → wpY_run post (fl, cl, ms, fu, cnt, opn, er, sz, dp, nI (a + 1), 0, nI (p + 1), nI w, tk, lr, pa, lo, tb, re, sta, len, ops, ty, kd, bk, hh, dd, aF, aP, aZ, aL, lP, lF, vt, (fun j => mem j &&& 255), imm, val, loc, glo, arg) (nI 10) im) ∧ zu_F nc nfu T N tb re aP' us' dep' top' pc' tr' ytr' nx' aF' aA' aT' aZ' aL' lP' lF' vt' glo' cel' loc' val' a (zu_P nfu w p aA a) := by
  obtain ⟨r1, r2, r3, ⟨t1, t2, t3, t4, t5, t6, t7, t8, t9⟩, r5⟩ := id R
  have hN := H f t1
  have h4 := hsg.1
  have hok := H1.2.2.1
  have hD1 := hok.1
  have hS := hok.2.2.1
  obtain ⟨g, hg, eg⟩ := H1.2.2.2.1.2.2.1 rfl
  have ei : im.toInt32 = nI g := by rw [eg, lN_i]
  have ecg : (nI g).toNatClampNeg = g := nI_clamp (by omega)
  obtain ⟨⟨n, hn4, en⟩, _, h3g⟩ := hsg.2 g hg
  obtain ⟨s1, s2, s3, s4, s5⟩ := zu_st H1 (by decide) rfl
  have eP : zc_plan pa tb re f (T f p) im 10 = zc_mk (zc_pl (T f p) (zc_cl tb g n) (0, zc_S (T f p))) (re g) 0 := by
    show zc_mk (zc_pl (T f p) (zc_cl tb im.toInt32.toNatClampNeg (pa im.toInt32.toNatClampNeg).toNatClampNeg) (0, zc_S (T f p))) (re im.toInt32.toNatClampNeg) 0 = _
    rw [ei, ecg, en, nI_clamp (by omega)]
  rw [eP] at s1 s2 s3 s4 s5
  obtain ⟨q1, q2, q3⟩ := zu_pcl (tb := tb) (g := g) hok t8 n (zc_S (T f p)) (Nat.le_refl _) hok.2.2.2.2.2.1 s2
  generalize es : zc_S (T f p) - n = s at q2 q3
  have eS : zc_S (T f p) = s + n := by omega
  have s1' : T f (p + 1) = zc_set (T f p) s (re g) 0 := by
    have q : T f (p + 1) = zc_set (T f p) (zc_pl (T f p) (zc_cl tb g n) (0, zc_S (T f p))).2 (re g) 0 := s1
    rw [q2] at q; exact q
  have s3' : s + zc_o (re g) ≤ 12 := by
    have q : (zc_pl (T f p) (zc_cl tb g n) (0, zc_S (T f p))).2 + zc_o (re g) ≤ 12 := s3
    rw [q2] at q; exact q
  have hin : vp_in (nI g) 4 := vp_in_nI (by omega) (by decide)
  by_cases hw : w < nfu
  · by_cases ha : a < 7
    · have hp1 : p + 1 < N f := zu_lt H t1 (by omega) (by rw [s1', zs_D]; exact hD1)
      have h0 := (H g hg).2.2.1.1
      have hp0 : 0 < N g := zu_lt H hg (by omega) (by rw [h0.2.1]; exact Nat.le_refl _)
      have hV : ∀ j, j < n → vt (16 * a + (s + j)) = zc_ly tb g (nI j) ∧ val (16 * a + (s + j)) = cel (12 * a + (s + j)) := fun j hj => by
        obtain ⟨u1, u2, u3⟩ := t6 (s + j) (by omega)
        exact ⟨by rw [u1, q3 j hj], u2⟩
      refine ⟨upd aP (a + 1) 0, nI (w + 1), nI (a + 1 + 1), nI (12 * (a + 1)), 0, 0, 0, 0, (if 0 = n then tk else vt (16 * a + (s + 0))), lr, mem, upd aF (a + 1) (nI g), upd (upd aA a (nI p)) (a + 1) 0, upd aT a (nI (12 * a + s)), upd (upd aZ a (nI (s + 0))) (a + 1) 0, upd aL (a + 1) 0, lP, lF, vt, glo, cel, zl_G (zl_G loc cel (8 * (a + 1)) (12 * a + s) 0 n) (fun _ => 0) (8 * (a + 1)) 0 n 8, val, Or.inl (fun post hp => ?_), fun post hp => ?_, ?_⟩
      · refine zx_hd r1 rfl rfl (by omega) t2 hN.2.1 hN.1 t4 (by omega) H1.2.1 hi (fun _ => ?_) (fun z => by omega) (fun z => by omega) (fun z => by omega)
        refine br_f (by decide) (br_f (by decide) (br_f (by decide) (br_f (by decide) (br_f (by decide) (br_f (by decide) (br_f (by decide) (br_f (by decide) (br_f (by decide) (br_f (by decide) (br_f (by decide) (br_f (by decide) (br_t (by decide) ?_))))))))))))
        rw [ei, eS]
        have q := zx_c74 (g := g) (n := n) (s := s) (a := a) (post := (fun u => match u with | (fl, cl, ms, fu, cnt, opn, tu, oc, fc, cu, pu, mk, lr, us, dep, top, pc, tr, pa, lo, tb, re, sta, len, ops, imm, sT, sF, sM, oT, fK, fT, fH, fU, fS, fC, arg, glo, mem, aF, aA, aT, cel, loc) => post (fl, cl, ms, fu, cnt, opn, tu, oc, fc, cu, pu, mk, lr, us, dep, top, pc, tr, pa, lo, tb, re, sta, len, ops, imm, sT, sF, sM, oT, fK, fT, fH, fU, fS, fC, arg, glo, mem, aF, aA, aT, cel, loc))) (us := nI (w + 1)) (top := nI (12 * a + (s + n))) (pc := nI (p + 1)) (tr := 0) (aA := upd aA a (nI p)) ha (by omega) (by omega) (zx_beg (by omega) (by omega) en (by omega) hp) n 0 9 (by omega) (by omega)
        rw [zl_e] at q
        refine br_t (by rw [hfu]; exact nI_lt hw (by omega)) (nm_r (nI_1 w) (br_f (by decide) (br_t (nI_lt (b := 8) (by omega) (by decide)) ⟨hin, nm_r (e' := nI n) (by rw [ecg, en]) (nm_r (e' := nI (12 * a + s)) ?_ (br_t ?_ (nm_r (e' := nI (8 * (a + 1))) ?_ ⟨9, q⟩)))⟩)))
        · rw [show nI (12 * a + (s + n)) - nI n = nI (12 * a + (s + n) - n) from pk_sub (by omega)]
          exact congrArg nI (by omega)
        · rw [zx_d12]; exact nI_le (by omega) (by omega)
        · rw [show nI (a + 1) * 8 = nI ((a + 1) * 8) from pk_mul (a + 1) 8, Nat.mul_comm]
      · refine zy_hd r1 rfl t2 t3 (by omega) (by omega) (zy_277 (by decide) (by decide) ?_)
        refine br_f (by decide) (br_f (by decide) (br_f (by decide) (br_f (by decide) (br_f (by decide) (br_t (by decide) ?_)))))
        rw [ei]
        have q := zy_c429 (cel := cel) (tk := tk) (aZ := aZ) (loc := loc) (g := g) (n := n) (s := s) (a := a) (post := post) (us := nI (w + 1)) (nx := nI (p + 1)) (byt := fun j => mem j &&& 255) ha (by omega) (by omega) (by omega) hV (zy_beg (by omega) (by omega) en (by omega) hp) n 9 (Nat.le_refl _) (by omega)
        rw [zl_e, if_pos rfl, zl_id (by rw [t5, eS])] at q
        refine br_f (by rw [hfu]; intro y; have := (nI_eq (by omega) (by omega)).mp y; omega) (nm_r (nI_1 w) (br_t rfl (br_t (nI_lt (b := 8) (by omega) (by decide)) (br_t rfl ⟨hin, nm_r (e' := zy_ix n) (by rw [ecg, en]; exact zy_ixp) ⟨9, q⟩⟩))))
      · refine Or.inr (Or.inr ⟨a + 1, g, 0, w + 1, rfl, rfl, rfl, rfl, by rw [h0.1]; rfl, rfl, rfl, ⟨by omega, by omega, fun b hb => ?_, ⟨hg, pk_us, pk_us, hp0, ?_, ?_, ⟨?_, ?_⟩, ?_, ?_⟩, r5⟩, ?_⟩)
        · by_cases y : b = a
          · subst y
            refine ⟨f, g, p, s, ⟨t1, hg, by rw [pk_un (by omega)]; exact t2, pk_us, by rw [pk_un (by omega)]; exact pk_us, by rw [pk_un (by omega), pk_un (by omega)]; exact t3, pk_us, by rw [pk_un (by omega)]; exact pk_us, hp1, by omega⟩, fun i hi2 => ?_, ⟨?_, fun j hj => ?_⟩, fun d hd => ?_, ?_, fun y => ?_, fun i hi2 e => ?_⟩
            · rw [s1', zs_T i hi2]; exact t6 i (by omega)
            · rw [pk_un (by omega), s1', zs_D]; exact t7.1
            · rw [s1', zs_D] at hj
              rw [s1', zs_A, zs_H]; exact t7.2 j hj
            · rw [s1', zs_D] at hd
              rw [s1', zs_U rfl]; exact t8 d hd
            · rw [s1', zs_S rfl]
            · rw [s1', zs_Tc rfl y]
            · rw [zl_out (by omega), zl_out (by omega)]; exact t9 i hi2 e
          · refine zu_Cf H (a := a) (by omega) (fun x hx => pk_un (by omega)) (fun x hx => by rw [pk_un (by omega), pk_un (by omega)]) (fun x hx => pk_un (by omega)) (fun x hx => by rw [pk_un (by omega), pk_un (by omega)]) (fun x hx => by rw [pk_un (by omega), pk_un (by omega)]) (fun x hx => pk_un (by omega)) (fun y hy => ⟨rfl, rfl, by rw [zl_out (by omega), zl_out (by omega)]⟩) (fun _ _ => rfl) (fun _ _ => ⟨rfl, rfl⟩) (r3 b (by omega))
        · rw [pk_us, h0.1]; rfl
        · intro i hi2; rw [h0.1] at hi2; omega
        · rw [pk_us, h0.2.1]; rfl
        · intro j hj; rw [h0.2.1] at hj; omega
        · intro d hd
          rw [h0.2.1] at hd
          have e : d = 0 := by omega
          rw [e]; exact h0.2.2.2.2.2
        · intro i hi2 e
          by_cases y : i < n
          · rw [zl_out (by omega), zl_in (by omega) y, Nat.add_assoc]
            exact (t6 (s + i) (by omega)).2.2 (by rw [q3 i y]; exact e)
          · rw [zl_in (by omega) hi2]; exact zu_sx0
        · unfold zu_P
          have ew : zu_w (upd (upd aA a (nI p)) (a + 1) 0) (a + 1) = zu_w aA a + (63 - p) := by
            show zu_w (upd (upd aA a (nI p)) (a + 1) 0) a + (63 - (upd (upd aA a (nI p)) (a + 1) 0 a).toNatClampNeg) = _
            rw [zu_wc (aA := aA) a (fun b hb => by rw [pk_un (by omega), pk_un (by omega)]), pk_un (by omega), pk_us, nI_clamp (by have := hN.1; omega)]
          have := hN.1
          rw [ew]
          omega
    · have ea : a = 7 := by omega
      refine ⟨aP, nI (w + 1), nI (a + 1), nI (12 * a + zc_S (T f p)), nI (p + 1), 6, 6, nI (p + 1), tk, lr, mem, aF, upd aA a (nI p), aT, aZ, aL, lP, lF, vt, glo, cel, loc, val, Or.inl (fun post hp => ?_), fun post hp => ?_, zu_trap (by decide) R⟩
      · refine zx_hd r1 rfl rfl (by omega) t2 hN.2.1 hN.1 t4 (by omega) H1.2.1 hi (fun _ => ?_) (fun z => by omega) (fun z => by omega) (fun z => by omega)
        refine br_f (by decide) (br_f (by decide) (br_f (by decide) (br_f (by decide) (br_f (by decide) (br_f (by decide) (br_f (by decide) (br_f (by decide) (br_f (by decide) (br_f (by decide) (br_f (by decide) (br_f (by decide) (br_t (by decide) ?_))))))))))))
        exact br_t (by rw [hfu]; exact nI_lt hw (by omega)) (nm_r (nI_1 w) (br_f (by decide) (br_f (by rw [ea]; decide) hp)))
      · refine zy_hd r1 rfl t2 t3 (by omega) (by omega) (zy_277 (by decide) (by decide) ?_)
        refine br_f (by decide) (br_f (by decide) (br_f (by decide) (br_f (by decide) (br_f (by decide) (br_t (by decide) ?_)))))
        exact br_f (by rw [hfu]; intro y; have := (nI_eq (by omega) (by omega)).mp y; omega) (nm_r (nI_1 w) (br_t rfl (br_f (by rw [ea]; decide) (br_f (by decide) hp))))
  · have ew : w = nfu := by omega
    refine ⟨aP, nI w, nI (a + 1), nI (12 * a + zc_S (T f p)), nI (p + 1), 5, 5, nI (p + 1), tk, lr, mem, aF, upd aA a (nI p), aT, aZ, aL, lP, lF, vt, glo, cel, loc, val, Or.inl (fun post hp => ?_), fun post hp => ?_, zu_trap (by decide) R⟩
    · refine zx_hd r1 rfl rfl (by omega) t2 hN.2.1 hN.1 t4 (by omega) H1.2.1 hi (fun _ => ?_) (fun z => by omega) (fun z => by omega) (fun z => by omega)
      refine br_f (by decide) (br_f (by decide) (br_f (by decide) (br_f (by decide) (br_f (by decide) (br_f (by decide) (br_f (by decide) (br_f (by decide) (br_f (by decide) (br_f (by decide) (br_f (by decide) (br_f (by decide) (br_t (by decide) ?_))))))))))))
      exact br_f (by rw [hfu]; exact nI_nlt (by omega) (by omega)) (br_t rfl hp)
    · refine zy_hd r1 rfl t2 t3 (by omega) (by omega) (zy_277 (by decide) (by decide) ?_)
      refine br_f (by decide) (br_f (by decide) (br_f (by decide) (br_f (by decide) (br_f (by decide) (br_t (by decide) ?_)))))
      exact br_t (by rw [hfu, ew]) (br_f (by decide) (br_f (by decide) hp))
end
end
section
/-! the run: one turn, every instruction -/
section
variable {fl cl ms fu cnt opn tu oc fc cu pu mk us dep top pc tr er sz dp ytr nx tk : Int32} {lr : Int64} {pa lo tb re sta len ops sT sF sM oT fK fT fH fU fS fC mem aF aA aT ty kd bk hh dd aP aZ aL lP lF vt byt : Nat → Int32} {imm arg glo cel loc val : Nat → Int64} {nc nfu nms : Nat} {T : Nat → Nat → zc_C} {N : Nat → Nat} {a f p w k : Nat} {im : Int64}
theorem zu_lf (h : ∃ (us' dep' top' pc' tr' ytr' nx' tk' : Int32) (lr' : Int64) (mem' aF' aA' aT' aZ' aL' lP' lF' vt' : Nat → Int32) (glo' cel' loc' val' : Nat → Int64), zu_XS (zu_F nc nfu T N tb re aP us' dep' top' pc' tr' ytr' nx' aF' aA' aT' aZ' aL' lP' lF' vt' glo' cel' loc' val' a (zu_P nfu w p aA a - 1)) (fl, cl, ms, fu, cnt, opn, tu, oc, fc, cu, pu, mk, lr, nI w, nI (a + 1), nI (12 * a + zc_S (T f p)), nI p, 0, pa, lo, tb, re, sta, len, ops, imm, sT, sF, sM, oT, fK, fT, fH, fU, fS, fC, arg, glo, mem, aF, aA, aT, cel, loc) (fl, cl, ms, fu, cnt, opn, tu, oc, fc, cu, pu, mk, lr', us', dep', top', pc', tr', pa, lo, tb, re, sta, len, ops, imm, sT, sF, sM, oT, fK, fT, fH, fU, fS, fC, arg, glo', mem', aF', aA', aT', cel', loc') ∧ (∀ post : SY → Prop, post (fl, cl, ms, fu, cnt, opn, er, sz, dp, dep', ytr', nx', us', tk', lr', pa, lo, tb, re, sta, len, ops, ty, kd, bk, hh, dd, aF', aP, aZ', aL', lP', lF', vt', (fun j => mem' j &&& 255), imm, val', loc', glo', arg) → wpY_run post (fl, cl, ms, fu, cnt, opn, er, sz, dp, nI (a + 1), 0, nI (p + 1), nI w, tk, lr, pa, lo, tb, re, sta, len, ops, ty, kd, bk, hh, dd, aF, aP, aZ, aL, lP, lF, vt, (fun j => mem j &&& 255), imm, val, loc, glo, arg) (nI k) im) ∧ zu_F nc nfu T N tb re aP us' dep' top' pc' tr' ytr' nx' aF' aA' aT' aZ' aL' lP' lF' vt' glo' cel' loc' val' a (zu_P nfu w p aA a)) : ∃ (aP' : Nat → Int32) (us' dep' top' pc' tr' ytr' nx' tk' : Int32) (lr' : Int64) (mem' aF' aA' aT' aZ' aL' lP' lF' vt' : Nat → Int32) (glo' cel' loc' val' : Nat → Int64), zu_XS (zu_F nc nfu T N tb re aP' us' dep' top' pc' tr' ytr' nx' aF' aA' aT' aZ' aL' lP' lF' vt' glo' cel' loc' val' a (zu_P nfu w p aA a - 1)) (fl, cl, ms, fu, cnt, opn, tu, oc, fc, cu, pu, mk, lr, nI w, nI (a + 1), nI (12 * a + zc_S (T f p)), nI p, 0, pa, lo, tb, re, sta, len, ops, imm, sT, sF, sM, oT, fK, fT, fH, fU, fS, fC, arg, glo, mem, aF, aA, aT, cel, loc) (fl, cl, ms, fu, cnt, opn, tu, oc, fc, cu, pu, mk, lr', us', dep', top', pc', tr', pa, lo, tb, re, sta, len, ops, imm, sT, sF, sM, oT, fK, fT, fH, fU, fS, fC, arg, glo', mem', aF', aA', aT', cel', loc') ∧ (∀ post : SY → Prop, post (fl, cl, ms, fu, cnt, opn, er, sz, dp, dep', ytr', nx', us', tk', lr', pa, lo, tb, re, sta, len, ops, ty, kd, bk, hh, dd, aF', aP', aZ', aL', lP', lF', vt', (fun j => mem' j &&& 255), imm, val', loc', glo', arg) → wpY_run post (fl, cl, ms, fu, cnt, opn, er, sz, dp, nI (a + 1), 0, nI (p + 1), nI w, tk, lr, pa, lo, tb, re, sta, len, ops, ty, kd, bk, hh, dd, aF, aP, aZ, aL, lP, lF, vt, (fun j => mem j &&& 255), imm, val, loc, glo, arg) (nI k) im) ∧ zu_F nc nfu T N tb re aP' us' dep' top' pc' tr' ytr' nx' aF' aA' aT' aZ' aL' lP' lF' vt' glo' cel' loc' val' a (zu_P nfu w p aA a) := by
  obtain ⟨us', dep', top', pc', tr', ytr', nx', tk', lr', mem', aF', aA', aT', aZ', aL', lP', lF', vt', glo', cel', loc', val', A, B, C⟩ := h
  exact ⟨aP, us', dep', top', pc', tr', ytr', nx', tk', lr', mem', aF', aA', aT', aZ', aL', lP', lF', vt', glo', cel', loc', val', A, B, C⟩
theorem zu_all (H : zu_S pa tb re len ops sT sF sM imm nc T N) (hsg : zc_sg pa lo re nc) (R : zu_R nc nfu T N tb re aF aA aT aP aZ aL lP lF vt cel val loc glo a f p w) (hi : imm (64 * f + p) = im) (H1 : zt_1 pa tb re nc f (ops (64 * f + p)) im (T f p) (T f (p + 1)) p k) (hfu : fu = nI nfu) (h100 : nfu ≤ 100) (hms : ms = nI nms) (h64 : nms ≤ 64) : ∃ (aP' : Nat → Int32) (us' dep' top' pc' tr' ytr' nx' tk' : Int32) (lr' : Int64) (mem' aF' aA' aT' aZ' aL' lP' lF' vt' : Nat → Int32) (glo' cel' loc' val' : Nat → Int64), zu_XS (zu_F nc nfu T N tb re aP' us' dep' top' pc' tr' ytr' nx' aF' aA' aT' aZ' aL' lP' lF' vt' glo' cel' loc' val' a (zu_P nfu w p aA a - 1)) (fl, cl, ms, fu, cnt, opn, tu, oc, fc, cu, pu, mk, lr, nI w, nI (a + 1), nI (12 * a + zc_S (T f p)), nI p, 0, pa, lo, tb, re, sta, len, ops, imm, sT, sF, sM, oT, fK, fT, fH, fU, fS, fC, arg, glo, mem, aF, aA, aT, cel, loc) (fl, cl, ms, fu, cnt, opn, tu, oc, fc, cu, pu, mk, lr', us', dep', top', pc', tr', pa, lo, tb, re, sta, len, ops, imm, sT, sF, sM, oT, fK, fT, fH, fU, fS, fC, arg, glo', mem', aF', aA', aT', cel', loc') ∧ (∀ post : SY → Prop, post (fl, cl, ms, fu, cnt, opn, er, sz, dp, dep', ytr', nx', us', tk', lr', pa, lo, tb, re, sta, len, ops, ty, kd, bk, hh, dd, aF', aP', aZ', aL', lP', lF', vt', (fun j => mem' j &&& 255), imm, val', loc', glo', arg) → wpY_run post (fl, cl, ms, fu, cnt, opn, er, sz, dp, nI (a + 1), 0, nI (p + 1), nI w, tk, lr, pa, lo, tb, re, sta, len, ops, ty, kd, bk, hh, dd, aF, aP, aZ, aL, lP, lF, vt, (fun j => mem j &&& 255), imm, val, loc, glo, arg) (nI k) im) ∧ zu_F nc nfu T N tb re aP' us' dep' top' pc' tr' ytr' nx' aF' aA' aT' aZ' aL' lP' lF' vt' glo' cel' loc' val' a (zu_P nfu w p aA a) := by
  have hk := H1.1
  by_cases y : k = 0
  · subst y
    exact zu_lf (zu_o0 H hsg R hi H1)
  have y0 := y; clear y
  by_cases y : k = 1
  · subst y
    exact zu_lf (zu_oB H hsg R hi H1 (by decide))
  have y1 := y; clear y
  by_cases y : k = 2
  · subst y
    exact zu_lf (zu_oB H hsg R hi H1 (by decide))
  have y2 := y; clear y
  by_cases y : k = 3
  · subst y
    exact zu_lf (zu_o3 H hsg R hi H1)
  have y3 := y; clear y
  by_cases y : k = 4
  · subst y
    exact zu_lf (zu_o4 H hsg R hi H1)
  have y4 := y; clear y
  by_cases y : k = 5
  · subst y
    by_cases z : zc_D (T f p) = 1
    · exact zu_lf (zu_o5e H hsg R hi H1 z)
    · exact zu_lf (zu_o5 H hsg R hi H1 (by have := H1.2.2.1.1; omega))
  have y5 := y; clear y
  by_cases y : k = 6
  · subst y
    exact zu_lf (zu_o6 H hsg R hi H1 hfu h100)
  have y6 := y; clear y
  by_cases y : k = 7
  · subst y
    exact zu_lf (zu_o7 H hsg R hi H1 hfu h100)
  have y7 := y; clear y
  by_cases y : k = 8
  · subst y
    exact zu_lf (zu_o8 H hsg R hi H1 hfu h100)
  have y8 := y; clear y
  by_cases y : k = 9
  · subst y
    exact zu_lf (zu_o9 H hsg R hi H1)
  have y9 := y; clear y
  by_cases y : k = 10
  · subst y
    exact zu_o10 H hsg R hi H1 hfu h100
  have y10 := y; clear y
  by_cases y : k = 11
  · subst y
    exact zu_lf (zu_o11 H hsg R hi H1)
  have y11 := y; clear y
  by_cases y : k = 12
  · subst y
    exact zu_lf (zu_o12 H hsg R hi H1)
  have y12 := y; clear y
  by_cases y : k = 13
  · subst y
    exact zu_lf (zu_o13 H hsg R hi H1)
  have y13 := y; clear y
  by_cases y : k = 14
  · subst y
    exact zu_lf (zu_o14 H hsg R hi H1)
  have y14 := y; clear y
  by_cases y : k = 15
  · subst y
    exact zu_lf (zu_o15 H hsg R hi H1)
  have y15 := y; clear y
  by_cases y : k = 16
  · subst y
    exact zu_lf (zu_o16 H hsg R hi H1)
  have y16 := y; clear y
  by_cases y : k = 17
  · subst y
    exact zu_lf (zu_o17 H hsg R hi H1)
  have y17 := y; clear y
  by_cases y : k = 18
  · subst y
    exact zu_lf (zu_o18 H hsg R hi H1)
  have y18 := y; clear y
  by_cases y : k = 19
  · subst y
    exact zu_lf (zu_o19 H hsg R hi H1)
  have y19 := y; clear y
  by_cases y : k = 20
  · subst y
    exact zu_lf (zu_o20 H hsg R hi H1)
  have y20 := y; clear y
  by_cases y : k = 21
  · subst y
    exact zu_lf (zu_o21 H hsg R hi H1)
  have y21 := y; clear y
  by_cases y : k = 22
  · subst y
    exact zu_lf (zu_o22 H hsg R hi H1)
  have y22 := y; clear y
  by_cases y : k = 23
  · subst y
    exact zu_lf (zu_o23 H hsg R hi H1)
  have y23 := y; clear y
  by_cases y : k = 24
  · subst y
    exact zu_lf (zu_o24 H hsg R hi H1)
  have y24 := y; clear y
  by_cases y : k = 25
  · subst y
    exact zu_lf (zu_o25 H hsg R hi H1)
  have y25 := y; clear y
  by_cases y : k = 26
  · subst y
    exact zu_lf (zu_o26 H hsg R hi H1)
  have y26 := y; clear y
  by_cases y : k = 27
  · subst y
    exact zu_lf (zu_o27 H hsg R hi H1)
  have y27 := y; clear y
  by_cases y : k = 28
  · subst y
    exact zu_lf (zu_o28 H hsg R hi H1)
  have y28 := y; clear y
  by_cases y : k = 29
  · subst y
    exact zu_lf (zu_o29 H hsg R hi H1)
  have y29 := y; clear y
  by_cases y : k = 30
  · subst y
    exact zu_lf (zu_o30 H hsg R hi H1)
  have y30 := y; clear y
  by_cases y : k = 31
  · subst y
    exact zu_lf (zu_o31 H hsg R hi H1)
  have y31 := y; clear y
  by_cases y : k = 32
  · subst y
    exact zu_lf (zu_o32 H hsg R hi H1)
  have y32 := y; clear y
  by_cases y : k = 33
  · subst y
    exact zu_lf (zu_o33 H hsg R hi H1)
  have y33 := y; clear y
  by_cases y : k = 34
  · subst y
    exact zu_lf (zu_o34 H hsg R hi H1)
  have y34 := y; clear y
  by_cases y : k = 35
  · subst y
    exact zu_lf (zu_o35 H hsg R hi H1)
  have y35 := y; clear y
  by_cases y : k = 36
  · subst y
    exact zu_lf (zu_o36 H hsg R hi H1)
  have y36 := y; clear y
  by_cases y : k = 37
  · subst y
    exact zu_lf (zu_o37 H hsg R hi H1)
  have y37 := y; clear y
  by_cases y : k = 38
  · subst y
    exact zu_lf (zu_o38 H hsg R hi H1 hms h64)
  have y38 := y; clear y
  by_cases y : k = 39
  · subst y
    exact zu_lf (zu_o39 H hsg R hi H1 hms h64)
  have y39 := y; clear y
  by_cases y : k = 40
  · subst y
    exact zu_lf (zu_o40 H hsg R hi H1 hms h64)
  have y40 := y; clear y
  by_cases y : k = 41
  · subst y
    exact zu_lf (zu_o41 H hsg R hi H1 hms h64)
  have y41 := y; clear y
  omega
end
end
section
/-! the two loops -/
theorem zl_np {a : Nat} (h : a + 1 < 2 ^ 31) : ¬ nI (a + 1) ≤ 0 := fun z => by
  have q : nI (a + 1) ≤ nI 0 := z
  have := (nI_leI h (by decide)).mp q
  omega
section
variable {fl cl ms fu cnt opn tu oc fc cu pu mk us dep top pc tr er sz dp ytr nx tk : Int32} {lr : Int64} {pa lo tb re sta len ops sT sF sM oT fK fT fH fU fS fC mem aF aA aT ty kd bk hh dd aP aZ aL lP lF vt byt : Nat → Int32} {imm arg glo cel loc val : Nat → Int64} {nc nfu nms : Nat} {T : Nat → Nat → zc_C} {N : Nat → Nat} {a f p w k : Nat} {im : Int64}
/-- a turn of the component: one step, or two -/
theorem zx_turn {us' dep' top' pc' tr' : Int32} {lr' : Int64} {mem' aF' aA' aT' : Nat → Int32} {glo' cel' loc' : Nat → Int64} {F : Nat → Prop} {P : Nat} (A : zu_XS (F (P - 1)) (fl, cl, ms, fu, cnt, opn, tu, oc, fc, cu, pu, mk, lr, us, dep, top, pc, tr, pa, lo, tb, re, sta, len, ops, imm, sT, sF, sM, oT, fK, fT, fH, fU, fS, fC, arg, glo, mem, aF, aA, aT, cel, loc) (fl, cl, ms, fu, cnt, opn, tu, oc, fc, cu, pu, mk, lr', us', dep', top', pc', tr', pa, lo, tb, re, sta, len, ops, imm, sT, sF, sM, oT, fK, fT, fH, fU, fS, fC, arg, glo', mem', aF', aA', aT', cel', loc')) (C : F P) :
    ∃ e, e ≤ 1 ∧ F (P - e) ∧ ∀ (post : SX → Prop) (x1 fuel : Nat), x1 + e < 8192 → ((tr' = 0 → ((dep' = 0 → post (fl, cl, ms, fu, cnt, opn, tu, oc, fc, cu, pu, mk, lr', us', dep', top', pc', tr', pa, lo, tb, re, sta, len, ops, imm, sT, sF, sM, oT, fK, fT, fH, fU, fS, fC, arg, glo', mem', aF', aA', aT', cel', loc')) ∧ (¬ dep' = 0 → ∀ x : Int32, x = nI (x1 + e) + 1 → wX_run_2 post fuel x fl cl ms fu cnt opn tu oc fc cu pu mk lr' us' dep' top' pc' tr' pa lo tb re sta len ops imm sT sF sM oT fK fT fH fU fS fC arg glo' mem' aF' aA' aT' cel' loc'))) ∧ (¬ tr' = 0 → post (fl, cl, ms, fu, cnt, opn, tu, oc, fc, cu, pu, mk, lr', us', dep', top', pc', tr', pa, lo, tb, re, sta, len, ops, imm, sT, sF, sM, oT, fK, fT, fH, fU, fS, fC, arg, glo', mem', aF', aA', aT', cel', loc'))) → wX_run_2 post (fuel + 1 + e) (nI x1) fl cl ms fu cnt opn tu oc fc cu pu mk lr us dep top pc tr pa lo tb re sta len ops imm sT sF sM oT fK fT fH fU fS fC arg glo mem aF aA aT cel loc := by
  rcases A with A | ⟨Q, u1, h, A1, A2⟩
  · exact ⟨0, by omega, C, fun post x1 fuel hx h => pk_le 8192 x1 (fun _ => by omega) (fun _ => A _ h)⟩
  · refine ⟨1, by omega, Q, fun post x1 fuel hx hp => pk_le 8192 x1 (fun _ => by omega) (fun _ => A1 _ ?_)⟩
    rcases u1 with ⟨fl1, cl1, ms1, fu1, cnt1, opn1, tu1, oc1, fc1, cu1, pu1, mk1, lr1, us1, dep1, top1, pc1, tr1, pa1, lo1, tb1, re1, sta1, len1, ops1, imm1, sT1, sF1, sM1, oT1, fK1, fT1, fH1, fU1, fS1, fC1, arg1, glo1, mem1, aF1, aA1, aT1, cel1, loc1⟩
    obtain ⟨h1, h2⟩ := h
    exact br_t h1 (br_f h2 (nm_r (nI_1 x1) (pk_le 8192 (x1 + 1) (fun _ => by omega) (fun _ => A2 _ hp))))
/-- a turn of the reference -/
theorem zy_turn {us' dep' ytr' nx' tk' : Int32} {lr' : Int64} {mem' aF' aP' aZ' aL' lP' lF' vt' : Nat → Int32} {glo' val' loc' : Nat → Int64} (hc : cnt = nI nc) (h4 : nc ≤ 4) (H : zu_S pa tb re len ops sT sF sM imm nc T N) (ha : a ≤ 7) (hf : f < nc) (hF : aF a = nI f) (hP : aP a = nI p) (hp : p < N f) (ho : ops (64 * f + p) = nI k) (hi : imm (64 * f + p) = im)
    (B : ∀ post : SY → Prop, post (fl, cl, ms, fu, cnt, opn, er, sz, dp, dep', ytr', nx', us', tk', lr', pa, lo, tb, re, sta, len, ops, ty, kd, bk, hh, dd, aF', aP', aZ', aL', lP', lF', vt', (fun j => mem' j &&& 255), imm, val', loc', glo', arg) → wpY_run post (fl, cl, ms, fu, cnt, opn, er, sz, dp, nI (a + 1), 0, nI (p + 1), nI w, tk, lr, pa, lo, tb, re, sta, len, ops, ty, kd, bk, hh, dd, aF, aP, aZ, aL, lP, lF, vt, (fun j => mem j &&& 255), imm, val, loc, glo, arg) (nI k) im) {post : Int32 → SY → Prop} {x2 fuel : Nat} (hx : x2 < 7000)
    (h : wY_invoke_218 post (wY_invoke_117 post fuel) (nI x2) fl cl ms fu cnt opn er sz dp dep' ytr' nx' us' tk' lr' pa lo tb re sta len ops ty kd bk hh dd aF' aP' aZ' aL' lP' lF' vt' ((fun j => mem' j &&& 255)) imm val' loc' glo' arg) : wY_invoke_117 post (fuel + 1) (nI x2) fl cl ms fu cnt opn er sz dp (nI (a + 1)) 0 nx (nI w) tk lr pa lo tb re sta len ops ty kd bk hh dd aF aP aZ aL lP lF vt ((fun j => mem j &&& 255)) imm val loc glo arg := by
  have hN := (H f hf).1
  have hin : vp_in (nI (a + 1) - 1) 8 := by rw [zx_d1]; exact vp_in_nI (by omega) (by decide)
  have ec : (nI (a + 1) - 1).toNatClampNeg = a := by rw [zx_d1]; exact nI_clamp (by omega)
  have ea : (64 : Int32) * nI f + nI p = nI (64 * f + p) := by
    rw [show (64 : Int32) * nI f = nI (64 * f) from pk_mul 64 f, nI_add]
  have hinA : vp_in ((64 : Int32) * nI f + nI p) 256 := by rw [ea]; exact vp_in_nI (by omega) (by decide)
  refine pk_le 7000 x2 (fun _ => by omega) (fun _ => br_t rfl (br_f (zl_np (by omega)) ⟨hin, nm_r (e' := nI f) (by rw [ec, hF]) ⟨hin, nm_r (e' := nI p) (by rw [ec, hP]) (nm_r (nI_1 p) (zy_has hc h4 (fun g hg => ⟨N g, (H g hg).1, (H g hg).2.1⟩) (fun z => ?_) (fun z => br_f (by decide) ⟨hinA, hinA, ?_⟩)))⟩⟩))
  · exact absurd ⟨f, p, N f, hf, rfl, hN, (H f hf).2.1, hp, rfl⟩ z
  · rw [ea, nI_clamp (by omega), ho, hi]
    exact B _ h
/-- the two loops -/
theorem zu_main (hc : cnt = nI nc) (H : zu_S pa tb re len ops sT sF sM imm nc T N) (hsg : zc_sg pa lo re nc) (hfu : fu = nI nfu) (h100 : nfu ≤ 100) (hms : ms = nI nms) (h64 : nms ≤ 64) : ∀ (m a f p w : Nat) (nx tk : Int32) (lr : Int64) (mem aF aA aT aP aZ aL lP lF vt : Nat → Int32) (glo cel loc val : Nat → Int64),
    zu_R nc nfu T N tb re aF aA aT aP aZ aL lP lF vt cel val loc glo a f p w → zu_P nfu w p aA a ≤ m →
    ∃ (us' dep' top' pc' tr' ytr' nx' tk' : Int32) (lr' : Int64) (mem' aF' aA' aT' aP' aZ' aL' lP' lF' vt' : Nat → Int32) (glo' cel' loc' val' : Nat → Int64),
      (∀ (post : SX → Prop) (x1 fuel : Nat), x1 + zu_P nfu w p aA a + 2 ≤ 8192 → zu_P nfu w p aA a + 3 ≤ fuel → post (fl, cl, ms, fu, cnt, opn, tu, oc, fc, cu, pu, mk, lr', us', dep', top', pc', tr', pa, lo, tb, re, sta, len, ops, imm, sT, sF, sM, oT, fK, fT, fH, fU, fS, fC, arg, glo', mem', aF', aA', aT', cel', loc') → wX_run_2 post fuel (nI x1) fl cl ms fu cnt opn tu oc fc cu pu mk lr (nI w) (nI (a + 1)) (nI (12 * a + zc_S (T f p))) (nI p) 0 pa lo tb re sta len ops imm sT sF sM oT fK fT fH fU fS fC arg glo mem aF aA aT cel loc) ∧
      (∀ (post : Int32 → SY → Prop) (x2 fuel : Nat), x2 + zu_P nfu w p aA a + 2 ≤ 7000 → zu_P nfu w p aA a + 3 ≤ fuel → post tr' (fl, cl, ms, fu, cnt, opn, er, sz, dp, dep', ytr', nx', us', tk', lr', pa, lo, tb, re, sta, len, ops, ty, kd, bk, hh, dd, aF', aP', aZ', aL', lP', lF', vt', (fun j => mem' j &&& 255), imm, val', loc', glo', arg) → wY_invoke_117 post fuel (nI x2) fl cl ms fu cnt opn er sz dp (nI (a + 1)) 0 nx (nI w) tk lr pa lo tb re sta len ops ty kd bk hh dd aF aP aZ aL lP lF vt ((fun j => mem j &&& 255)) imm val loc glo arg) ∧
      (∃ nd, dep' = nI nd ∧ nd ≤ 8 ∧ ∀ b, b < nd → aA' b = aP' b) ∧ zu_sx (glo' 0)
  | 0, a, f, p, w, nx, tk, lr, mem, aF, aA, aT, aP, aZ, aL, lP, lF, vt, glo, cel, loc, val, R, hP => by
    have h1 := R.2.2.2.1.2.2.2.1
    have h2 := (H f R.2.2.2.1.1).1
    unfold zu_P at hP
    omega
  | m + 1, a, f, p, w, nx, tk, lr, mem, aF, aA, aT, aP, aZ, aL, lP, lF, vt, glo, cel, loc, val, R, hP => by
    obtain ⟨r1, r2, r3, ⟨t1, t2, t3, t4, t5, t6, t7, t8, t9⟩, r5⟩ := id R
    have hP1 : 1 ≤ zu_P nfu w p aA a := by
      have := (H f t1).1
      unfold zu_P; omega
    have h4 := hsg.1
    obtain ⟨k, H1⟩ := (H f t1).2.2.1.2 p t4
    obtain ⟨aP', us', dep', top', pc', tr', ytr', nx', tk', lr', mem', aF', aA', aT', aZ', aL', lP', lF', vt', glo', cel', loc', val', A, B, C⟩ := zu_all (k := k) (fl := fl) (cl := cl) (ms := ms) (fu := fu) (cnt := cnt) (opn := opn) (tu := tu) (oc := oc) (fc := fc) (cu := cu) (pu := pu) (mk := mk) (lr := lr) (pa := pa) (lo := lo) (tb := tb) (re := re) (sta := sta) (len := len) (ops := ops) (imm := imm) (sT := sT) (sF := sF) (sM := sM) (oT := oT) (fK := fK) (fT := fT) (fH := fH) (fU := fU) (fS := fS) (fC := fC) (arg := arg) (glo := glo) (mem := mem) (aF := aF) (aA := aA) (aT := aT) (cel := cel) (loc := loc) (er := er) (sz := sz) (dp := dp) (tk := tk) (ty := ty) (kd := kd) (bk := bk) (hh := hh) (dd := dd) (aP := aP) (aZ := aZ) (aL := aL) (lP := lP) (lF := lF) (vt := vt) (val := val) H hsg R rfl H1 hfu h100 hms h64
    obtain ⟨e, he, C', AX⟩ := zx_turn (F := fun P => zu_F nc nfu T N tb re aP' us' dep' top' pc' tr' ytr' nx' aF' aA' aT' aZ' aL' lP' lF' vt' glo' cel' loc' val' a P) A C
    generalize eP : zu_P nfu w p aA a = P at *
    rcases C' with ⟨c1, c2, c3, c4, c5⟩ | ⟨c1, c2, c3, c4⟩ | ⟨a2, f2, p2, w2, c1, c2, c3, c4, c5, c6, c7, R2, hP2⟩
    · refine ⟨us', dep', top', pc', tr', ytr', nx', tk', lr', mem', aF', aA', aT', aP', aZ', aL', lP', lF', vt', glo', cel', loc', val', fun post x1 fuel b1 b2 hp => ?_, fun post x2 fuel b1 b2 hp => ?_, ⟨a + 1, c3, by omega, fun b hb => c4 b (by omega)⟩, c5⟩
      · obtain ⟨fuel', rfl⟩ : ∃ q, fuel = q + 1 + e := ⟨fuel - 1 - e, by omega⟩
        exact AX post x1 fuel' (by omega) (br_f c1 hp)
      · obtain ⟨fuel', rfl⟩ : ∃ q, fuel = q + 1 + 1 := ⟨fuel - 2, by omega⟩
        have c2' : ¬ ytr' = 0 := by rw [c2]; exact c1
        rw [← c2] at hp
        exact zy_turn hc h4 H r1 t1 t2 t3 t4 H1.2.1 rfl B (by omega) (br_f c2' (nm_r (nI_1 x2) (pk_le 7000 (x2 + 1) (fun _ => by omega) (fun _ => br_f c2' (br_f c2' hp)))))
    · subst c1 c2 c3
      refine ⟨us', 0, top', pc', 0, 0, nx', tk', lr', mem', aF', aA', aT', aP', aZ', aL', lP', lF', vt', glo', cel', loc', val', fun post x1 fuel b1 b2 hp => ?_, fun post x2 fuel b1 b2 hp => ?_, ⟨0, rfl, by omega, fun b hb => by omega⟩, c4⟩
      · obtain ⟨fuel', rfl⟩ : ∃ q, fuel = q + 1 + e := ⟨fuel - 1 - e, by omega⟩
        exact AX post x1 fuel' (by omega) (br_t rfl (br_t rfl hp))
      · obtain ⟨fuel', rfl⟩ : ∃ q, fuel = q + 1 + 1 := ⟨fuel - 2, by omega⟩
        exact zy_turn hc h4 H r1 t1 t2 t3 t4 H1.2.1 rfl B (by omega) (br_t rfl (br_t (by decide) (nm_r (nI_1 x2) (pk_le 7000 (x2 + 1) (fun _ => by omega) (fun _ => br_t rfl (br_t (by decide) (br_t rfl (br_t (by decide) hp))))))))
    · subst c1 c2 c3 c4 c5 c6 c7
      have hP3 : zu_P nfu w2 p2 aA' a2 < P - e := hP2
      obtain ⟨us2, dep2, top2, pc2, tr2, ytr2, nx2, tk2, lr2, mem2, aF2, aA2, aT2, aP2, aZ2, aL2, lP2, lF2, vt2, glo2, cel2, loc2, val2, IX, IY, I3, I4⟩ := zu_main hc H hsg hfu h100 hms h64 m a2 f2 p2 w2 (nI p2) tk' lr' mem' aF' aA' aT' (upd aP' a2 (nI p2)) aZ' aL' lP' lF' vt' glo' cel' loc' val' R2 (by omega)
      have ha2 := R2.1
      refine ⟨us2, dep2, top2, pc2, tr2, ytr2, nx2, tk2, lr2, mem2, aF2, aA2, aT2, aP2, aZ2, aL2, lP2, lF2, vt2, glo2, cel2, loc2, val2, fun post x1 fuel b1 b2 hp => ?_, fun post x2 fuel b1 b2 hp => ?_, I3, I4⟩
      · obtain ⟨fuel', rfl⟩ : ∃ q, fuel = q + 1 + e := ⟨fuel - 1 - e, by omega⟩
        exact AX post x1 fuel' (by omega) (br_t rfl (br_f (nI_ne0 (by omega) (by omega)) (nm_r (nI_1 (x1 + e)) (IX post (x1 + e + 1) fuel' (by omega) (by omega) hp))))
      · obtain ⟨fuel', rfl⟩ : ∃ q, fuel = q + 1 := ⟨fuel - 1, by omega⟩
        exact zy_turn hc h4 H r1 t1 t2 t3 t4 H1.2.1 rfl B (by omega) (br_t rfl (br_f (zl_np (by omega)) ⟨by rw [zx_d1]; exact vp_in_nI (by omega) (by decide), nm_r (e' := upd aP' a2 (nI p2)) (by rw [zx_d1, nI_clamp (by omega)]) (nm_r (nI_1 x2) (IY post (x2 + 1) fuel' (by omega) (by omega) hp))⟩))
end
end
section
/-! invoke -/
def zl_A (tb : Nat → Int32) (g : Nat) (arg : Nat → Int64) (i : Nat) : Int64 := zu_cut (zc_ly tb g (nI i)) (arg i)
theorem zl_up0 {L c : Nat → Int64} {i : Nat} : vp_updL (zl_G L c 0 0 0 i) i (c i) = zl_G L c 0 0 0 (i + 1) := by
  have q := zl_up (L := L) (c := c) (b := 0) (s := 0) (i := 0) (j := i) (Nat.zero_le _)
  rw [Nat.zero_add] at q
  exact q
section
variable {fl cl ms fu cnt opn tu oc fc cu pu mk us dep top pc tr er sz dp ytr nx tk : Int32} {lr : Int64} {pa lo tb re sta len ops sT sF sM oT fK fT fH fU fS fC mem aF aA aT ty kd bk hh dd aP aZ aL lP lF vt byt : Nat → Int32} {imm arg glo cel loc val : Nat → Int64} {nc nfu nms : Nat} {a f g n p w k : Nat} {im : Int64} {x1 : Int32}
theorem zx_i12 {post : Int32 → SX → Prop} (hc : cnt = nI nc) (h4 : nc ≤ 4) (h1 : (∀ g, g < nc → sta g = 2) → ∃ n61, wX_invoke_61 post x1 fl cl ms fu cnt opn tu oc fc cu pu mk 0 0 0 top pc 0 n61 0 pa lo tb re sta len ops imm sT sF sM oT fK fT fH fU fS fC arg glo mem aF aA aT cel loc) (h2 : ¬ (∀ g, g < nc → sta g = 2) → post (-3) (fl, cl, ms, fu, cnt, opn, tu, oc, fc, cu, pu, mk, lr, us, dep, top, pc, tr, pa, lo, tb, re, sta, len, ops, imm, sT, sF, sM, oT, fK, fT, fH, fU, fS, fC, arg, glo, mem, aF, aA, aT, cel, loc)) : ∀ (m i fuel : Nat), i + m = nc → (∀ g, g < i → sta g = 2) → m < fuel → wX_invoke_12 post x1 fl cl ms fu cnt opn tu oc fc cu pu mk lr us dep top pc tr pa lo tb re sta len ops imm sT sF sM oT fK fT fH fU fS fC arg glo mem aF aA aT cel loc fuel (nI i)
  | 0, i, fuel + 1, b1, b2, b3 => by
    have e : i = nc := by omega
    subst e
    exact br_t (by rw [hc]; exact nI_le (Nat.le_refl _) (by omega)) (h1 b2)
  | m + 1, i, fuel + 1, b1, b2, b3 => by
    have IH := zx_i12 hc h4 h1 h2 m (i + 1) fuel (by omega)
    refine pk_le nc i (fun _ => by omega) (fun _ => ⟨vp_in_nI (by omega) (by decide), ?_⟩) hc
    rw [nI_clamp (by omega)]
    by_cases y : sta i = 2
    · refine br_t y (nm_r (nI_1 i) (IH (fun g hg => ?_) (by omega)))
      by_cases z : g = i
      · rw [z]; exact y
      · exact b2 g (by omega)
    · exact br_f y (h2 (fun z => y (z i (by omega))))
theorem zy_i12 {post : Int32 → SY → Prop} (hc : cnt = nI nc) (h4 : nc ≤ 4) (h1 : (∀ g, g < nc → sta g = 2) → ∃ n61, wY_invoke_61 post x1 fl cl ms fu cnt opn er sz dp 0 0 nx 0 tk 0 n61 0 pa lo tb re sta len ops ty kd bk hh dd aF aP aZ aL lP lF vt byt imm val loc glo arg) (h2 : ¬ (∀ g, g < nc → sta g = 2) → post (-3) (fl, cl, ms, fu, cnt, opn, er, sz, dp, dep, ytr, nx, us, tk, lr, pa, lo, tb, re, sta, len, ops, ty, kd, bk, hh, dd, aF, aP, aZ, aL, lP, lF, vt, byt, imm, val, loc, glo, arg)) : ∀ (m i fuel : Nat), i + m = nc → (∀ g, g < i → sta g = 2) → m < fuel → wY_invoke_12 post x1 fl cl ms fu cnt opn er sz dp dep ytr nx us tk lr pa lo tb re sta len ops ty kd bk hh dd aF aP aZ aL lP lF vt byt imm val loc glo arg fuel (nI i)
  | 0, i, fuel + 1, b1, b2, b3 => by
    have e : i = nc := by omega
    subst e
    exact br_t (by rw [hc]; exact nI_le (Nat.le_refl _) (by omega)) (h1 b2)
  | m + 1, i, fuel + 1, b1, b2, b3 => by
    have IH := zy_i12 hc h4 h1 h2 m (i + 1) fuel (by omega)
    refine pk_le nc i (fun _ => by omega) (fun _ => ⟨vp_in_nI (by omega) (by decide), ?_⟩) hc
    rw [nI_clamp (by omega)]
    by_cases y : sta i = 2
    · refine br_t y (nm_r (nI_1 i) (IH (fun g hg => ?_) (by omega)))
      by_cases z : g = i
      · rw [z]; exact y
      · exact b2 g (by omega)
    · exact br_f y (h2 (fun z => y (z i (by omega))))
theorem zx_i61 {post : Int32 → SX → Prop} (hg : g < 4) (en : pa g = nI n) (hn : n ≤ 4) (h : wpX_begin (fun u => match u with | (fl, cl, ms, fu, cnt, opn, tu, oc, fc, cu, pu, mk, lr, us, dep, top, pc, tr, pa, lo, tb, re, sta, len, ops, imm, sT, sF, sM, oT, fK, fT, fH, fU, fS, fC, arg, glo, mem, aF, aA, aT, cel, loc) => wpX_run (fun u => match u with | (fl, cl, ms, fu, cnt, opn, tu, oc, fc, cu, pu, mk, lr, us, dep, top, pc, tr, pa, lo, tb, re, sta, len, ops, imm, sT, sF, sM, oT, fK, fT, fH, fU, fS, fC, arg, glo, mem, aF, aA, aT, cel, loc) => post tr (fl, cl, ms, fu, cnt, opn, tu, oc, fc, cu, pu, mk, lr, us, dep, top, pc, tr, pa, lo, tb, re, sta, len, ops, imm, sT, sF, sM, oT, fK, fT, fH, fU, fS, fC, arg, glo, mem, aF, aA, aT, cel, loc)) (fl, cl, ms, fu, cnt, opn, tu, oc, fc, cu, pu, mk, lr, us, dep, top, pc, tr, pa, lo, tb, re, sta, len, ops, imm, sT, sF, sM, oT, fK, fT, fH, fU, fS, fC, arg, glo, mem, aF, aA, aT, cel, loc)) (fl, cl, ms, fu, cnt, opn, tu, oc, fc, cu, pu, mk, lr, us, dep, top, pc, tr, pa, lo, tb, re, sta, len, ops, imm, sT, sF, sM, oT, fK, fT, fH, fU, fS, fC, arg, glo, mem, aF, aA, aT, cel, zl_G loc (zl_A tb g arg) 0 0 0 n) (nI g)) : ∀ (m i fuel : Nat), i + m = n → m < fuel →
    wX_invoke_61 post (nI g) fl cl ms fu cnt opn tu oc fc cu pu mk lr us dep top pc tr fuel (nI i) pa lo tb re sta len ops imm sT sF sM oT fK fT fH fU fS fC arg glo mem aF aA aT cel (zl_G loc (zl_A tb g arg) 0 0 0 i)
  | 0, i, fuel + 1, b1, b3 => by
    have e : i = n := by omega
    subst e
    refine ⟨vp_in_nI hg (by decide), ?_⟩
    rw [nI_clamp (by omega), en]
    exact br_t (nI_le (Nat.le_refl _) (by omega)) h
  | m + 1, i, fuel + 1, b1, b3 => by
    have IH := zx_i61 hg en hn h m (i + 1) fuel (by omega) (by omega)
    have h4 : vp_in (nI i) 4 := vp_in_nI (by omega) (by decide)
    have h64 : vp_in (nI i) 64 := vp_in_nI (by omega) (by decide)
    have ec : (nI i).toNatClampNeg = i := nI_clamp (by omega)
    refine ⟨vp_in_nI hg (by decide), ?_⟩
    rw [nI_clamp (n := g) (by omega), en]
    refine pk_le n i (fun _ => by omega) (fun _ => zx_ly hg ?_)
    by_cases y : zc_ly tb g (nI i) = 1
    · have eA : zl_A tb g arg i = (arg i).toInt32.toInt64 := if_pos y
      refine br_t y ⟨h4, h64, nm_r (e' := zl_G loc (zl_A tb g arg) 0 0 0 (i + 1)) ?_ (nm_r (nI_1 i) IH)⟩
      rw [ec, ← eA]; exact zl_up0
    · have eA : zl_A tb g arg i = arg i := if_neg y
      refine br_f y ⟨h4, h64, nm_r (e' := zl_G loc (zl_A tb g arg) 0 0 0 (i + 1)) ?_ (nm_r (nI_1 i) IH)⟩
      rw [ec, ← eA]; exact zl_up0
theorem zy_i61 {post : Int32 → SY → Prop} (hg : g < 4) (en : pa g = nI n) (hn : n ≤ 4) (h : wpY_begin (fun u => match u with | (fl, cl, ms, fu, cnt, opn, er, sz, dp, dep, ytr, nx, us, tk, lr, pa, lo, tb, re, sta, len, ops, ty, kd, bk, hh, dd, aF, aP, aZ, aL, lP, lF, vt, byt, imm, val, loc, glo, arg) => ∃ n117, wY_invoke_117 post n117 0 fl cl ms fu cnt opn er sz dp dep ytr nx us tk lr pa lo tb re sta len ops ty kd bk hh dd aF aP aZ aL lP lF vt byt imm val loc glo arg) (fl, cl, ms, fu, cnt, opn, er, sz, dp, dep, ytr, nx, us, tk, lr, pa, lo, tb, re, sta, len, ops, ty, kd, bk, hh, dd, aF, aP, aZ, aL, lP, lF, vt, byt, imm, val, zl_G loc (zl_A tb g arg) 0 0 0 n, glo, arg) (nI g)) : ∀ (m i fuel : Nat), i + m = n → m < fuel →
    wY_invoke_61 post (nI g) fl cl ms fu cnt opn er sz dp dep ytr nx us tk lr fuel (nI i) pa lo tb re sta len ops ty kd bk hh dd aF aP aZ aL lP lF vt byt imm val (zl_G loc (zl_A tb g arg) 0 0 0 i) glo arg
  | 0, i, fuel + 1, b1, b3 => by
    have e : i = n := by omega
    subst e
    refine ⟨vp_in_nI hg (by decide), ?_⟩
    rw [nI_clamp (by omega), en]
    exact br_t (nI_le (Nat.le_refl _) (by omega)) h
  | m + 1, i, fuel + 1, b1, b3 => by
    have IH := zy_i61 hg en hn h m (i + 1) fuel (by omega) (by omega)
    have h4 : vp_in (nI i) 4 := vp_in_nI (by omega) (by decide)
    have h64 : vp_in (nI i) 64 := vp_in_nI (by omega) (by decide)
    have ec : (nI i).toNatClampNeg = i := nI_clamp (by omega)
    refine ⟨vp_in_nI hg (by decide), ?_⟩
    rw [nI_clamp (n := g) (by omega), en]
    refine pk_le n i (fun _ => by omega) (fun _ => zy_ly hg ?_)
    by_cases y : zc_ly tb g (nI i) = 1
    · have eA : zl_A tb g arg i = (arg i).toInt32.toInt64 := if_pos y
      refine br_t y ⟨h4, h64, nm_r (e' := zl_G loc (zl_A tb g arg) 0 0 0 (i + 1)) ?_ (nm_r (nI_1 i) IH)⟩
      rw [ec, ← eA]; exact zl_up0
    · have eA : zl_A tb g arg i = arg i := if_neg y
      refine br_f y ⟨h4, h64, nm_r (e' := zl_G loc (zl_A tb g arg) 0 0 0 (i + 1)) ?_ (nm_r (nI_1 i) IH)⟩
      rw [ec, ← eA]; exact zl_up0
/-- traces of all functions at once -/
theorem zu_ch (hg : g < nc) (h : ∀ x, x < nc → zr_CO pa tb re len ops sT sF sM imm nc x) : ∃ (T : Nat → Nat → zc_C) (N : Nat → Nat), zu_S pa tb re len ops sT sF sM imm nc T N := by
  obtain ⟨T0, n0, _⟩ := h g hg
  have q : ∀ x, ∃ t : (Nat → zc_C) × Nat, x < nc → t.2 ≤ 64 ∧ len x = nI t.2 ∧ zt_F pa tb re nc x (fun i => ops (64 * x + i)) (fun i => imm (64 * x + i)) t.1 t.2 ∧ zc_D (t.1 t.2) = 0 ∧
      zw_R (fun i => ops (64 * x + i)) (fun i => imm (64 * x + i)) t.1 t.2 (fun s => sT (96 * x + s)) (fun s => sF (96 * x + s)) (fun s => sM (96 * x + s)) := fun x => by
    by_cases z : x < nc
    · obtain ⟨T, n, b⟩ := h x z
      exact ⟨(T, n), fun _ => b⟩
    · exact ⟨(T0, n0), fun y => absurd y z⟩
  obtain ⟨F, hF⟩ := Classical.axiomOfChoice q
  exact ⟨fun x => (F x).1, fun x => (F x).2, fun x hx => hF x hx⟩
/-- the start -/
theorem zu_R0 {T : Nat → Nat → zc_C} {N : Nat → Nat} (H : zu_S pa tb re len ops sT sF sM imm nc T N) (hg : g < nc) (hgl : zu_sx (glo 0)) : zu_R nc nfu T N tb re (upd aF 0 (nI g)) (upd aA 0 0) aT (upd aP 0 0) (upd aZ 0 0) (upd aL 0 0) lP lF vt cel val (zl_G (zl_G loc (zl_A tb g arg) 0 0 0 n) (fun _ => 0) (8 * 0) 0 n 8) glo 0 g 0 0 := by
  have h0 := (H g hg).2.2.1.1
  have hp0 : 0 < N g := zu_lt H hg (by omega) (by rw [h0.2.1]; exact Nat.le_refl _)
  refine ⟨by omega, by omega, fun b hb => by omega, ⟨hg, pk_us, pk_us, hp0, ?_, ?_, ⟨?_, ?_⟩, ?_, ?_⟩, hgl⟩
  · rw [pk_us, h0.1]; rfl
  · intro i hi2; rw [h0.1] at hi2; omega
  · rw [pk_us, h0.2.1]; rfl
  · intro j hj; rw [h0.2.1] at hj; omega
  · intro d hd
    rw [h0.2.1] at hd
    have e : d = 0 := by omega
    rw [e]; exact h0.2.2.2.2.2
  · intro i hi2 e
    by_cases y : i < n
    · rw [zl_out (by omega)]
      have q : zl_G loc (zl_A tb g arg) 0 0 0 n (0 + i) = zl_A tb g arg (0 + i) := zl_in (Nat.zero_le _) y
      rw [show 8 * 0 + i = 0 + i from rfl, q, Nat.zero_add]
      have eA : zl_A tb g arg i = (arg i).toInt32.toInt64 := if_pos e
      rw [eA]
      unfold zu_sx
      rw [Int32.toInt32_toInt64]
    · rw [zl_in (by omega) hi2]; exact zu_sx0
end
theorem i_vc_invoke {k : Nat} {u : SX} {v : SY} (I : i_Rel k u v) (hk : k + 5 ≤ 2564) (v1 : Int32) : wpX_invoke (fun r u' => wpY_invoke (fun r' v' => r' = r ∧ i_Rel (k + 5) u' v') v v1) u v1 := by
  refine zz_el (P := fun u v => wpX_invoke (fun r u' => wpY_invoke (fun r' v' => r' = r ∧ i_Rel (k + 5) u' v') v v1) u v1) ?_ I
  intro fl cl ms fu cnt opn tu oc fc cu pu mk us dep top pc tr er sz dp ytr nx tk lr pa lo tb re sta len ops sT sF sM oT fK fT fH fU fS fC mem aF aA aT ty kd bk hh dd aP aZ aL lP lF vt byt imm arg glo cel loc val hI
  obtain ⟨nc, nl, ncl, nms, nfu, nd, hnm, hd, hsg, hb, hg0, hfn, hop⟩ := id hI
  obtain ⟨c1, c2, c3, c4, c5, c6, c7, c8, c9, c10, c11⟩ := id hnm
  subst hb
  have h4 := hsg.1
  unfold wpX_invoke
  refine zx_dec c1 h4 (fun z => br_t rfl ?_) (fun g hg eg => br_f (by decide) ⟨nc + 1, ?_⟩)
  · unfold wpY_invoke
    exact zy_dec c1 h4 (fun _ => br_t rfl ⟨rfl, zz_in hI⟩) (fun g hg eg => absurd eg (z g hg))
  subst eg
  refine zx_i12 c1 h4 (fun hall => ?_) (fun hn => ?_) nc 0 (nc + 1) (by omega) (fun g hg => by omega) (by omega)
  rotate_left
  · unfold wpY_invoke
    refine zy_dec c1 h4 (fun z => absurd rfl (z g hg)) (fun g2 hg2 eg2 => br_f (by decide) ⟨nc + 1, ?_⟩)
    exact zy_i12 c1 h4 (fun hall => absurd hall hn) (fun _ => ⟨rfl, zz_in hI⟩) nc 0 (nc + 1) (by omega) (fun g hg => by omega) (by omega)
  obtain ⟨T, N, H⟩ := zu_ch (g := g) hg (fun x hx => (hfn.2 x hx).1 (hall x hx))
  obtain ⟨⟨n, hn4, en⟩, _, h3g⟩ := hsg.2 g hg
  obtain ⟨us', dep', top', pc', tr', ytr', nx', tk', lr', mem', aF', aA', aT', aP', aZ', aL', lP', lF', vt', glo', cel', loc', val', AX, AY, ⟨nd', d1, d2, d3⟩, A4⟩ :=
    zu_main (fl := fl) (cl := cl) (ms := ms) (fu := fu) (cnt := cnt) (opn := opn) (tu := tu) (oc := oc) (fc := fc) (cu := cu) (pu := pu) (mk := mk) (pa := pa) (lo := lo) (tb := tb) (re := re) (sta := sta) (len := len) (ops := ops) (imm := imm) (sT := sT) (sF := sF) (sM := sM) (oT := oT) (fK := fK) (fT := fT) (fH := fH) (fU := fU) (fS := fS) (fC := fC) (arg := arg) (er := er) (sz := sz) (dp := dp) (ty := ty) (kd := kd) (bk := bk) (hh := hh) (dd := dd) c1 H hsg c10 c11 c7 c8 6464 0 g 0 0 0 tk 0 mem (upd aF 0 (nI g)) (upd aA 0 0) aT (upd aP 0 0) (upd aZ 0 0) (upd aL 0 0) lP lF vt glo cel (zl_G (zl_G loc (zl_A tb g arg) 0 0 0 n) (fun _ => 0) (8 * 0) 0 n 8) val (zu_R0 H hg hg0) (by show 64 * (nfu - 0) + (64 - 0) + 0 ≤ 6464; omega)
  have eP : zu_P nfu 0 0 (upd aA 0 0) 0 ≤ 6464 := by show 64 * (nfu - 0) + (64 - 0) + 0 ≤ 6464; omega
  have eS : zc_S (T g 0) = 0 := (H g hg).2.2.1.1.1
  have hIn : zr_I fl cl ms fu cnt opn tu oc fc dep' pa lo tb re sta len ops sT sF sM oT fK fT fH fU fS fC mem' aA' (fun j => mem' j &&& 255) aP' imm glo' := ⟨nc, nl, ncl, nms, nfu, nd', hnm, ⟨d1, d2, d3⟩, hsg, rfl, A4, hfn, hop⟩
  refine ⟨n + 1, ?_⟩
  have qX := zx_i61 (loc := loc) (fl := fl) (cl := cl) (ms := ms) (fu := fu) (cnt := cnt) (opn := opn) (tu := tu) (oc := oc) (fc := fc) (cu := cu) (pu := pu) (mk := mk) (pa := pa) (lo := lo) (tb := tb) (re := re) (sta := sta) (len := len) (ops := ops) (imm := imm) (sT := sT) (sF := sF) (sM := sM) (oT := oT) (fK := fK) (fT := fT) (fH := fH) (fU := fU) (fS := fS) (fC := fC) (arg := arg) (glo := glo) (mem := mem) (aF := aF) (aA := aA) (aT := aT) (cel := cel) (post := fun r u' => wpY_invoke (fun r' v' => r' = r ∧ i_Rel (k + 5) u' v') (fl, cl, ms, fu, cnt, opn, er, sz, dp, dep, ytr, nx, us, tk, lr, pa, lo, tb, re, sta, len, ops, ty, kd, bk, hh, dd, aF, aP, aZ, aL, lP, lF, vt, (fun j => mem j &&& 255), imm, val, loc, glo, arg) (nI g)) (g := g) (n := n) (lr := 0) (us := 0) (dep := 0) (tr := 0) (top := top) (pc := pc) (by omega) en hn4 (zx_beg (a := 0) (by omega) (by omega) en (by omega) ⟨7000, ?_⟩) n 0 (n + 1) (by omega) (by omega)
  · rw [zl_e] at qX
    exact qX
  rw [eS] at AX
  refine AX _ 0 7000 (by omega) (by omega) ?_
  show wpY_invoke _ _ _
  unfold wpY_invoke
  refine zy_dec c1 h4 (fun z => absurd rfl (z g hg)) (fun g2 hg2 eg2 => br_f (by decide) ⟨nc + 1, ?_⟩)
  refine zy_i12 c1 h4 (fun _ => ⟨n + 1, ?_⟩) (fun z => absurd hall z) nc 0 (nc + 1) (by omega) (fun g hg => by omega) (by omega)
  have qY := zy_i61 (loc := loc) (fl := fl) (cl := cl) (ms := ms) (fu := fu) (cnt := cnt) (opn := opn) (er := er) (sz := sz) (dp := dp) (pa := pa) (lo := lo) (tb := tb) (re := re) (sta := sta) (len := len) (ops := ops) (ty := ty) (kd := kd) (bk := bk) (hh := hh) (dd := dd) (aF := aF) (aP := aP) (aZ := aZ) (aL := aL) (lP := lP) (lF := lF) (vt := vt) (imm := imm) (val := val) (glo := glo) (arg := arg) (post := fun r' v' => r' = tr' ∧ i_Rel (k + 5) (fl, cl, ms, fu, cnt, opn, tu, oc, fc, cu, pu, mk, lr', us', dep', top', pc', tr', pa, lo, tb, re, sta, len, ops, imm, sT, sF, sM, oT, fK, fT, fH, fU, fS, fC, arg, glo', mem', aF', aA', aT', cel', loc') v') (g := g) (n := n) (dep := 0) (ytr := 0) (us := 0) (lr := 0) (nx := nx) (tk := tk) (byt := fun j => mem j &&& 255) (by omega) en hn4 (zy_beg (a := 0) (by omega) (by omega) en (by omega) ⟨7000, ?_⟩) n 0 (n + 1) (by omega) (by omega)
  · rw [zl_e] at qY
    exact qY
  exact AY _ 0 7000 (by omega) (by omega) ⟨rfl, zz_in hIn⟩
end
