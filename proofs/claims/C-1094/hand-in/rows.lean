section
/-! pure rows to paste: stores, nI and lN arithmetic, masks, shifts, narrowing, branches by naturals (pk_le, pk_lt, pk_eq), loops (lp1 .. lp16: the measure of the state; rp1 ..: recursion), negatives. Take what you need -/
theorem pk_us {f : Nat → Int32} {k : Nat} {x : Int32} : upd f k x k = x := if_pos rfl
theorem pk_un {f : Nat → Int32} {k j : Nat} {x : Int32} (h : j ≠ k) : upd f k x j = f j := if_neg h
theorem pk_uLs {f : Nat → Int64} {k : Nat} {x : Int64} : vp_updL f k x k = x := if_pos rfl
theorem pk_uLn {f : Nat → Int64} {k j : Nat} {x : Int64} (h : j ≠ k) : vp_updL f k x j = f j := if_neg h
theorem pk_sub {a b : Nat} (h : b ≤ a) : nI a - nI b = nI (a - b) := by
  obtain ⟨c, rfl⟩ : ∃ c, a = c + b := ⟨a - b, by omega⟩
  rw [← nI_add, Int32.add_sub_cancel, Nat.add_sub_cancel]
theorem pk_m1 (n : Nat) : nI (n + 1) + (-1) = nI n := by
  rw [← nI_1, Int32.add_assoc, show (1 : Int32) + (-1) = 0 from rfl, Int32.add_zero]
theorem pk_mul (a b : Nat) : nI a * nI b = nI (a * b) := (Int32.ofNat_mul a b).symm
theorem pk_div {a d : Nat} (ha : a < 2 ^ 31) (h0 : 0 < d) (hd : d < 2 ^ 31) : nI a / nI d = nI (a / d) := by
  apply Int32.toInt_inj.mp
  rw [lg_idiv_nonneg (by rw [nI_toInt ha]; omega) (by rw [nI_toInt hd]; omega), nI_toInt ha, nI_toInt hd, nI_toInt (Nat.lt_of_le_of_lt (Nat.div_le_self a d) ha)]
  first | rfl | exact (Int.natCast_ediv _ _).symm
theorem pk_rem {a d : Nat} (ha : a < 2 ^ 31) (h0 : 0 < d) (hd : d < 2 ^ 31) : nI a - nI a / nI d * nI d = nI (a % d) := by
  rw [pk_div ha h0 hd, pk_mul, pk_sub (Nat.div_mul_le_self a d)]
  exact congrArg nI (by have := Nat.div_add_mod' a d; omega)
theorem pk_sub_toInt {a b : Nat} (ha : a < 2 ^ 30) (hb : b < 2 ^ 30) : (nI a - nI b).toInt = (a : Int) - b := by
  rw [Int32.toInt_sub, nI_toInt (by omega), nI_toInt (by omega)]
  exact Int.bmod_eq_of_le (by omega) (by omega)
theorem pk_sneg {a b : Nat} (hb : b < 2 ^ 30) (h : a < b) : nI a - nI b < 0 := by
  rw [Int32.lt_iff_toInt_lt, pk_sub_toInt (by omega) hb, show (0 : Int32).toInt = 0 from by decide]
  omega
theorem pk_ix (x : Int32) {n : Nat} (hn : n < 2 ^ 31) : x < 0 ∨ nI n ≤ x ∨ ∃ j : Nat, j < n ∧ x = nI j := by
  by_cases h : x < 0
  · exact Or.inl h
  · obtain ⟨j, hj, rfl⟩ := nI_of h
    by_cases h2 : j < n
    · exact Or.inr (Or.inr ⟨j, h2, rfl⟩)
    · exact Or.inr (Or.inl (nI_le (by omega) hj))
theorem pk_le {x y : Int32} {A B : Prop} (a b : Nat) (f : a ≤ b → A) (g : b < a → B) (hx : x = nI a := by rfl) (hy : y = nI b := by rfl) (ha : a < 2 ^ 31 := by omega) (hb : b < 2 ^ 31 := by omega) : (x ≤ y → A) ∧ (¬ x ≤ y → B) := by
  subst hx hy
  rw [nI_leI ha hb]
  exact ⟨f, fun z => g (by omega)⟩
theorem pk_lt {x y : Int32} {A B : Prop} (a b : Nat) (f : a < b → A) (g : b ≤ a → B) (hx : x = nI a := by rfl) (hy : y = nI b := by rfl) (ha : a < 2 ^ 31 := by omega) (hb : b < 2 ^ 31 := by omega) : (x < y → A) ∧ (¬ x < y → B) := by
  subst hx hy
  rw [nI_ltI ha hb]
  exact ⟨f, fun z => g (by omega)⟩
theorem pk_eq {x y : Int32} {A B : Prop} (a b : Nat) (f : a = b → A) (g : a ≠ b → B) (hx : x = nI a := by rfl) (hy : y = nI b := by rfl) (ha : a < 2 ^ 31 := by omega) (hb : b < 2 ^ 31 := by omega) : (x = y → A) ∧ (¬ x = y → B) := by
  subst hx hy
  rw [nI_eq ha hb]
  exact ⟨f, g⟩
theorem pk_in {x : Int32} (n N : Nat) (h : n < N) (hx : x = nI n := by rfl) (hN : N < 2 ^ 31 := by omega) : vp_in x N := by
  subst hx
  exact vp_in_nI h hN
theorem pk_cl {x : Int32} (n : Nat) (hx : x = nI n := by rfl) (h : n < 2 ^ 31 := by omega) : x.toNatClampNeg = n := by
  subst hx
  exact nI_clamp h
theorem pk_tn {n : Nat} (h : n < 2 ^ 32) : (nI n).toBitVec.toNat = n := Nat.mod_eq_of_lt h
theorem pk_and (x : Int32) {m : Int32} (k : Nat) (hm : m.toBitVec.toNat = 2 ^ k - 1) : x &&& m = nI (x.toBitVec.toNat % 2 ^ k) := by
  apply Int32.toBitVec_inj.mp
  apply BitVec.eq_of_toNat_eq
  rw [Int32.toBitVec_and, BitVec.toNat_and, hm, Nat.and_two_pow_sub_one_eq_mod]
  show _ = (BitVec.ofNat 32 _).toNat
  rw [BitVec.toNat_ofNat]
  exact (Nat.mod_eq_of_lt (Nat.lt_of_le_of_lt (Nat.mod_le _ _) x.toBitVec.isLt)).symm
theorem pk_andN {n : Nat} (h : n < 2 ^ 32) {m : Int32} (k : Nat) (hm : m.toBitVec.toNat = 2 ^ k - 1) : nI n &&& m = nI (n % 2 ^ k) := by
  rw [pk_and _ k hm, pk_tn h]
theorem pk_andE (x : Int32) {m : Int32} (k : Nat) (hm : m.toBitVec.toNat = 2 ^ k - 1) : ∃ j : Nat, j < 2 ^ k ∧ x &&& m = nI j := ⟨_, Nat.mod_lt _ (Nat.two_pow_pos k), pk_and x k hm⟩
theorem pk_andIn (x : Int32) {m : Int32} (k : Nat) (hm : m.toBitVec.toNat = 2 ^ k - 1) (hk : k ≤ 30) : vp_in (x &&& m) (2 ^ k) := by
  obtain ⟨j, hj, e⟩ := pk_andE x k hm
  rw [e]
  exact vp_in_nI hj (Nat.lt_of_le_of_lt (Nat.pow_le_pow_right (by decide) hk) (by decide))
theorem pk_shl (a s : Int32) (k : Nat) (hs : (s.toBitVec.smod 32).toNat = k) : (a <<< s).toBitVec.toNat = a.toBitVec.toNat * 2 ^ k % 2 ^ 32 := by
  show (a.toBitVec <<< (s.toBitVec.smod 32).toNat).toNat = _
  rw [hs, BitVec.toNat_shiftLeft, Nat.shiftLeft_eq]
theorem pk_shlN {n : Nat} (s : Int32) (k : Nat) (hs : (s.toBitVec.smod 32).toNat = k) (h : n * 2 ^ k < 2 ^ 32) : nI n <<< s = nI (n * 2 ^ k) := by
  apply Int32.toBitVec_inj.mp
  apply BitVec.eq_of_toNat_eq
  have hn : n < 2 ^ 32 := Nat.lt_of_le_of_lt (Nat.le_mul_of_pos_right n (Nat.two_pow_pos k)) h
  rw [pk_shl _ _ k hs, pk_tn hn, pk_tn h, Nat.mod_eq_of_lt h]
theorem pk_shr (a s : Int32) (k : Nat) (hs : (s.toBitVec.smod 32).toNat = k) : (a >>> s).toInt = a.toInt >>> k := by
  show (a.toBitVec.sshiftRight (s.toBitVec.smod 32).toNat).toInt = _
  rw [hs, BitVec.toInt_sshiftRight]
  rfl
theorem pk_shrN {n : Nat} (h : n < 2 ^ 31) (s : Int32) (k : Nat) (hs : (s.toBitVec.smod 32).toNat = k) : nI n >>> s = nI (n / 2 ^ k) := by
  apply Int32.toInt_inj.mp
  have h2 : n / 2 ^ k ≤ n := Nat.div_le_self _ _
  rw [pk_shr _ _ k hs, nI_toInt h, nI_toInt (by omega), Int.shiftRight_eq_div_pow]
  rfl
theorem pk_ushr (x s : Int32) (k : Nat) (hs : ((s.toUInt32 &&& Int32.toUInt32 31).toBitVec % 32).toNat = k) : (x.toUInt32 >>> (s.toUInt32 &&& Int32.toUInt32 31)).toInt32.toBitVec.toNat = x.toBitVec.toNat / 2 ^ k := by
  have e : (x.toUInt32 >>> (s.toUInt32 &&& Int32.toUInt32 31)).toInt32.toBitVec = x.toBitVec >>> k := by
    rw [← hs]
    exact UInt32.toBitVec_shiftRight _ _
  rw [e, BitVec.toNat_ushiftRight, Nat.shiftRight_eq_div_pow]
theorem pk_ushrN {n : Nat} (hn : n < 2 ^ 32) (s : Int32) (k : Nat) (hs : ((s.toUInt32 &&& Int32.toUInt32 31).toBitVec % 32).toNat = k) : ((nI n).toUInt32 >>> (s.toUInt32 &&& Int32.toUInt32 31)).toInt32 = nI (n / 2 ^ k) := by
  apply Int32.toBitVec_inj.mp
  apply BitVec.eq_of_toNat_eq
  rw [pk_ushr _ s k hs, pk_tn hn, pk_tn (Nat.lt_of_le_of_lt (Nat.div_le_self _ _) hn)]
theorem pk_nb (z : Int32) : narrow .byte (.int z.toInt8.toInt32) = .int z.toInt8.toInt32 := congrArg Value.int (by simp)
theorem pk_ns (z : Int32) : narrow .short (.int z.toInt16.toInt32) = .int z.toInt16.toInt32 := congrArg Value.int (by simp)
theorem pk_fb (r : Int32) : fits .byte (.int r.toInt8.toInt32) = true := by
  have ⟨a, b⟩ := lg_i2b_range r
  have h1 : (-128 : Int32).toInt = -128 := by decide
  have h2 : (127 : Int32).toInt = 127 := by decide
  simp only [fits, Bool.and_eq_true, decide_eq_true_eq, Int32.le_iff_toInt_le, h1, h2]
  omega
theorem pk_fs (r : Int32) : fits .short (.int r.toInt16.toInt32) = true := by
  have ⟨a, b⟩ := lg_i2s_range r
  have h1 : (-32768 : Int32).toInt = -32768 := by decide
  have h2 : (32767 : Int32).toInt = 32767 := by decide
  simp only [fits, Bool.and_eq_true, decide_eq_true_eq, Int32.le_iff_toInt_le, h1, h2]
  omega
theorem pk_charN {q : Nat} (hq : q < 65536) : narrow .char (.int (nI q)) = .int (nI q) ∧ fits .char (.int (nI q)) = true := by
  constructor
  · have e : (nI q).toUInt32.toUInt16.toUInt32.toInt32 = nI q := by
      apply Int32.toBitVec_inj.mp
      apply BitVec.eq_of_toNat_eq
      show (nI q).toUInt32.toUInt16.toUInt32.toNat = q % 2 ^ 32
      rw [UInt16.toNat_toUInt32, UInt32.toNat_toUInt16, show (nI q).toUInt32.toNat = q % 2 ^ 32 from rfl]
      omega
    exact congrArg Value.int e
  · have a : (0 : Int32) ≤ nI q := nI_pos' (by omega)
    have b : nI q ≤ 65535 := nI_le (b := 65535) (by omega) (by decide)
    show (decide ((0 : Int32) ≤ nI q) && decide (nI q ≤ 65535)) = true
    rw [decide_eq_true a, decide_eq_true b]
    rfl
theorem pk_char (x : Int32) : (x.toUInt32 % 65536).toInt32 = nI (x.toBitVec.toNat % 65536) := by
  apply Int32.toBitVec_inj.mp
  apply BitVec.eq_of_toNat_eq
  rw [pk_tn (by omega)]
  show (x.toUInt32 % 65536).toNat = _
  rw [UInt32.toNat_mod]
  rfl
theorem pk_nc (x : Int32) : narrow .char (.int (x.toUInt32 % 65536).toInt32) = .int (x.toUInt32 % 65536).toInt32 := by
  rw [pk_char]
  exact (pk_charN (Nat.mod_lt _ (by decide))).1
theorem pk_fc (x : Int32) : fits .char (.int (x.toUInt32 % 65536).toInt32) = true := by
  rw [pk_char]
  exact (pk_charN (Nat.mod_lt _ (by decide))).2
theorem pk_vb (z : Int32) : vp_nar .byte z.toInt8.toInt32 = z.toInt8.toInt32 := by rw [vp_nar_byte]; simp
theorem pk_vs (z : Int32) : vp_nar .short z.toInt16.toInt32 = z.toInt16.toInt32 := by rw [vp_nar_short]; simp
theorem pk_vc (z : Int32) : vp_nar .char (z.toUInt32 % 65536).toInt32 = (z.toUInt32 % 65536).toInt32 := Value.int.inj (pk_nc z)
theorem pk_lT {n : Nat} (h : n < 2 ^ 63) : (lN n).toInt = (n : Int) := lg_ofNat_toInt h
theorem pk_lLT {a b : Nat} (ha : a < 2 ^ 63) (hb : b < 2 ^ 63) : lN a < lN b ↔ a < b := by
  rw [Int64.lt_iff_toInt_lt, pk_lT ha, pk_lT hb]; omega
theorem pk_lLE {a b : Nat} (ha : a < 2 ^ 63) (hb : b < 2 ^ 63) : lN a ≤ lN b ↔ a ≤ b := by
  rw [Int64.le_iff_toInt_le, pk_lT ha, pk_lT hb]; omega
theorem pk_lEQ {a b : Nat} (ha : a < 2 ^ 63) (hb : b < 2 ^ 63) : lN a = lN b ↔ a = b := by
  rw [← Int64.toInt_inj, pk_lT ha, pk_lT hb]; omega
theorem pk_lOf {x : Int64} (h : ¬ x < 0) : ∃ k : Nat, k < 2 ^ 63 ∧ x = lN k := by
  rw [Int64.lt_iff_toInt_lt] at h
  have h0 : (0 : Int64).toInt = 0 := by decide
  have hx := Int64.toInt_lt x
  refine ⟨x.toInt.toNat, by omega, Int64.toInt_inj.mp ?_⟩
  rw [pk_lT (by omega)]
  omega
theorem pk_lDiv {a b : Nat} (ha : a < 2 ^ 63) (h0 : 0 < b) (hb : b < 2 ^ 63) : lN a / lN b = lN (a / b) := by
  apply Int64.toInt_inj.mp
  rw [lg_ldiv_nonneg (by rw [pk_lT ha]; omega) (by rw [pk_lT hb]; omega), pk_lT ha, pk_lT hb, pk_lT (Nat.lt_of_le_of_lt (Nat.div_le_self a b) ha)]
  rfl
theorem pk_lRem {a b : Nat} (ha : a < 2 ^ 63) (h0 : 0 < b) (hb : b < 2 ^ 63) : lN a - lN a / lN b * lN b = lN (a % b) := by
  rw [pk_lDiv ha h0 hb, lN_mul, lN_sub (Nat.div_mul_le_self a b)]
  exact congrArg lN (by have := Nat.div_add_mod' a b; omega)
theorem pk_loop {σ : Type} (W : Nat → Nat → σ → Prop) (I : Nat → σ → Prop) (e i0 : Nat) (s : σ) (hi : i0 ≤ e) (h0 : I i0 s) (hx : ∀ n s, I e s → W (n + 1) e s)
    (hs : ∀ n i s, i < e → I i s → (∀ s', I (i + 1) s' → W n (i + 1) s') → W (n + 1) i s) : ∃ n, W n i0 s :=
  ⟨e + 1, loop_i W I e hx hs (e + 1) i0 s hi (by omega) h0⟩
theorem pk_loopD {σ : Type} (W : Nat → Nat → σ → Prop) (I : Nat → σ → Prop) (hx : ∀ n s, I 0 s → W (n + 1) 0 s)
    (hs : ∀ n i s, I (i + 1) s → (∀ s', I i s' → W n i s') → W (n + 1) (i + 1) s) : ∀ (e : Nat) (s : σ), I e s → W (e + 1) e s := by
  intro e
  induction e with
  | zero => exact fun s h => hx 0 s h
  | succ e ih => exact fun s h => hs (e + 1) e s h (fun s' h' => ih s' h')
theorem lp1 {A1 : Type} (W : Nat → A1 → Prop) (I : A1 → Prop) (μ : A1 → Nat) (hs : ∀ (n : Nat) (a1 : A1), I a1 → (∀ (b1 : A1), I b1 → μ b1 < μ a1 → W n b1) → W (n + 1) a1) (a1 : A1) (h : I a1) : ∃ n, W n a1 :=
  loop_m (σ := A1) (fun n s => W n s) (fun s => I s) (fun s => μ s) (fun n s hI hk => hs n s hI (fun b1 h9 hm => hk b1 h9 hm)) a1 h
theorem lp2 {A1 A2 : Type} (W : Nat → A1 → A2 → Prop) (I : A1 → A2 → Prop) (μ : A1 → A2 → Nat) (hs : ∀ (n : Nat) (a1 : A1) (a2 : A2), I a1 a2 → (∀ (b1 : A1) (b2 : A2), I b1 b2 → μ b1 b2 < μ a1 a2 → W n b1 b2) → W (n + 1) a1 a2) (a1 : A1) (a2 : A2) (h : I a1 a2) : ∃ n, W n a1 a2 :=
  loop_m (σ := A1 × A2) (fun n s => W n s.1 s.2) (fun s => I s.1 s.2) (fun s => μ s.1 s.2) (fun n s hI hk => hs n s.1 s.2 hI (fun b1 b2 h9 hm => hk (b1, b2) h9 hm)) (a1, a2) h
theorem lp3 {A1 A2 A3 : Type} (W : Nat → A1 → A2 → A3 → Prop) (I : A1 → A2 → A3 → Prop) (μ : A1 → A2 → A3 → Nat) (hs : ∀ (n : Nat) (a1 : A1) (a2 : A2) (a3 : A3), I a1 a2 a3 → (∀ (b1 : A1) (b2 : A2) (b3 : A3), I b1 b2 b3 → μ b1 b2 b3 < μ a1 a2 a3 → W n b1 b2 b3) → W (n + 1) a1 a2 a3) (a1 : A1) (a2 : A2) (a3 : A3) (h : I a1 a2 a3) : ∃ n, W n a1 a2 a3 :=
  loop_m (σ := A1 × A2 × A3) (fun n s => W n s.1 s.2.1 s.2.2) (fun s => I s.1 s.2.1 s.2.2) (fun s => μ s.1 s.2.1 s.2.2) (fun n s hI hk => hs n s.1 s.2.1 s.2.2 hI (fun b1 b2 b3 h9 hm => hk (b1, b2, b3) h9 hm)) (a1, a2, a3) h
theorem lp4 {A1 A2 A3 A4 : Type} (W : Nat → A1 → A2 → A3 → A4 → Prop) (I : A1 → A2 → A3 → A4 → Prop) (μ : A1 → A2 → A3 → A4 → Nat) (hs : ∀ (n : Nat) (a1 : A1) (a2 : A2) (a3 : A3) (a4 : A4), I a1 a2 a3 a4 → (∀ (b1 : A1) (b2 : A2) (b3 : A3) (b4 : A4), I b1 b2 b3 b4 → μ b1 b2 b3 b4 < μ a1 a2 a3 a4 → W n b1 b2 b3 b4) → W (n + 1) a1 a2 a3 a4) (a1 : A1) (a2 : A2) (a3 : A3) (a4 : A4) (h : I a1 a2 a3 a4) : ∃ n, W n a1 a2 a3 a4 :=
  loop_m (σ := A1 × A2 × A3 × A4) (fun n s => W n s.1 s.2.1 s.2.2.1 s.2.2.2) (fun s => I s.1 s.2.1 s.2.2.1 s.2.2.2) (fun s => μ s.1 s.2.1 s.2.2.1 s.2.2.2) (fun n s hI hk => hs n s.1 s.2.1 s.2.2.1 s.2.2.2 hI (fun b1 b2 b3 b4 h9 hm => hk (b1, b2, b3, b4) h9 hm)) (a1, a2, a3, a4) h
theorem lp5 {A1 A2 A3 A4 A5 : Type} (W : Nat → A1 → A2 → A3 → A4 → A5 → Prop) (I : A1 → A2 → A3 → A4 → A5 → Prop) (μ : A1 → A2 → A3 → A4 → A5 → Nat) (hs : ∀ (n : Nat) (a1 : A1) (a2 : A2) (a3 : A3) (a4 : A4) (a5 : A5), I a1 a2 a3 a4 a5 → (∀ (b1 : A1) (b2 : A2) (b3 : A3) (b4 : A4) (b5 : A5), I b1 b2 b3 b4 b5 → μ b1 b2 b3 b4 b5 < μ a1 a2 a3 a4 a5 → W n b1 b2 b3 b4 b5) → W (n + 1) a1 a2 a3 a4 a5) (a1 : A1) (a2 : A2) (a3 : A3) (a4 : A4) (a5 : A5) (h : I a1 a2 a3 a4 a5) : ∃ n, W n a1 a2 a3 a4 a5 :=
  loop_m (σ := A1 × A2 × A3 × A4 × A5) (fun n s => W n s.1 s.2.1 s.2.2.1 s.2.2.2.1 s.2.2.2.2) (fun s => I s.1 s.2.1 s.2.2.1 s.2.2.2.1 s.2.2.2.2) (fun s => μ s.1 s.2.1 s.2.2.1 s.2.2.2.1 s.2.2.2.2) (fun n s hI hk => hs n s.1 s.2.1 s.2.2.1 s.2.2.2.1 s.2.2.2.2 hI (fun b1 b2 b3 b4 b5 h9 hm => hk (b1, b2, b3, b4, b5) h9 hm)) (a1, a2, a3, a4, a5) h
theorem lp6 {A1 A2 A3 A4 A5 A6 : Type} (W : Nat → A1 → A2 → A3 → A4 → A5 → A6 → Prop) (I : A1 → A2 → A3 → A4 → A5 → A6 → Prop) (μ : A1 → A2 → A3 → A4 → A5 → A6 → Nat) (hs : ∀ (n : Nat) (a1 : A1) (a2 : A2) (a3 : A3) (a4 : A4) (a5 : A5) (a6 : A6), I a1 a2 a3 a4 a5 a6 → (∀ (b1 : A1) (b2 : A2) (b3 : A3) (b4 : A4) (b5 : A5) (b6 : A6), I b1 b2 b3 b4 b5 b6 → μ b1 b2 b3 b4 b5 b6 < μ a1 a2 a3 a4 a5 a6 → W n b1 b2 b3 b4 b5 b6) → W (n + 1) a1 a2 a3 a4 a5 a6) (a1 : A1) (a2 : A2) (a3 : A3) (a4 : A4) (a5 : A5) (a6 : A6) (h : I a1 a2 a3 a4 a5 a6) : ∃ n, W n a1 a2 a3 a4 a5 a6 :=
  loop_m (σ := A1 × A2 × A3 × A4 × A5 × A6) (fun n s => W n s.1 s.2.1 s.2.2.1 s.2.2.2.1 s.2.2.2.2.1 s.2.2.2.2.2) (fun s => I s.1 s.2.1 s.2.2.1 s.2.2.2.1 s.2.2.2.2.1 s.2.2.2.2.2) (fun s => μ s.1 s.2.1 s.2.2.1 s.2.2.2.1 s.2.2.2.2.1 s.2.2.2.2.2) (fun n s hI hk => hs n s.1 s.2.1 s.2.2.1 s.2.2.2.1 s.2.2.2.2.1 s.2.2.2.2.2 hI (fun b1 b2 b3 b4 b5 b6 h9 hm => hk (b1, b2, b3, b4, b5, b6) h9 hm)) (a1, a2, a3, a4, a5, a6) h
theorem lp7 {A1 A2 A3 A4 A5 A6 A7 : Type} (W : Nat → A1 → A2 → A3 → A4 → A5 → A6 → A7 → Prop) (I : A1 → A2 → A3 → A4 → A5 → A6 → A7 → Prop) (μ : A1 → A2 → A3 → A4 → A5 → A6 → A7 → Nat) (hs : ∀ (n : Nat) (a1 : A1) (a2 : A2) (a3 : A3) (a4 : A4) (a5 : A5) (a6 : A6) (a7 : A7), I a1 a2 a3 a4 a5 a6 a7 → (∀ (b1 : A1) (b2 : A2) (b3 : A3) (b4 : A4) (b5 : A5) (b6 : A6) (b7 : A7), I b1 b2 b3 b4 b5 b6 b7 → μ b1 b2 b3 b4 b5 b6 b7 < μ a1 a2 a3 a4 a5 a6 a7 → W n b1 b2 b3 b4 b5 b6 b7) → W (n + 1) a1 a2 a3 a4 a5 a6 a7) (a1 : A1) (a2 : A2) (a3 : A3) (a4 : A4) (a5 : A5) (a6 : A6) (a7 : A7) (h : I a1 a2 a3 a4 a5 a6 a7) : ∃ n, W n a1 a2 a3 a4 a5 a6 a7 :=
  loop_m (σ := A1 × A2 × A3 × A4 × A5 × A6 × A7) (fun n s => W n s.1 s.2.1 s.2.2.1 s.2.2.2.1 s.2.2.2.2.1 s.2.2.2.2.2.1 s.2.2.2.2.2.2) (fun s => I s.1 s.2.1 s.2.2.1 s.2.2.2.1 s.2.2.2.2.1 s.2.2.2.2.2.1 s.2.2.2.2.2.2) (fun s => μ s.1 s.2.1 s.2.2.1 s.2.2.2.1 s.2.2.2.2.1 s.2.2.2.2.2.1 s.2.2.2.2.2.2) (fun n s hI hk => hs n s.1 s.2.1 s.2.2.1 s.2.2.2.1 s.2.2.2.2.1 s.2.2.2.2.2.1 s.2.2.2.2.2.2 hI (fun b1 b2 b3 b4 b5 b6 b7 h9 hm => hk (b1, b2, b3, b4, b5, b6, b7) h9 hm)) (a1, a2, a3, a4, a5, a6, a7) h
theorem lp8 {A1 A2 A3 A4 A5 A6 A7 A8 : Type} (W : Nat → A1 → A2 → A3 → A4 → A5 → A6 → A7 → A8 → Prop) (I : A1 → A2 → A3 → A4 → A5 → A6 → A7 → A8 → Prop) (μ : A1 → A2 → A3 → A4 → A5 → A6 → A7 → A8 → Nat) (hs : ∀ (n : Nat) (a1 : A1) (a2 : A2) (a3 : A3) (a4 : A4) (a5 : A5) (a6 : A6) (a7 : A7) (a8 : A8), I a1 a2 a3 a4 a5 a6 a7 a8 → (∀ (b1 : A1) (b2 : A2) (b3 : A3) (b4 : A4) (b5 : A5) (b6 : A6) (b7 : A7) (b8 : A8), I b1 b2 b3 b4 b5 b6 b7 b8 → μ b1 b2 b3 b4 b5 b6 b7 b8 < μ a1 a2 a3 a4 a5 a6 a7 a8 → W n b1 b2 b3 b4 b5 b6 b7 b8) → W (n + 1) a1 a2 a3 a4 a5 a6 a7 a8) (a1 : A1) (a2 : A2) (a3 : A3) (a4 : A4) (a5 : A5) (a6 : A6) (a7 : A7) (a8 : A8) (h : I a1 a2 a3 a4 a5 a6 a7 a8) : ∃ n, W n a1 a2 a3 a4 a5 a6 a7 a8 :=
  loop_m (σ := A1 × A2 × A3 × A4 × A5 × A6 × A7 × A8) (fun n s => W n s.1 s.2.1 s.2.2.1 s.2.2.2.1 s.2.2.2.2.1 s.2.2.2.2.2.1 s.2.2.2.2.2.2.1 s.2.2.2.2.2.2.2) (fun s => I s.1 s.2.1 s.2.2.1 s.2.2.2.1 s.2.2.2.2.1 s.2.2.2.2.2.1 s.2.2.2.2.2.2.1 s.2.2.2.2.2.2.2) (fun s => μ s.1 s.2.1 s.2.2.1 s.2.2.2.1 s.2.2.2.2.1 s.2.2.2.2.2.1 s.2.2.2.2.2.2.1 s.2.2.2.2.2.2.2) (fun n s hI hk => hs n s.1 s.2.1 s.2.2.1 s.2.2.2.1 s.2.2.2.2.1 s.2.2.2.2.2.1 s.2.2.2.2.2.2.1 s.2.2.2.2.2.2.2 hI (fun b1 b2 b3 b4 b5 b6 b7 b8 h9 hm => hk (b1, b2, b3, b4, b5, b6, b7, b8) h9 hm)) (a1, a2, a3, a4, a5, a6, a7, a8) h
theorem lp9 {A1 A2 A3 A4 A5 A6 A7 A8 A9 : Type} (W : Nat → A1 → A2 → A3 → A4 → A5 → A6 → A7 → A8 → A9 → Prop) (I : A1 → A2 → A3 → A4 → A5 → A6 → A7 → A8 → A9 → Prop) (μ : A1 → A2 → A3 → A4 → A5 → A6 → A7 → A8 → A9 → Nat) (hs : ∀ (n : Nat) (a1 : A1) (a2 : A2) (a3 : A3) (a4 : A4) (a5 : A5) (a6 : A6) (a7 : A7) (a8 : A8) (a9 : A9), I a1 a2 a3 a4 a5 a6 a7 a8 a9 → (∀ (b1 : A1) (b2 : A2) (b3 : A3) (b4 : A4) (b5 : A5) (b6 : A6) (b7 : A7) (b8 : A8) (b9 : A9), I b1 b2 b3 b4 b5 b6 b7 b8 b9 → μ b1 b2 b3 b4 b5 b6 b7 b8 b9 < μ a1 a2 a3 a4 a5 a6 a7 a8 a9 → W n b1 b2 b3 b4 b5 b6 b7 b8 b9) → W (n + 1) a1 a2 a3 a4 a5 a6 a7 a8 a9) (a1 : A1) (a2 : A2) (a3 : A3) (a4 : A4) (a5 : A5) (a6 : A6) (a7 : A7) (a8 : A8) (a9 : A9) (h : I a1 a2 a3 a4 a5 a6 a7 a8 a9) : ∃ n, W n a1 a2 a3 a4 a5 a6 a7 a8 a9 :=
  loop_m (σ := A1 × A2 × A3 × A4 × A5 × A6 × A7 × A8 × A9) (fun n s => W n s.1 s.2.1 s.2.2.1 s.2.2.2.1 s.2.2.2.2.1 s.2.2.2.2.2.1 s.2.2.2.2.2.2.1 s.2.2.2.2.2.2.2.1 s.2.2.2.2.2.2.2.2) (fun s => I s.1 s.2.1 s.2.2.1 s.2.2.2.1 s.2.2.2.2.1 s.2.2.2.2.2.1 s.2.2.2.2.2.2.1 s.2.2.2.2.2.2.2.1 s.2.2.2.2.2.2.2.2) (fun s => μ s.1 s.2.1 s.2.2.1 s.2.2.2.1 s.2.2.2.2.1 s.2.2.2.2.2.1 s.2.2.2.2.2.2.1 s.2.2.2.2.2.2.2.1 s.2.2.2.2.2.2.2.2) (fun n s hI hk => hs n s.1 s.2.1 s.2.2.1 s.2.2.2.1 s.2.2.2.2.1 s.2.2.2.2.2.1 s.2.2.2.2.2.2.1 s.2.2.2.2.2.2.2.1 s.2.2.2.2.2.2.2.2 hI (fun b1 b2 b3 b4 b5 b6 b7 b8 b9 h9 hm => hk (b1, b2, b3, b4, b5, b6, b7, b8, b9) h9 hm)) (a1, a2, a3, a4, a5, a6, a7, a8, a9) h
theorem lp10 {A1 A2 A3 A4 A5 A6 A7 A8 A9 A10 : Type} (W : Nat → A1 → A2 → A3 → A4 → A5 → A6 → A7 → A8 → A9 → A10 → Prop) (I : A1 → A2 → A3 → A4 → A5 → A6 → A7 → A8 → A9 → A10 → Prop) (μ : A1 → A2 → A3 → A4 → A5 → A6 → A7 → A8 → A9 → A10 → Nat) (hs : ∀ (n : Nat) (a1 : A1) (a2 : A2) (a3 : A3) (a4 : A4) (a5 : A5) (a6 : A6) (a7 : A7) (a8 : A8) (a9 : A9) (a10 : A10), I a1 a2 a3 a4 a5 a6 a7 a8 a9 a10 → (∀ (b1 : A1) (b2 : A2) (b3 : A3) (b4 : A4) (b5 : A5) (b6 : A6) (b7 : A7) (b8 : A8) (b9 : A9) (b10 : A10), I b1 b2 b3 b4 b5 b6 b7 b8 b9 b10 → μ b1 b2 b3 b4 b5 b6 b7 b8 b9 b10 < μ a1 a2 a3 a4 a5 a6 a7 a8 a9 a10 → W n b1 b2 b3 b4 b5 b6 b7 b8 b9 b10) → W (n + 1) a1 a2 a3 a4 a5 a6 a7 a8 a9 a10) (a1 : A1) (a2 : A2) (a3 : A3) (a4 : A4) (a5 : A5) (a6 : A6) (a7 : A7) (a8 : A8) (a9 : A9) (a10 : A10) (h : I a1 a2 a3 a4 a5 a6 a7 a8 a9 a10) : ∃ n, W n a1 a2 a3 a4 a5 a6 a7 a8 a9 a10 :=
  loop_m (σ := A1 × A2 × A3 × A4 × A5 × A6 × A7 × A8 × A9 × A10) (fun n s => W n s.1 s.2.1 s.2.2.1 s.2.2.2.1 s.2.2.2.2.1 s.2.2.2.2.2.1 s.2.2.2.2.2.2.1 s.2.2.2.2.2.2.2.1 s.2.2.2.2.2.2.2.2.1 s.2.2.2.2.2.2.2.2.2) (fun s => I s.1 s.2.1 s.2.2.1 s.2.2.2.1 s.2.2.2.2.1 s.2.2.2.2.2.1 s.2.2.2.2.2.2.1 s.2.2.2.2.2.2.2.1 s.2.2.2.2.2.2.2.2.1 s.2.2.2.2.2.2.2.2.2) (fun s => μ s.1 s.2.1 s.2.2.1 s.2.2.2.1 s.2.2.2.2.1 s.2.2.2.2.2.1 s.2.2.2.2.2.2.1 s.2.2.2.2.2.2.2.1 s.2.2.2.2.2.2.2.2.1 s.2.2.2.2.2.2.2.2.2) (fun n s hI hk => hs n s.1 s.2.1 s.2.2.1 s.2.2.2.1 s.2.2.2.2.1 s.2.2.2.2.2.1 s.2.2.2.2.2.2.1 s.2.2.2.2.2.2.2.1 s.2.2.2.2.2.2.2.2.1 s.2.2.2.2.2.2.2.2.2 hI (fun b1 b2 b3 b4 b5 b6 b7 b8 b9 b10 h9 hm => hk (b1, b2, b3, b4, b5, b6, b7, b8, b9, b10) h9 hm)) (a1, a2, a3, a4, a5, a6, a7, a8, a9, a10) h
theorem lp11 {A1 A2 A3 A4 A5 A6 A7 A8 A9 A10 A11 : Type} (W : Nat → A1 → A2 → A3 → A4 → A5 → A6 → A7 → A8 → A9 → A10 → A11 → Prop) (I : A1 → A2 → A3 → A4 → A5 → A6 → A7 → A8 → A9 → A10 → A11 → Prop) (μ : A1 → A2 → A3 → A4 → A5 → A6 → A7 → A8 → A9 → A10 → A11 → Nat) (hs : ∀ (n : Nat) (a1 : A1) (a2 : A2) (a3 : A3) (a4 : A4) (a5 : A5) (a6 : A6) (a7 : A7) (a8 : A8) (a9 : A9) (a10 : A10) (a11 : A11), I a1 a2 a3 a4 a5 a6 a7 a8 a9 a10 a11 → (∀ (b1 : A1) (b2 : A2) (b3 : A3) (b4 : A4) (b5 : A5) (b6 : A6) (b7 : A7) (b8 : A8) (b9 : A9) (b10 : A10) (b11 : A11), I b1 b2 b3 b4 b5 b6 b7 b8 b9 b10 b11 → μ b1 b2 b3 b4 b5 b6 b7 b8 b9 b10 b11 < μ a1 a2 a3 a4 a5 a6 a7 a8 a9 a10 a11 → W n b1 b2 b3 b4 b5 b6 b7 b8 b9 b10 b11) → W (n + 1) a1 a2 a3 a4 a5 a6 a7 a8 a9 a10 a11) (a1 : A1) (a2 : A2) (a3 : A3) (a4 : A4) (a5 : A5) (a6 : A6) (a7 : A7) (a8 : A8) (a9 : A9) (a10 : A10) (a11 : A11) (h : I a1 a2 a3 a4 a5 a6 a7 a8 a9 a10 a11) : ∃ n, W n a1 a2 a3 a4 a5 a6 a7 a8 a9 a10 a11 :=
  loop_m (σ := A1 × A2 × A3 × A4 × A5 × A6 × A7 × A8 × A9 × A10 × A11) (fun n s => W n s.1 s.2.1 s.2.2.1 s.2.2.2.1 s.2.2.2.2.1 s.2.2.2.2.2.1 s.2.2.2.2.2.2.1 s.2.2.2.2.2.2.2.1 s.2.2.2.2.2.2.2.2.1 s.2.2.2.2.2.2.2.2.2.1 s.2.2.2.2.2.2.2.2.2.2) (fun s => I s.1 s.2.1 s.2.2.1 s.2.2.2.1 s.2.2.2.2.1 s.2.2.2.2.2.1 s.2.2.2.2.2.2.1 s.2.2.2.2.2.2.2.1 s.2.2.2.2.2.2.2.2.1 s.2.2.2.2.2.2.2.2.2.1 s.2.2.2.2.2.2.2.2.2.2) (fun s => μ s.1 s.2.1 s.2.2.1 s.2.2.2.1 s.2.2.2.2.1 s.2.2.2.2.2.1 s.2.2.2.2.2.2.1 s.2.2.2.2.2.2.2.1 s.2.2.2.2.2.2.2.2.1 s.2.2.2.2.2.2.2.2.2.1 s.2.2.2.2.2.2.2.2.2.2) (fun n s hI hk => hs n s.1 s.2.1 s.2.2.1 s.2.2.2.1 s.2.2.2.2.1 s.2.2.2.2.2.1 s.2.2.2.2.2.2.1 s.2.2.2.2.2.2.2.1 s.2.2.2.2.2.2.2.2.1 s.2.2.2.2.2.2.2.2.2.1 s.2.2.2.2.2.2.2.2.2.2 hI (fun b1 b2 b3 b4 b5 b6 b7 b8 b9 b10 b11 h9 hm => hk (b1, b2, b3, b4, b5, b6, b7, b8, b9, b10, b11) h9 hm)) (a1, a2, a3, a4, a5, a6, a7, a8, a9, a10, a11) h
theorem lp12 {A1 A2 A3 A4 A5 A6 A7 A8 A9 A10 A11 A12 : Type} (W : Nat → A1 → A2 → A3 → A4 → A5 → A6 → A7 → A8 → A9 → A10 → A11 → A12 → Prop) (I : A1 → A2 → A3 → A4 → A5 → A6 → A7 → A8 → A9 → A10 → A11 → A12 → Prop) (μ : A1 → A2 → A3 → A4 → A5 → A6 → A7 → A8 → A9 → A10 → A11 → A12 → Nat) (hs : ∀ (n : Nat) (a1 : A1) (a2 : A2) (a3 : A3) (a4 : A4) (a5 : A5) (a6 : A6) (a7 : A7) (a8 : A8) (a9 : A9) (a10 : A10) (a11 : A11) (a12 : A12), I a1 a2 a3 a4 a5 a6 a7 a8 a9 a10 a11 a12 → (∀ (b1 : A1) (b2 : A2) (b3 : A3) (b4 : A4) (b5 : A5) (b6 : A6) (b7 : A7) (b8 : A8) (b9 : A9) (b10 : A10) (b11 : A11) (b12 : A12), I b1 b2 b3 b4 b5 b6 b7 b8 b9 b10 b11 b12 → μ b1 b2 b3 b4 b5 b6 b7 b8 b9 b10 b11 b12 < μ a1 a2 a3 a4 a5 a6 a7 a8 a9 a10 a11 a12 → W n b1 b2 b3 b4 b5 b6 b7 b8 b9 b10 b11 b12) → W (n + 1) a1 a2 a3 a4 a5 a6 a7 a8 a9 a10 a11 a12) (a1 : A1) (a2 : A2) (a3 : A3) (a4 : A4) (a5 : A5) (a6 : A6) (a7 : A7) (a8 : A8) (a9 : A9) (a10 : A10) (a11 : A11) (a12 : A12) (h : I a1 a2 a3 a4 a5 a6 a7 a8 a9 a10 a11 a12) : ∃ n, W n a1 a2 a3 a4 a5 a6 a7 a8 a9 a10 a11 a12 :=
  loop_m (σ := A1 × A2 × A3 × A4 × A5 × A6 × A7 × A8 × A9 × A10 × A11 × A12) (fun n s => W n s.1 s.2.1 s.2.2.1 s.2.2.2.1 s.2.2.2.2.1 s.2.2.2.2.2.1 s.2.2.2.2.2.2.1 s.2.2.2.2.2.2.2.1 s.2.2.2.2.2.2.2.2.1 s.2.2.2.2.2.2.2.2.2.1 s.2.2.2.2.2.2.2.2.2.2.1 s.2.2.2.2.2.2.2.2.2.2.2) (fun s => I s.1 s.2.1 s.2.2.1 s.2.2.2.1 s.2.2.2.2.1 s.2.2.2.2.2.1 s.2.2.2.2.2.2.1 s.2.2.2.2.2.2.2.1 s.2.2.2.2.2.2.2.2.1 s.2.2.2.2.2.2.2.2.2.1 s.2.2.2.2.2.2.2.2.2.2.1 s.2.2.2.2.2.2.2.2.2.2.2) (fun s => μ s.1 s.2.1 s.2.2.1 s.2.2.2.1 s.2.2.2.2.1 s.2.2.2.2.2.1 s.2.2.2.2.2.2.1 s.2.2.2.2.2.2.2.1 s.2.2.2.2.2.2.2.2.1 s.2.2.2.2.2.2.2.2.2.1 s.2.2.2.2.2.2.2.2.2.2.1 s.2.2.2.2.2.2.2.2.2.2.2) (fun n s hI hk => hs n s.1 s.2.1 s.2.2.1 s.2.2.2.1 s.2.2.2.2.1 s.2.2.2.2.2.1 s.2.2.2.2.2.2.1 s.2.2.2.2.2.2.2.1 s.2.2.2.2.2.2.2.2.1 s.2.2.2.2.2.2.2.2.2.1 s.2.2.2.2.2.2.2.2.2.2.1 s.2.2.2.2.2.2.2.2.2.2.2 hI (fun b1 b2 b3 b4 b5 b6 b7 b8 b9 b10 b11 b12 h9 hm => hk (b1, b2, b3, b4, b5, b6, b7, b8, b9, b10, b11, b12) h9 hm)) (a1, a2, a3, a4, a5, a6, a7, a8, a9, a10, a11, a12) h
theorem lp13 {A1 A2 A3 A4 A5 A6 A7 A8 A9 A10 A11 A12 A13 : Type} (W : Nat → A1 → A2 → A3 → A4 → A5 → A6 → A7 → A8 → A9 → A10 → A11 → A12 → A13 → Prop) (I : A1 → A2 → A3 → A4 → A5 → A6 → A7 → A8 → A9 → A10 → A11 → A12 → A13 → Prop) (μ : A1 → A2 → A3 → A4 → A5 → A6 → A7 → A8 → A9 → A10 → A11 → A12 → A13 → Nat) (hs : ∀ (n : Nat) (a1 : A1) (a2 : A2) (a3 : A3) (a4 : A4) (a5 : A5) (a6 : A6) (a7 : A7) (a8 : A8) (a9 : A9) (a10 : A10) (a11 : A11) (a12 : A12) (a13 : A13), I a1 a2 a3 a4 a5 a6 a7 a8 a9 a10 a11 a12 a13 → (∀ (b1 : A1) (b2 : A2) (b3 : A3) (b4 : A4) (b5 : A5) (b6 : A6) (b7 : A7) (b8 : A8) (b9 : A9) (b10 : A10) (b11 : A11) (b12 : A12) (b13 : A13), I b1 b2 b3 b4 b5 b6 b7 b8 b9 b10 b11 b12 b13 → μ b1 b2 b3 b4 b5 b6 b7 b8 b9 b10 b11 b12 b13 < μ a1 a2 a3 a4 a5 a6 a7 a8 a9 a10 a11 a12 a13 → W n b1 b2 b3 b4 b5 b6 b7 b8 b9 b10 b11 b12 b13) → W (n + 1) a1 a2 a3 a4 a5 a6 a7 a8 a9 a10 a11 a12 a13) (a1 : A1) (a2 : A2) (a3 : A3) (a4 : A4) (a5 : A5) (a6 : A6) (a7 : A7) (a8 : A8) (a9 : A9) (a10 : A10) (a11 : A11) (a12 : A12) (a13 : A13) (h : I a1 a2 a3 a4 a5 a6 a7 a8 a9 a10 a11 a12 a13) : ∃ n, W n a1 a2 a3 a4 a5 a6 a7 a8 a9 a10 a11 a12 a13 :=
  loop_m (σ := A1 × A2 × A3 × A4 × A5 × A6 × A7 × A8 × A9 × A10 × A11 × A12 × A13) (fun n s => W n s.1 s.2.1 s.2.2.1 s.2.2.2.1 s.2.2.2.2.1 s.2.2.2.2.2.1 s.2.2.2.2.2.2.1 s.2.2.2.2.2.2.2.1 s.2.2.2.2.2.2.2.2.1 s.2.2.2.2.2.2.2.2.2.1 s.2.2.2.2.2.2.2.2.2.2.1 s.2.2.2.2.2.2.2.2.2.2.2.1 s.2.2.2.2.2.2.2.2.2.2.2.2) (fun s => I s.1 s.2.1 s.2.2.1 s.2.2.2.1 s.2.2.2.2.1 s.2.2.2.2.2.1 s.2.2.2.2.2.2.1 s.2.2.2.2.2.2.2.1 s.2.2.2.2.2.2.2.2.1 s.2.2.2.2.2.2.2.2.2.1 s.2.2.2.2.2.2.2.2.2.2.1 s.2.2.2.2.2.2.2.2.2.2.2.1 s.2.2.2.2.2.2.2.2.2.2.2.2) (fun s => μ s.1 s.2.1 s.2.2.1 s.2.2.2.1 s.2.2.2.2.1 s.2.2.2.2.2.1 s.2.2.2.2.2.2.1 s.2.2.2.2.2.2.2.1 s.2.2.2.2.2.2.2.2.1 s.2.2.2.2.2.2.2.2.2.1 s.2.2.2.2.2.2.2.2.2.2.1 s.2.2.2.2.2.2.2.2.2.2.2.1 s.2.2.2.2.2.2.2.2.2.2.2.2) (fun n s hI hk => hs n s.1 s.2.1 s.2.2.1 s.2.2.2.1 s.2.2.2.2.1 s.2.2.2.2.2.1 s.2.2.2.2.2.2.1 s.2.2.2.2.2.2.2.1 s.2.2.2.2.2.2.2.2.1 s.2.2.2.2.2.2.2.2.2.1 s.2.2.2.2.2.2.2.2.2.2.1 s.2.2.2.2.2.2.2.2.2.2.2.1 s.2.2.2.2.2.2.2.2.2.2.2.2 hI (fun b1 b2 b3 b4 b5 b6 b7 b8 b9 b10 b11 b12 b13 h9 hm => hk (b1, b2, b3, b4, b5, b6, b7, b8, b9, b10, b11, b12, b13) h9 hm)) (a1, a2, a3, a4, a5, a6, a7, a8, a9, a10, a11, a12, a13) h
theorem lp14 {A1 A2 A3 A4 A5 A6 A7 A8 A9 A10 A11 A12 A13 A14 : Type} (W : Nat → A1 → A2 → A3 → A4 → A5 → A6 → A7 → A8 → A9 → A10 → A11 → A12 → A13 → A14 → Prop) (I : A1 → A2 → A3 → A4 → A5 → A6 → A7 → A8 → A9 → A10 → A11 → A12 → A13 → A14 → Prop) (μ : A1 → A2 → A3 → A4 → A5 → A6 → A7 → A8 → A9 → A10 → A11 → A12 → A13 → A14 → Nat) (hs : ∀ (n : Nat) (a1 : A1) (a2 : A2) (a3 : A3) (a4 : A4) (a5 : A5) (a6 : A6) (a7 : A7) (a8 : A8) (a9 : A9) (a10 : A10) (a11 : A11) (a12 : A12) (a13 : A13) (a14 : A14), I a1 a2 a3 a4 a5 a6 a7 a8 a9 a10 a11 a12 a13 a14 → (∀ (b1 : A1) (b2 : A2) (b3 : A3) (b4 : A4) (b5 : A5) (b6 : A6) (b7 : A7) (b8 : A8) (b9 : A9) (b10 : A10) (b11 : A11) (b12 : A12) (b13 : A13) (b14 : A14), I b1 b2 b3 b4 b5 b6 b7 b8 b9 b10 b11 b12 b13 b14 → μ b1 b2 b3 b4 b5 b6 b7 b8 b9 b10 b11 b12 b13 b14 < μ a1 a2 a3 a4 a5 a6 a7 a8 a9 a10 a11 a12 a13 a14 → W n b1 b2 b3 b4 b5 b6 b7 b8 b9 b10 b11 b12 b13 b14) → W (n + 1) a1 a2 a3 a4 a5 a6 a7 a8 a9 a10 a11 a12 a13 a14) (a1 : A1) (a2 : A2) (a3 : A3) (a4 : A4) (a5 : A5) (a6 : A6) (a7 : A7) (a8 : A8) (a9 : A9) (a10 : A10) (a11 : A11) (a12 : A12) (a13 : A13) (a14 : A14) (h : I a1 a2 a3 a4 a5 a6 a7 a8 a9 a10 a11 a12 a13 a14) : ∃ n, W n a1 a2 a3 a4 a5 a6 a7 a8 a9 a10 a11 a12 a13 a14 :=
  loop_m (σ := A1 × A2 × A3 × A4 × A5 × A6 × A7 × A8 × A9 × A10 × A11 × A12 × A13 × A14) (fun n s => W n s.1 s.2.1 s.2.2.1 s.2.2.2.1 s.2.2.2.2.1 s.2.2.2.2.2.1 s.2.2.2.2.2.2.1 s.2.2.2.2.2.2.2.1 s.2.2.2.2.2.2.2.2.1 s.2.2.2.2.2.2.2.2.2.1 s.2.2.2.2.2.2.2.2.2.2.1 s.2.2.2.2.2.2.2.2.2.2.2.1 s.2.2.2.2.2.2.2.2.2.2.2.2.1 s.2.2.2.2.2.2.2.2.2.2.2.2.2) (fun s => I s.1 s.2.1 s.2.2.1 s.2.2.2.1 s.2.2.2.2.1 s.2.2.2.2.2.1 s.2.2.2.2.2.2.1 s.2.2.2.2.2.2.2.1 s.2.2.2.2.2.2.2.2.1 s.2.2.2.2.2.2.2.2.2.1 s.2.2.2.2.2.2.2.2.2.2.1 s.2.2.2.2.2.2.2.2.2.2.2.1 s.2.2.2.2.2.2.2.2.2.2.2.2.1 s.2.2.2.2.2.2.2.2.2.2.2.2.2) (fun s => μ s.1 s.2.1 s.2.2.1 s.2.2.2.1 s.2.2.2.2.1 s.2.2.2.2.2.1 s.2.2.2.2.2.2.1 s.2.2.2.2.2.2.2.1 s.2.2.2.2.2.2.2.2.1 s.2.2.2.2.2.2.2.2.2.1 s.2.2.2.2.2.2.2.2.2.2.1 s.2.2.2.2.2.2.2.2.2.2.2.1 s.2.2.2.2.2.2.2.2.2.2.2.2.1 s.2.2.2.2.2.2.2.2.2.2.2.2.2) (fun n s hI hk => hs n s.1 s.2.1 s.2.2.1 s.2.2.2.1 s.2.2.2.2.1 s.2.2.2.2.2.1 s.2.2.2.2.2.2.1 s.2.2.2.2.2.2.2.1 s.2.2.2.2.2.2.2.2.1 s.2.2.2.2.2.2.2.2.2.1 s.2.2.2.2.2.2.2.2.2.2.1 s.2.2.2.2.2.2.2.2.2.2.2.1 s.2.2.2.2.2.2.2.2.2.2.2.2.1 s.2.2.2.2.2.2.2.2.2.2.2.2.2 hI (fun b1 b2 b3 b4 b5 b6 b7 b8 b9 b10 b11 b12 b13 b14 h9 hm => hk (b1, b2, b3, b4, b5, b6, b7, b8, b9, b10, b11, b12, b13, b14) h9 hm)) (a1, a2, a3, a4, a5, a6, a7, a8, a9, a10, a11, a12, a13, a14) h
theorem lp15 {A1 A2 A3 A4 A5 A6 A7 A8 A9 A10 A11 A12 A13 A14 A15 : Type} (W : Nat → A1 → A2 → A3 → A4 → A5 → A6 → A7 → A8 → A9 → A10 → A11 → A12 → A13 → A14 → A15 → Prop) (I : A1 → A2 → A3 → A4 → A5 → A6 → A7 → A8 → A9 → A10 → A11 → A12 → A13 → A14 → A15 → Prop) (μ : A1 → A2 → A3 → A4 → A5 → A6 → A7 → A8 → A9 → A10 → A11 → A12 → A13 → A14 → A15 → Nat) (hs : ∀ (n : Nat) (a1 : A1) (a2 : A2) (a3 : A3) (a4 : A4) (a5 : A5) (a6 : A6) (a7 : A7) (a8 : A8) (a9 : A9) (a10 : A10) (a11 : A11) (a12 : A12) (a13 : A13) (a14 : A14) (a15 : A15), I a1 a2 a3 a4 a5 a6 a7 a8 a9 a10 a11 a12 a13 a14 a15 → (∀ (b1 : A1) (b2 : A2) (b3 : A3) (b4 : A4) (b5 : A5) (b6 : A6) (b7 : A7) (b8 : A8) (b9 : A9) (b10 : A10) (b11 : A11) (b12 : A12) (b13 : A13) (b14 : A14) (b15 : A15), I b1 b2 b3 b4 b5 b6 b7 b8 b9 b10 b11 b12 b13 b14 b15 → μ b1 b2 b3 b4 b5 b6 b7 b8 b9 b10 b11 b12 b13 b14 b15 < μ a1 a2 a3 a4 a5 a6 a7 a8 a9 a10 a11 a12 a13 a14 a15 → W n b1 b2 b3 b4 b5 b6 b7 b8 b9 b10 b11 b12 b13 b14 b15) → W (n + 1) a1 a2 a3 a4 a5 a6 a7 a8 a9 a10 a11 a12 a13 a14 a15) (a1 : A1) (a2 : A2) (a3 : A3) (a4 : A4) (a5 : A5) (a6 : A6) (a7 : A7) (a8 : A8) (a9 : A9) (a10 : A10) (a11 : A11) (a12 : A12) (a13 : A13) (a14 : A14) (a15 : A15) (h : I a1 a2 a3 a4 a5 a6 a7 a8 a9 a10 a11 a12 a13 a14 a15) : ∃ n, W n a1 a2 a3 a4 a5 a6 a7 a8 a9 a10 a11 a12 a13 a14 a15 :=
  loop_m (σ := A1 × A2 × A3 × A4 × A5 × A6 × A7 × A8 × A9 × A10 × A11 × A12 × A13 × A14 × A15) (fun n s => W n s.1 s.2.1 s.2.2.1 s.2.2.2.1 s.2.2.2.2.1 s.2.2.2.2.2.1 s.2.2.2.2.2.2.1 s.2.2.2.2.2.2.2.1 s.2.2.2.2.2.2.2.2.1 s.2.2.2.2.2.2.2.2.2.1 s.2.2.2.2.2.2.2.2.2.2.1 s.2.2.2.2.2.2.2.2.2.2.2.1 s.2.2.2.2.2.2.2.2.2.2.2.2.1 s.2.2.2.2.2.2.2.2.2.2.2.2.2.1 s.2.2.2.2.2.2.2.2.2.2.2.2.2.2) (fun s => I s.1 s.2.1 s.2.2.1 s.2.2.2.1 s.2.2.2.2.1 s.2.2.2.2.2.1 s.2.2.2.2.2.2.1 s.2.2.2.2.2.2.2.1 s.2.2.2.2.2.2.2.2.1 s.2.2.2.2.2.2.2.2.2.1 s.2.2.2.2.2.2.2.2.2.2.1 s.2.2.2.2.2.2.2.2.2.2.2.1 s.2.2.2.2.2.2.2.2.2.2.2.2.1 s.2.2.2.2.2.2.2.2.2.2.2.2.2.1 s.2.2.2.2.2.2.2.2.2.2.2.2.2.2) (fun s => μ s.1 s.2.1 s.2.2.1 s.2.2.2.1 s.2.2.2.2.1 s.2.2.2.2.2.1 s.2.2.2.2.2.2.1 s.2.2.2.2.2.2.2.1 s.2.2.2.2.2.2.2.2.1 s.2.2.2.2.2.2.2.2.2.1 s.2.2.2.2.2.2.2.2.2.2.1 s.2.2.2.2.2.2.2.2.2.2.2.1 s.2.2.2.2.2.2.2.2.2.2.2.2.1 s.2.2.2.2.2.2.2.2.2.2.2.2.2.1 s.2.2.2.2.2.2.2.2.2.2.2.2.2.2) (fun n s hI hk => hs n s.1 s.2.1 s.2.2.1 s.2.2.2.1 s.2.2.2.2.1 s.2.2.2.2.2.1 s.2.2.2.2.2.2.1 s.2.2.2.2.2.2.2.1 s.2.2.2.2.2.2.2.2.1 s.2.2.2.2.2.2.2.2.2.1 s.2.2.2.2.2.2.2.2.2.2.1 s.2.2.2.2.2.2.2.2.2.2.2.1 s.2.2.2.2.2.2.2.2.2.2.2.2.1 s.2.2.2.2.2.2.2.2.2.2.2.2.2.1 s.2.2.2.2.2.2.2.2.2.2.2.2.2.2 hI (fun b1 b2 b3 b4 b5 b6 b7 b8 b9 b10 b11 b12 b13 b14 b15 h9 hm => hk (b1, b2, b3, b4, b5, b6, b7, b8, b9, b10, b11, b12, b13, b14, b15) h9 hm)) (a1, a2, a3, a4, a5, a6, a7, a8, a9, a10, a11, a12, a13, a14, a15) h
theorem lp16 {A1 A2 A3 A4 A5 A6 A7 A8 A9 A10 A11 A12 A13 A14 A15 A16 : Type} (W : Nat → A1 → A2 → A3 → A4 → A5 → A6 → A7 → A8 → A9 → A10 → A11 → A12 → A13 → A14 → A15 → A16 → Prop) (I : A1 → A2 → A3 → A4 → A5 → A6 → A7 → A8 → A9 → A10 → A11 → A12 → A13 → A14 → A15 → A16 → Prop) (μ : A1 → A2 → A3 → A4 → A5 → A6 → A7 → A8 → A9 → A10 → A11 → A12 → A13 → A14 → A15 → A16 → Nat) (hs : ∀ (n : Nat) (a1 : A1) (a2 : A2) (a3 : A3) (a4 : A4) (a5 : A5) (a6 : A6) (a7 : A7) (a8 : A8) (a9 : A9) (a10 : A10) (a11 : A11) (a12 : A12) (a13 : A13) (a14 : A14) (a15 : A15) (a16 : A16), I a1 a2 a3 a4 a5 a6 a7 a8 a9 a10 a11 a12 a13 a14 a15 a16 → (∀ (b1 : A1) (b2 : A2) (b3 : A3) (b4 : A4) (b5 : A5) (b6 : A6) (b7 : A7) (b8 : A8) (b9 : A9) (b10 : A10) (b11 : A11) (b12 : A12) (b13 : A13) (b14 : A14) (b15 : A15) (b16 : A16), I b1 b2 b3 b4 b5 b6 b7 b8 b9 b10 b11 b12 b13 b14 b15 b16 → μ b1 b2 b3 b4 b5 b6 b7 b8 b9 b10 b11 b12 b13 b14 b15 b16 < μ a1 a2 a3 a4 a5 a6 a7 a8 a9 a10 a11 a12 a13 a14 a15 a16 → W n b1 b2 b3 b4 b5 b6 b7 b8 b9 b10 b11 b12 b13 b14 b15 b16) → W (n + 1) a1 a2 a3 a4 a5 a6 a7 a8 a9 a10 a11 a12 a13 a14 a15 a16) (a1 : A1) (a2 : A2) (a3 : A3) (a4 : A4) (a5 : A5) (a6 : A6) (a7 : A7) (a8 : A8) (a9 : A9) (a10 : A10) (a11 : A11) (a12 : A12) (a13 : A13) (a14 : A14) (a15 : A15) (a16 : A16) (h : I a1 a2 a3 a4 a5 a6 a7 a8 a9 a10 a11 a12 a13 a14 a15 a16) : ∃ n, W n a1 a2 a3 a4 a5 a6 a7 a8 a9 a10 a11 a12 a13 a14 a15 a16 :=
  loop_m (σ := A1 × A2 × A3 × A4 × A5 × A6 × A7 × A8 × A9 × A10 × A11 × A12 × A13 × A14 × A15 × A16) (fun n s => W n s.1 s.2.1 s.2.2.1 s.2.2.2.1 s.2.2.2.2.1 s.2.2.2.2.2.1 s.2.2.2.2.2.2.1 s.2.2.2.2.2.2.2.1 s.2.2.2.2.2.2.2.2.1 s.2.2.2.2.2.2.2.2.2.1 s.2.2.2.2.2.2.2.2.2.2.1 s.2.2.2.2.2.2.2.2.2.2.2.1 s.2.2.2.2.2.2.2.2.2.2.2.2.1 s.2.2.2.2.2.2.2.2.2.2.2.2.2.1 s.2.2.2.2.2.2.2.2.2.2.2.2.2.2.1 s.2.2.2.2.2.2.2.2.2.2.2.2.2.2.2) (fun s => I s.1 s.2.1 s.2.2.1 s.2.2.2.1 s.2.2.2.2.1 s.2.2.2.2.2.1 s.2.2.2.2.2.2.1 s.2.2.2.2.2.2.2.1 s.2.2.2.2.2.2.2.2.1 s.2.2.2.2.2.2.2.2.2.1 s.2.2.2.2.2.2.2.2.2.2.1 s.2.2.2.2.2.2.2.2.2.2.2.1 s.2.2.2.2.2.2.2.2.2.2.2.2.1 s.2.2.2.2.2.2.2.2.2.2.2.2.2.1 s.2.2.2.2.2.2.2.2.2.2.2.2.2.2.1 s.2.2.2.2.2.2.2.2.2.2.2.2.2.2.2) (fun s => μ s.1 s.2.1 s.2.2.1 s.2.2.2.1 s.2.2.2.2.1 s.2.2.2.2.2.1 s.2.2.2.2.2.2.1 s.2.2.2.2.2.2.2.1 s.2.2.2.2.2.2.2.2.1 s.2.2.2.2.2.2.2.2.2.1 s.2.2.2.2.2.2.2.2.2.2.1 s.2.2.2.2.2.2.2.2.2.2.2.1 s.2.2.2.2.2.2.2.2.2.2.2.2.1 s.2.2.2.2.2.2.2.2.2.2.2.2.2.1 s.2.2.2.2.2.2.2.2.2.2.2.2.2.2.1 s.2.2.2.2.2.2.2.2.2.2.2.2.2.2.2) (fun n s hI hk => hs n s.1 s.2.1 s.2.2.1 s.2.2.2.1 s.2.2.2.2.1 s.2.2.2.2.2.1 s.2.2.2.2.2.2.1 s.2.2.2.2.2.2.2.1 s.2.2.2.2.2.2.2.2.1 s.2.2.2.2.2.2.2.2.2.1 s.2.2.2.2.2.2.2.2.2.2.1 s.2.2.2.2.2.2.2.2.2.2.2.1 s.2.2.2.2.2.2.2.2.2.2.2.2.1 s.2.2.2.2.2.2.2.2.2.2.2.2.2.1 s.2.2.2.2.2.2.2.2.2.2.2.2.2.2.1 s.2.2.2.2.2.2.2.2.2.2.2.2.2.2.2 hI (fun b1 b2 b3 b4 b5 b6 b7 b8 b9 b10 b11 b12 b13 b14 b15 b16 h9 hm => hk (b1, b2, b3, b4, b5, b6, b7, b8, b9, b10, b11, b12, b13, b14, b15, b16) h9 hm)) (a1, a2, a3, a4, a5, a6, a7, a8, a9, a10, a11, a12, a13, a14, a15, a16) h
theorem pk_least (P : Nat → Prop) (h : ∃ k, P k) : ∃ k, P k ∧ ∀ j, j < k → ¬ P j := by
  obtain ⟨k, hk⟩ := h
  induction k using Nat.strongRecOn with
  | ind k ih =>
    by_cases e : ∃ j, j < k ∧ P j
    · obtain ⟨j, hj, pj⟩ := e
      exact ih j hj pj
    · exact ⟨k, hk, fun j hj pj => e ⟨j, hj, pj⟩⟩
theorem rp1 {ρ A1 : Type} (W : Nat → (ρ → Prop) → A1 → Prop) (ok : A1 → Prop) (μ : A1 → Nat) (val : A1 → ρ)
    (hs : ∀ (d : Nat) (post : ρ → Prop) (a1 : A1), ok a1 → post (val a1) → (∀ (post' : ρ → Prop) (b1 : A1), ok b1 → μ b1 < μ a1 → post' (val b1) → W d post' b1) → W (d + 1) post a1) :
    ∀ (d : Nat) (post : ρ → Prop) (a1 : A1), ok a1 → μ a1 < d → post (val a1) → W d post a1 := by
  intro d
  induction d with
  | zero => intro post a1 _ h; omega
  | succ d ih =>
    intro post a1 ho hm hp
    exact hs d post a1 ho hp (fun post' b1 ho' hm' hp' => ih post' b1 ho' (by omega) hp')
theorem rp2 {ρ A1 A2 : Type} (W : Nat → (ρ → Prop) → A1 → A2 → Prop) (ok : A1 → A2 → Prop) (μ : A1 → A2 → Nat) (val : A1 → A2 → ρ)
    (hs : ∀ (d : Nat) (post : ρ → Prop) (a1 : A1) (a2 : A2), ok a1 a2 → post (val a1 a2) → (∀ (post' : ρ → Prop) (b1 : A1) (b2 : A2), ok b1 b2 → μ b1 b2 < μ a1 a2 → post' (val b1 b2) → W d post' b1 b2) → W (d + 1) post a1 a2) :
    ∀ (d : Nat) (post : ρ → Prop) (a1 : A1) (a2 : A2), ok a1 a2 → μ a1 a2 < d → post (val a1 a2) → W d post a1 a2 := by
  intro d
  induction d with
  | zero => intro post a1 a2 _ h; omega
  | succ d ih =>
    intro post a1 a2 ho hm hp
    exact hs d post a1 a2 ho hp (fun post' b1 b2 ho' hm' hp' => ih post' b1 b2 ho' (by omega) hp')
theorem rp3 {ρ A1 A2 A3 : Type} (W : Nat → (ρ → Prop) → A1 → A2 → A3 → Prop) (ok : A1 → A2 → A3 → Prop) (μ : A1 → A2 → A3 → Nat) (val : A1 → A2 → A3 → ρ)
    (hs : ∀ (d : Nat) (post : ρ → Prop) (a1 : A1) (a2 : A2) (a3 : A3), ok a1 a2 a3 → post (val a1 a2 a3) → (∀ (post' : ρ → Prop) (b1 : A1) (b2 : A2) (b3 : A3), ok b1 b2 b3 → μ b1 b2 b3 < μ a1 a2 a3 → post' (val b1 b2 b3) → W d post' b1 b2 b3) → W (d + 1) post a1 a2 a3) :
    ∀ (d : Nat) (post : ρ → Prop) (a1 : A1) (a2 : A2) (a3 : A3), ok a1 a2 a3 → μ a1 a2 a3 < d → post (val a1 a2 a3) → W d post a1 a2 a3 := by
  intro d
  induction d with
  | zero => intro post a1 a2 a3 _ h; omega
  | succ d ih =>
    intro post a1 a2 a3 ho hm hp
    exact hs d post a1 a2 a3 ho hp (fun post' b1 b2 b3 ho' hm' hp' => ih post' b1 b2 b3 ho' (by omega) hp')
theorem rp4 {ρ A1 A2 A3 A4 : Type} (W : Nat → (ρ → Prop) → A1 → A2 → A3 → A4 → Prop) (ok : A1 → A2 → A3 → A4 → Prop) (μ : A1 → A2 → A3 → A4 → Nat) (val : A1 → A2 → A3 → A4 → ρ)
    (hs : ∀ (d : Nat) (post : ρ → Prop) (a1 : A1) (a2 : A2) (a3 : A3) (a4 : A4), ok a1 a2 a3 a4 → post (val a1 a2 a3 a4) → (∀ (post' : ρ → Prop) (b1 : A1) (b2 : A2) (b3 : A3) (b4 : A4), ok b1 b2 b3 b4 → μ b1 b2 b3 b4 < μ a1 a2 a3 a4 → post' (val b1 b2 b3 b4) → W d post' b1 b2 b3 b4) → W (d + 1) post a1 a2 a3 a4) :
    ∀ (d : Nat) (post : ρ → Prop) (a1 : A1) (a2 : A2) (a3 : A3) (a4 : A4), ok a1 a2 a3 a4 → μ a1 a2 a3 a4 < d → post (val a1 a2 a3 a4) → W d post a1 a2 a3 a4 := by
  intro d
  induction d with
  | zero => intro post a1 a2 a3 a4 _ h; omega
  | succ d ih =>
    intro post a1 a2 a3 a4 ho hm hp
    exact hs d post a1 a2 a3 a4 ho hp (fun post' b1 b2 b3 b4 ho' hm' hp' => ih post' b1 b2 b3 b4 ho' (by omega) hp')
theorem rp5 {ρ A1 A2 A3 A4 A5 : Type} (W : Nat → (ρ → Prop) → A1 → A2 → A3 → A4 → A5 → Prop) (ok : A1 → A2 → A3 → A4 → A5 → Prop) (μ : A1 → A2 → A3 → A4 → A5 → Nat) (val : A1 → A2 → A3 → A4 → A5 → ρ)
    (hs : ∀ (d : Nat) (post : ρ → Prop) (a1 : A1) (a2 : A2) (a3 : A3) (a4 : A4) (a5 : A5), ok a1 a2 a3 a4 a5 → post (val a1 a2 a3 a4 a5) → (∀ (post' : ρ → Prop) (b1 : A1) (b2 : A2) (b3 : A3) (b4 : A4) (b5 : A5), ok b1 b2 b3 b4 b5 → μ b1 b2 b3 b4 b5 < μ a1 a2 a3 a4 a5 → post' (val b1 b2 b3 b4 b5) → W d post' b1 b2 b3 b4 b5) → W (d + 1) post a1 a2 a3 a4 a5) :
    ∀ (d : Nat) (post : ρ → Prop) (a1 : A1) (a2 : A2) (a3 : A3) (a4 : A4) (a5 : A5), ok a1 a2 a3 a4 a5 → μ a1 a2 a3 a4 a5 < d → post (val a1 a2 a3 a4 a5) → W d post a1 a2 a3 a4 a5 := by
  intro d
  induction d with
  | zero => intro post a1 a2 a3 a4 a5 _ h; omega
  | succ d ih =>
    intro post a1 a2 a3 a4 a5 ho hm hp
    exact hs d post a1 a2 a3 a4 a5 ho hp (fun post' b1 b2 b3 b4 b5 ho' hm' hp' => ih post' b1 b2 b3 b4 b5 ho' (by omega) hp')
theorem rp6 {ρ A1 A2 A3 A4 A5 A6 : Type} (W : Nat → (ρ → Prop) → A1 → A2 → A3 → A4 → A5 → A6 → Prop) (ok : A1 → A2 → A3 → A4 → A5 → A6 → Prop) (μ : A1 → A2 → A3 → A4 → A5 → A6 → Nat) (val : A1 → A2 → A3 → A4 → A5 → A6 → ρ)
    (hs : ∀ (d : Nat) (post : ρ → Prop) (a1 : A1) (a2 : A2) (a3 : A3) (a4 : A4) (a5 : A5) (a6 : A6), ok a1 a2 a3 a4 a5 a6 → post (val a1 a2 a3 a4 a5 a6) → (∀ (post' : ρ → Prop) (b1 : A1) (b2 : A2) (b3 : A3) (b4 : A4) (b5 : A5) (b6 : A6), ok b1 b2 b3 b4 b5 b6 → μ b1 b2 b3 b4 b5 b6 < μ a1 a2 a3 a4 a5 a6 → post' (val b1 b2 b3 b4 b5 b6) → W d post' b1 b2 b3 b4 b5 b6) → W (d + 1) post a1 a2 a3 a4 a5 a6) :
    ∀ (d : Nat) (post : ρ → Prop) (a1 : A1) (a2 : A2) (a3 : A3) (a4 : A4) (a5 : A5) (a6 : A6), ok a1 a2 a3 a4 a5 a6 → μ a1 a2 a3 a4 a5 a6 < d → post (val a1 a2 a3 a4 a5 a6) → W d post a1 a2 a3 a4 a5 a6 := by
  intro d
  induction d with
  | zero => intro post a1 a2 a3 a4 a5 a6 _ h; omega
  | succ d ih =>
    intro post a1 a2 a3 a4 a5 a6 ho hm hp
    exact hs d post a1 a2 a3 a4 a5 a6 ho hp (fun post' b1 b2 b3 b4 b5 b6 ho' hm' hp' => ih post' b1 b2 b3 b4 b5 b6 ho' (by omega) hp')
theorem rec_p {σ ρ : Type} (W : Nat → (ρ → Prop) → σ → Prop) (ok : σ → Prop) (μ : σ → Nat) (val : σ → ρ)
    (hs : ∀ d s post, ok s → post (val s) → (∀ s' post', ok s' → μ s' < μ s → post' (val s') → W d post' s') → W (d + 1) post s) :
    ∀ d s post, ok s → μ s < d → post (val s) → W d post s := by
  intro d
  induction d with
  | zero => intro s post _ h; omega
  | succ d ih =>
    intro s post ho hm hp
    exact hs d s post ho hp (fun s' post' ho' hm' hp' => ih s' post' ho' (by omega) hp')
theorem rec_q {σ ρ : Type} (W : Nat → (ρ → Prop) → σ → Prop) (ok : σ → Prop) (μ : σ → Nat) (Q : σ → ρ → Prop)
    (hs : ∀ d s post, ok s → (∀ r, Q s r → post r) → (∀ s' post', ok s' → μ s' < μ s → (∀ r, Q s' r → post' r) → W d post' s') → W (d + 1) post s) :
    ∀ d s post, ok s → μ s < d → (∀ r, Q s r → post r) → W d post s := by
  intro d
  induction d with
  | zero => intro s post _ h; omega
  | succ d ih =>
    intro s post ho hm hp
    exact hs d s post ho hp (fun s' post' ho' hm' hp' => ih s' post' ho' (by omega) hp')
def bx_sum (f : Nat → Int32) : Nat → Int32
  | 0 => 0
  | n + 1 => bx_sum f n + f n
theorem ek_u {A : Prop} {B : Nat → Prop} {k N : Nat} (hk : k < N) (h : B k) : (some k = none → A) ∧ (∀ y : Nat, some k = some y → (y < N ∧ B y)) :=
  ⟨fun z => absurd z (Option.some_ne_none k), fun _ e => (by cases e; exact ⟨hk, h⟩)⟩
theorem ek_nu {A : Prop} {B : Nat → Prop} (h : A) : ((none : Option Nat) = none → A) ∧ (∀ y : Nat, (none : Option Nat) = some y → B y) :=
  ⟨fun _ => h, fun _ e => (by cases e)⟩
theorem ek_if {c d A B : Prop} (e : c ↔ d) (f : d → A) (g : ¬ d → B) : (c → A) ∧ (¬ c → B) :=
  ⟨fun z => f (e.mp z), fun z => g (fun y => z (e.mpr y))⟩
theorem ek_v {α : Sort _} {P : α → Prop} {a b : α} (e : a = b) (h : P b) : P a := e ▸ h
theorem co_some {x : Option Nat} {A : Prop} {B : Nat → Prop} (i : Nat) (h : B i) (hx : x = some i := by rfl) : (x = none → A) ∧ (∀ y : Nat, x = some y → B y) := by
  subst hx
  exact ⟨fun e => (nomatch e), fun y e => Option.some.inj e ▸ h⟩
theorem co_none {x : Option Nat} {A : Prop} {B : Nat → Prop} (h : A) (hx : x = none := by rfl) : (x = none → A) ∧ (∀ y : Nat, x = some y → B y) := by
  subst hx
  exact ⟨fun _ => h, fun y e => (nomatch e)⟩
theorem co_any {x : Option Nat} {A : Prop} {B : Nat → Prop} (hn : x = none → A) (hs : ∀ i : Nat, x = some i → B i) : (x = none → A) ∧ (∀ y : Nat, x = some y → B y) := ⟨hn, hs⟩
theorem co_2 {P : Nat → Prop} (h0 : P 0) (h1 : P 1) {i : Nat} (hi : i < 2) : P i :=
  match i, hi with
  | 0, _ => h0
  | 1, _ => h1
theorem co_3 {P : Nat → Prop} (h0 : P 0) (h1 : P 1) (h2 : P 2) {i : Nat} (hi : i < 3) : P i :=
  match i, hi with
  | 0, _ => h0
  | 1, _ => h1
  | 2, _ => h2
theorem co_4 {P : Nat → Prop} (h0 : P 0) (h1 : P 1) (h2 : P 2) (h3 : P 3) {i : Nat} (hi : i < 4) : P i :=
  match i, hi with
  | 0, _ => h0
  | 1, _ => h1
  | 2, _ => h2
  | 3, _ => h3
theorem co_dec {N : Nat} {P : Nat → Prop} [DecidablePred P] (h : (List.range N).all (fun i => decide (P i)) = true) {i : Nat} (hi : i < N) : P i := by
  have := List.all_eq_true.mp h i (List.mem_range.mpr hi)
  exact of_decide_eq_true this
theorem co_tab {α : Type} {l : List α} {d : α} {P : α → Prop} (h : ∀ a, a ∈ l → P a) {i : Nat} (hi : i < l.length) : P (l.getD i d) := by
  rw [List.getD_eq_getElem?_getD, List.getElem?_eq_getElem hi]
  exact h _ (List.getElem_mem hi)
theorem pk_mu {x : Int32} {L : Nat} (h0 : ¬ x < 0) (h : ¬ nI L ≤ x) (hL : L < 2 ^ 31) : ∃ j : Nat, j < L ∧ x = nI j ∧ x + 1 = nI (j + 1) ∧ x.toNatClampNeg = j ∧ L - (x + 1).toNatClampNeg < L - x.toNatClampNeg := by
  obtain ⟨j, hj, rfl⟩ := nI_of h0
  have hl : j < L := Nat.not_le.mp fun q => h (nI_le q hj)
  refine ⟨j, hl, rfl, nI_1 j, nI_clamp hj, ?_⟩
  rw [nI_1, nI_clamp (by omega), nI_clamp hj]
  omega
theorem op_s {α : Type} {r : Option α} {A : Prop} {B : α → Prop} {y : α} (h : r = some y) (b : B y) : (r = none → A) ∧ ∀ z, r = some z → B z :=
  ⟨fun e => (by rw [h] at e; cases e), fun z e => (by rw [h] at e; cases e; exact b)⟩
def l_holds {α : Type} (a : Nat → Option Nat) (LP : List Nat) (p : Nat → α) (c : Nat) (b : Nat → α) : Prop :=
  ∀ j, j < c → ∃ y, a j = some y ∧ y ∈ LP ∧ p y = b j
theorem l_holds_0 {α : Type} {a : Nat → Option Nat} {LP : List Nat} {p b : Nat → α} : l_holds a LP p 0 b := fun j h => absurd h (Nat.not_lt_zero j)
theorem l_in_new (LP : List Nat) (q : Nat) : q ∈ LP ++ [q] := List.mem_append.mpr (Or.inr (List.mem_singleton.mpr rfl))
def l_sum (b : Nat → Int32) : Nat → Int32
  | 0 => 0
  | k + 1 => l_sum b k + b k
theorem sb_shr0 (x : Int32) : x >>> ((0 : Int32) &&& 31) = x := by
  rw [show ((0 : Int32) &&& 31) = 0 by decide]
  simp
theorem sb_shl0 (x : Int32) : x <<< ((0 : Int32) &&& 31) = x := by
  rw [show ((0 : Int32) &&& 31) = 0 by decide]
  simp
theorem sb_cl0 : (0 : Int32).toNatClampNeg = 0 := by decide
theorem sb_m1 {p : Nat} (h : 0 < p) : nI p + (-1) = nI (p - 1) := by
  obtain ⟨q, rfl⟩ : ∃ q, p = q + 1 := ⟨p - 1, by omega⟩
  exact pk_m1 q
def sb_b (c : Nat) : Int32 := (nI c).toInt8.toInt32
theorem sb_byte : ∀ c, c < 256 → sb_b c &&& 255 = nI c ∧ ((nI c).toUInt32 % 65536).toInt32 = nI c ∧ nI c ≤ 255 := by decide +kernel
def sb_Fit (a : Nat → Int32) : Prop := ∀ j, fits .byte (.int (a j)) = true
def sb_Lat (t : Nat → Nat) (n : Nat) (a : Nat → Int32) : Prop := ∀ j, j < n → t j < 256 ∧ a j = sb_b (t j)
theorem sb_fitB (c : Nat) : fits .byte (.int (sb_b c)) = true := pk_fb _
theorem sb_fit0 : sb_Fit (fun _ => 0) := fun _ => by
  show fits .byte (.int 0) = true
  decide
theorem sb_fitU {a : Nat → Int32} {k : Nat} {x : Int32} (h : sb_Fit a) (hx : fits .byte (.int x) = true) : sb_Fit (upd a k x) := by
  intro j
  by_cases e : j = k
  · subst e
    rw [pk_us]
    exact hx
  · rw [pk_un e]
    exact h j
def sb_cat (t : Nat → Nat) (n : Nat) (s : Nat → Nat) : Nat → Nat := fun j => if j < n then t j else s (j - n)
theorem sb_cat_lo {t s : Nat → Nat} {n j : Nat} (h : j < n) : sb_cat t n s j = t j := if_pos h
theorem sb_cat_hi {t s : Nat → Nat} {n j : Nat} : sb_cat t n s (n + j) = s j := by
  show (if n + j < n then t (n + j) else s (n + j - n)) = s j
  rw [if_neg (by omega), Nat.add_sub_cancel_left]
theorem sb_latPut {t s : Nat → Nat} {n w : Nat} {a a' : Nat → Int32} (h : sb_Lat t n a) (hk : ∀ j, j < n → a' j = a j) (hs : ∀ i, i < w → s i < 256 ∧ a' (n + i) = sb_b (s i)) : sb_Lat (sb_cat t n s) (n + w) a' := by
  intro j hj
  by_cases e : j < n
  · rw [sb_cat_lo e, hk j e]
    exact h j e
  · obtain ⟨i, rfl⟩ : ∃ i, j = n + i := ⟨j - n, by omega⟩
    rw [sb_cat_hi]
    exact hs i (by omega)
theorem sb_latKeep {t : Nat → Nat} {n : Nat} {a a' : Nat → Int32} (h : sb_Lat t n a) (hk : ∀ j, j < n → a' j = a j) : sb_Lat t n a' := fun j hj => by
  rw [hk j hj]
  exact h j hj
def sb_cap (q m : Nat) : Nat := if q ≤ m then m else if 2 * m + 2 < q then q else 2 * m + 2
def sb_Room (q m mc ms : Nat) : Prop := q ≤ m ∨ (1 ≤ mc ∧ sb_cap q m ≤ ms ∧ sb_cap q m ≤ 65536)
theorem sb_cap_ge (q m : Nat) : q ≤ sb_cap q m := by
  unfold sb_cap
  split
  · omega
  · split <;> omega
theorem sb_cap_gem (q m : Nat) : m ≤ sb_cap q m := by
  unfold sb_cap
  split
  · omega
  · split <;> omega
theorem sb_cap_le {q m mc ms : Nat} (hm : m ≤ 65536) (hr : sb_Room q m mc ms) : sb_cap q m ≤ 65536 := by
  rcases hr with h | h
  · rw [sb_cap, if_pos h]
    exact hm
  · exact h.2.2
theorem sb_at {P : Int32 → Prop} {x y : Int32} (e : x = y) (h : P y) : P x := e ▸ h
def sb_dg (w : Nat) : Nat := if w < 10 then 1 else if w < 100 then 2 else if w < 1000 then 3 else if w < 10000 then 4 else if w < 100000 then 5 else if w < 1000000 then 6 else if w < 10000000 then 7 else if w < 100000000 then 8 else if w < 1000000000 then 9 else 10
def sb_dec (v : Nat) : Nat → Nat := fun i => 48 + v / 10 ^ (sb_dg v - 1 - i) % 10
theorem sb_dg_in (w : Nat) : 1 ≤ sb_dg w ∧ sb_dg w ≤ 10 := by
  unfold sb_dg
  constructor <;> (repeat' split) <;> omega
theorem sb_dg100 {w : Nat} (h : 100 ≤ w) (hw : w < 2 ^ 31) : sb_dg w = sb_dg (w / 100) + 2 := by
  rw [sb_dg, sb_dg, if_neg (show ¬ w < 10 by omega), if_neg (show ¬ w < 100 by omega)]
  by_cases h3 : w < 1000
  · rw [if_pos h3, if_pos (show w / 100 < 10 by omega)]
  rw [if_neg h3, if_neg (show ¬ w / 100 < 10 by omega)]
  by_cases h4 : w < 10000
  · rw [if_pos h4, if_pos (show w / 100 < 100 by omega)]
  rw [if_neg h4, if_neg (show ¬ w / 100 < 100 by omega)]
  by_cases h5 : w < 100000
  · rw [if_pos h5, if_pos (show w / 100 < 1000 by omega)]
  rw [if_neg h5, if_neg (show ¬ w / 100 < 1000 by omega)]
  by_cases h6 : w < 1000000
  · rw [if_pos h6, if_pos (show w / 100 < 10000 by omega)]
  rw [if_neg h6, if_neg (show ¬ w / 100 < 10000 by omega)]
  by_cases h7 : w < 10000000
  · rw [if_pos h7, if_pos (show w / 100 < 100000 by omega)]
  rw [if_neg h7, if_neg (show ¬ w / 100 < 100000 by omega)]
  by_cases h8 : w < 100000000
  · rw [if_pos h8, if_pos (show w / 100 < 1000000 by omega)]
  rw [if_neg h8, if_neg (show ¬ w / 100 < 1000000 by omega)]
  by_cases h9 : w < 1000000000
  · rw [if_pos h9, if_pos (show w / 100 < 10000000 by omega)]
  rw [if_neg h9, if_neg (show ¬ w / 100 < 10000000 by omega)]
  rw [if_pos (show w / 100 < 100000000 by omega)]
theorem sb_negT {w : Nat} (h : w < 2 ^ 31) : (-nI w).toInt = -(w : Int) := by
  rw [Int32.toInt_neg, nI_toInt h]
  exact Int.bmod_eq_of_le (by omega) (by omega)
theorem sb_nle {a b : Nat} (ha : a < 2 ^ 31) (hb : b < 2 ^ 31) : -nI a ≤ -nI b ↔ b ≤ a := by
  rw [Int32.le_iff_toInt_le, sb_negT ha, sb_negT hb]
  omega
theorem sb_nlt {a b : Nat} (ha : a < 2 ^ 31) (hb : b < 2 ^ 31) : -nI a < -nI b ↔ b < a := by
  rw [Int32.lt_iff_toInt_lt, sb_negT ha, sb_negT hb]
  omega
theorem sb_cmp {A B : Prop} {x : Int32} (v c : Nat) (f : c ≤ v → A) (g : v < c → B) (hv : v < 2 ^ 31) (hx : x = -nI c := by rfl) (hc : c < 2 ^ 31 := by omega) : (-nI v ≤ x → A) ∧ (¬ -nI v ≤ x → B) := by
  subst hx
  rw [sb_nle hv hc]
  exact ⟨f, fun z => g (by omega)⟩
theorem sb_ndiv {w : Nat} (hw : w < 2 ^ 31) : (-nI w) / 100 = -nI (w / 100) := by
  apply Int32.toInt_inj.mp
  have h100 : (100 : Int32).toInt = 100 := by decide
  rw [Int32.toInt_div, sb_negT hw, h100, sb_negT (by omega), Int.neg_tdiv, Int.tdiv_eq_ediv_of_nonneg (by omega), Int.bmod_eq_of_le (by omega) (by omega)]
  omega
theorem sb_nrem {w : Nat} (hw : w < 2 ^ 31) : (-nI (w / 100)) * 100 - (-nI w) = nI (w % 100) := by
  have h := pk_rem (a := w) (d := 100) hw (by decide) (by decide)
  rw [pk_div hw (by decide) (by decide)] at h
  rw [← h]
  show (-nI (w / 100)) * nI 100 - (-nI w) = nI w - nI (w / 100) * nI 100
  rw [Int32.neg_mul, Int32.sub_neg, Int32.add_comm, ← Int32.sub_eq_add_neg]
/-! ===== Int32 by its bits: bt x i ===== -/
def bt (x : Int32) (i : Nat) : Bool := x.toBitVec.getLsbD i
theorem b_ext {x y : Int32} (h : ∀ i, i < 32 → bt x i = bt y i) : x = y := Int32.toBitVec_inj.mp (BitVec.eq_of_getLsbD_eq (fun i hi => h i hi))
theorem b_or (x y : Int32) (i : Nat) : bt (x ||| y) i = (bt x i || bt y i) := by unfold bt; rw [Int32.toBitVec_or, BitVec.getLsbD_or]
theorem b_and (x y : Int32) (i : Nat) : bt (x &&& y) i = (bt x i && bt y i) := by unfold bt; rw [Int32.toBitVec_and, BitVec.getLsbD_and]
theorem b_xor (x y : Int32) (i : Nat) : bt (x ^^^ y) i = (bt x i ^^ bt y i) := by unfold bt; rw [Int32.toBitVec_xor, BitVec.getLsbD_xor]
theorem b_big {x : Int32} {i : Nat} (h : 32 ≤ i) : bt x i = false := BitVec.getLsbD_of_ge _ _ h
theorem b_255 (i : Nat) : bt 255 i = decide (i < 8) := by
  rcases Nat.lt_or_ge i 32 with h | h
  · exact (by decide +kernel : ∀ i, i < 32 → bt 255 i = decide (i < 8)) i h
  · rw [b_big h, decide_eq_false (by omega)]
theorem b_65535 (i : Nat) : bt 65535 i = decide (i < 16) := by
  rcases Nat.lt_or_ge i 32 with h | h
  · exact (by decide +kernel : ∀ i, i < 32 → bt 65535 i = decide (i < 16)) i h
  · rw [b_big h, decide_eq_false (by omega)]
theorem b_m1 : ∀ i, i < 32 → bt (-1) i = true := by decide +kernel
theorem b_0 (i : Nat) : bt 0 i = false := BitVec.getLsbD_zero
theorem s_l : ∀ n, n < 32 → ((nI n &&& 31).toBitVec.smod 32).toNat = n := by decide +kernel
theorem s_u : ∀ n, n < 32 → (((nI n).toUInt32 &&& Int32.toUInt32 31).toBitVec % 32).toNat = n := by decide +kernel
theorem b_shl (n : Nat) (hn : n < 32) (x : Int32) {i : Nat} (hi : i < 32) : bt (x <<< (nI n &&& 31)) i = (decide (n ≤ i) && bt x (i - n)) := by
  unfold bt
  rw [Int32.toBitVec_shiftLeft]
  show (x.toBitVec <<< ((nI n &&& 31).toBitVec.smod 32).toNat).getLsbD i = _
  rw [s_l n hn, BitVec.getLsbD_shiftLeft]
  rcases Nat.lt_or_ge i n with h | h
  · simp [h, Nat.not_le.mpr h]
  · simp [hi, h, Nat.not_lt.mpr h]
theorem b_ushr (n : Nat) (hn : n < 32) (x : Int32) (i : Nat) : bt ((x.toUInt32 >>> ((nI n).toUInt32 &&& Int32.toUInt32 31)).toInt32) i = bt x (n + i) := by
  show (x.toUInt32 >>> ((nI n).toUInt32 &&& Int32.toUInt32 31)).toBitVec.getLsbD i = x.toUInt32.toBitVec.getLsbD (n + i)
  rw [UInt32.toBitVec_shiftRight]
  show (x.toUInt32.toBitVec >>> (((nI n).toUInt32 &&& Int32.toUInt32 31).toBitVec % 32).toNat).getLsbD i = _
  rw [s_u n hn, BitVec.getLsbD_ushiftRight]
theorem b_sshr (n : Nat) (hn : n < 32) (x : Int32) {i : Nat} (hi : i < 32) : bt (x >>> (nI n &&& 31)) i = if n + i < 32 then bt x (n + i) else bt x 31 := by
  unfold bt
  rw [Int32.toBitVec_shiftRight]
  show (x.toBitVec.sshiftRight ((nI n &&& 31).toBitVec.smod 32).toNat).getLsbD i = _
  rw [s_l n hn, BitVec.getLsbD_sshiftRight, BitVec.msb_eq_getLsbD_last]
  simp [hi]
theorem b_shl8 (x : Int32) {i : Nat} (hi : i < 32) : bt (x <<< ((8 : Int32) &&& 31)) i = (decide (8 ≤ i) && bt x (i - 8)) := b_shl 8 (by omega) x hi
theorem b_shl16 (x : Int32) {i : Nat} (hi : i < 32) : bt (x <<< ((16 : Int32) &&& 31)) i = (decide (16 ≤ i) && bt x (i - 16)) := b_shl 16 (by omega) x hi
theorem b_shl24 (x : Int32) {i : Nat} (hi : i < 32) : bt (x <<< ((24 : Int32) &&& 31)) i = (decide (24 ≤ i) && bt x (i - 24)) := b_shl 24 (by omega) x hi
theorem b_sshr8 (x : Int32) {i : Nat} (hi : i < 32) : bt (x >>> ((8 : Int32) &&& 31)) i = if 8 + i < 32 then bt x (8 + i) else bt x 31 := b_sshr 8 (by omega) x hi
end
section
/-! numbers: Int64 by Int (zL), powers of ten (pTen), small narrowings -/
def zL (a : Int) : Int64 := Int64.ofInt a
theorem zl_T {a : Int} (h : a.natAbs < 9223372036854775808) : (zL a).toInt = a := Int64.toInt_ofInt_of_le (by omega) (by omega)
theorem zl_le {a b : Int} (ha : a.natAbs < 9223372036854775808) (hb : b.natAbs < 9223372036854775808) : zL a ≤ zL b ↔ a ≤ b := by
  rw [Int64.le_iff_toInt_le, zl_T ha, zl_T hb]
theorem zl_lt {a b : Int} (ha : a.natAbs < 9223372036854775808) (hb : b.natAbs < 9223372036854775808) : zL a < zL b ↔ a < b := by
  rw [Int64.lt_iff_toInt_lt, zl_T ha, zl_T hb]
theorem zl_eq {a b : Int} (ha : a.natAbs < 9223372036854775808) (hb : b.natAbs < 9223372036854775808) : zL a = zL b ↔ a = b := by
  rw [← Int64.toInt_inj, zl_T ha, zl_T hb]
theorem zl_add (a b : Int) : zL a + zL b = zL (a + b) := (Int64.ofInt_add a b).symm
theorem zl_sub (a b : Int) : zL a - zL b = zL (a - b) := (Int64.ofInt_sub a b).symm
theorem zl_mul (a b : Int) : zL a * zL b = zL (a * b) := (Int64.ofInt_mul a b).symm
theorem zl_neg (a : Int) : -zL a = zL (-a) := (Int64.ofInt_neg a).symm
theorem zl_div {a b : Int} (ha : a.natAbs < 9223372036854775808) (hb : b.natAbs < 9223372036854775808) : zL a / zL b = zL (a.tdiv b) := by
  have h1 : Int64.minValue.toInt = -9223372036854775808 := by decide
  have h2 : Int64.maxValue.toInt = 9223372036854775807 := by decide
  exact (Int64.ofInt_tdiv (by omega) (by omega) (by omega) (by omega)).symm
theorem zl_rem {a b : Int} (ha : a.natAbs < 9223372036854775808) (hb : b.natAbs < 9223372036854775808) : zL a - zL a / zL b * zL b = zL (a.tmod b) := by
  rw [zl_div ha hb, zl_mul, zl_sub, Int.tmod_def, Int.mul_comm]
theorem zl_n (n : Nat) : zL (n : Int) = lN n := Int64.ofInt_eq_ofNat
theorem zl_i (x : Int32) : x.toInt64 = zL x.toInt := rfl
theorem zl_0 : (0 : Int64) = zL 0 := by decide
theorem zl_1 : (1 : Int64) = zL 1 := by decide
theorem zl_2 : (2 : Int64) = zL 2 := by decide
theorem zl_10 : (10 : Int64) = zL 10 := by decide
theorem zl_ne {a b : Int} (ha : a.natAbs < 9223372036854775808) (hb : b.natAbs < 9223372036854775808) (h : a ≠ b) : ¬ zL a = zL b := fun z => h ((zl_eq ha hb).mp z)
theorem zl_10n : ¬ (10 : Int64) = 0 := by decide
theorem zl_bn : ¬ (1000000000 : Int64) = 0 := by decide
/-! branches over zL -/
theorem zb_le {x y : Int64} {A B : Prop} (a b : Int) (f : a ≤ b → A) (g : b < a → B) (ha : a.natAbs < 9223372036854775808) (hb : b.natAbs < 9223372036854775808) (hx : x = zL a := by rfl) (hy : y = zL b := by rfl) : (x ≤ y → A) ∧ (¬ x ≤ y → B) := by
  subst hx hy
  rw [zl_le ha hb]
  exact ⟨f, fun z => g (by omega)⟩
theorem zb_lt {x y : Int64} {A B : Prop} (a b : Int) (f : a < b → A) (g : b ≤ a → B) (ha : a.natAbs < 9223372036854775808) (hb : b.natAbs < 9223372036854775808) (hx : x = zL a := by rfl) (hy : y = zL b := by rfl) : (x < y → A) ∧ (¬ x < y → B) := by
  subst hx hy
  rw [zl_lt ha hb]
  exact ⟨f, fun z => g (by omega)⟩
theorem zb_eq {x y : Int64} {A B : Prop} (a b : Int) (f : a = b → A) (g : a ≠ b → B) (ha : a.natAbs < 9223372036854775808) (hb : b.natAbs < 9223372036854775808) (hx : x = zL a := by rfl) (hy : y = zL b := by rfl) : (x = y → A) ∧ (¬ x = y → B) := by
  subst hx hy
  rw [zl_eq ha hb]
  exact ⟨f, g⟩
/-! powers of ten -/
def pTen (k : Nat) : Nat := 10 ^ k
theorem pt_0 : pTen 0 = 1 := rfl
theorem pt_s (k : Nat) : pTen (k + 1) = pTen k * 10 := Nat.pow_succ 10 k
theorem pt_pos (k : Nat) : 0 < pTen k := Nat.pow_pos (by decide)
theorem pt_add (a b : Nat) : pTen (a + b) = pTen a * pTen b := Nat.pow_add 10 a b
theorem pt_mono {a b : Nat} (h : a ≤ b) : pTen a ≤ pTen b := Nat.pow_le_pow_right (by decide) h
theorem pt_9 {a : Nat} (h : a ≤ 9) : pTen a ≤ 1000000000 := pt_mono (b := 9) h
theorem pt_18 {a : Nat} (h : a ≤ 18) : pTen a ≤ 1000000000000000000 := pt_mono (b := 18) h
theorem pt_lt {a b : Nat} (h : a < b) : pTen a < pTen b := Nat.pow_lt_pow_right (by decide) h
def PwOK (pw : Nat → Int64) : Prop := ∀ k, k < 19 → pw k = zL (pTen k)
/-! small narrowings -/
theorem nb_8 : ∀ c, c < 128 → (nI c).toInt8.toInt32 = nI c := by decide +kernel
theorem nb_v {c : Nat} (h : c < 128) : vp_nar .byte (nI c) = nI c := by rw [vp_nar_byte, nb_8 c h]
theorem nb_w {c : Nat} (h : c < 128) : vp_nar .byte (nI c).toInt8.toInt32 = nI c := by rw [nb_8 c h, nb_v h]
theorem nb_b0 : vp_nar .boolean 0 = 0 := rfl
theorem nb_b1 : vp_nar .boolean 1 = 1 := rfl
theorem nb_bz {g : Nat} (h : g ≤ 1) : vp_nar .boolean (nI g) = nI g := by
  rcases (by omega : g = 0 ∨ g = 1) with rfl | rfl <;> rfl
theorem nb_m (x : Int32) : x + (-1) = x - 1 := (Int32.sub_eq_add_neg x 1).symm
theorem nb_rem {l : Nat} (h : l < 9223372036854775808) : (lN l - lN l / 10 * 10).toInt32 = nI (l % 10) := by
  rw [show (10 : Int64) = lN 10 from rfl, pk_lRem (by omega) (by omega) (by omega), lN_i]
theorem nb_div {l : Nat} (h : l < 9223372036854775808) : lN l / 10 = lN (l / 10) := by
  rw [show (10 : Int64) = lN 10 from rfl, pk_lDiv (by omega) (by omega) (by omega)]
theorem nb_z : ∀ k : Nat, (0 : Int32) * nI k = 0 := fun k => Int32.zero_mul
theorem nb_a0 (x : Int32) : x + 0 = x := Int32.add_zero x
theorem nb_m0 (x : Int32) : x - 0 = x := Int32.sub_zero x
/-! a store of a row: [lo, hi) holds g -/
def bk (s : Nat → Int32) (lo hi : Nat) (g : Nat → Int32) : Nat → Int32 := fun j => if lo ≤ j ∧ j < hi then g j else s j
theorem bk_0 (s : Nat → Int32) (lo : Nat) (g : Nat → Int32) : bk s lo lo g = s := by
  funext j; unfold bk; rw [if_neg]; omega
theorem bk_s {s : Nat → Int32} {lo hi : Nat} {g : Nat → Int32} (h : lo ≤ hi) {x : Int32} (hx : x = g hi) : upd (bk s lo hi g) hi x = bk s lo (hi + 1) g := by
  funext j; subst hx; unfold bk upd
  by_cases e : j = hi
  · subst e; rw [if_pos rfl, if_pos (by omega)]
  · rw [if_neg e]
    dsimp only
    by_cases f : lo ≤ j ∧ j < hi
    · rw [if_pos f, if_pos (by omega)]
    · rw [if_neg f, if_neg (by omega)]
theorem bk_p {s : Nat → Int32} {lo hi : Nat} {g : Nat → Int32} (h : lo < hi) {x : Int32} (hx : x = g lo) : upd (bk s (lo + 1) hi g) lo x = bk s lo hi g := by
  funext j; subst hx; unfold bk upd
  by_cases e : j = lo
  · subst e; rw [if_pos rfl, if_pos (by omega)]
  · rw [if_neg e]
    dsimp only
    by_cases f : lo + 1 ≤ j ∧ j < hi
    · rw [if_pos f, if_pos (by omega)]
    · rw [if_neg f, if_neg (by omega)]
theorem bk_in {s : Nat → Int32} {lo hi j : Nat} {g : Nat → Int32} (h1 : lo ≤ j) (h2 : j < hi) : bk s lo hi g j = g j := if_pos ⟨h1, h2⟩
theorem bk_out {s : Nat → Int32} {lo hi j : Nat} {g : Nat → Int32} (h : j < lo ∨ hi ≤ j) : bk s lo hi g j = s j := if_neg (by omega)
theorem bk_c {s : Nat → Int32} {lo hi : Nat} {g g' : Nat → Int32} (h : ∀ j, lo ≤ j → j < hi → g j = g' j) : bk s lo hi g = bk s lo hi g' := by
  funext j; unfold bk
  by_cases e : lo ≤ j ∧ j < hi
  · rw [if_pos e, if_pos e, h j e.1 e.2]
  · rw [if_neg e, if_neg e]
/-! the storage holds characters -/
def StOK (s : Nat → Int32) : Prop := ∀ j, ∃ c, c ≤ 41 ∧ s j = nI c
def cd (s : Nat → Int32) (j : Nat) : Nat := (s j).toNatClampNeg
theorem cd_e {s : Nat → Int32} (h : StOK s) (j : Nat) : s j = nI (cd s j) := by
  obtain ⟨c, hc, e⟩ := h j
  unfold cd; rw [e, nI_clamp (by omega)]
theorem cd_l {s : Nat → Int32} (h : StOK s) (j : Nat) : cd s j ≤ 41 := by
  obtain ⟨c, hc, e⟩ := h j
  unfold cd; rw [e, nI_clamp (by omega)]; exact hc
theorem so_u {s : Nat → Int32} {k : Nat} {x : Int32} (h : StOK s) (hx : ∃ c, c ≤ 41 ∧ x = nI c) : StOK (upd s k x) := by
  intro j; unfold upd
  by_cases e : j = k
  · rw [if_pos e]; exact hx
  · rw [if_neg e]; exact h j
theorem so_b {s : Nat → Int32} {lo hi : Nat} {g : Nat → Int32} (h : StOK s) (hg : ∀ j, lo ≤ j → j < hi → ∃ c, c ≤ 41 ∧ g j = nI c) : StOK (bk s lo hi g) := by
  intro j; unfold bk
  by_cases e : lo ≤ j ∧ j < hi
  · rw [if_pos e]; exact hg j e.1 e.2
  · rw [if_neg e]; exact h j
theorem so_v {s : Nat → Int32} (h : StOK s) (j : Nat) : vp_nar .byte (s j) = s j := by
  rw [cd_e h j]; exact nb_v (by have := cd_l h j; omega)
end
section
/-! items, operands, values -/
def q_ct (sig : Nat → Int32) (a : Nat) : Nat → Nat
  | 0 => 0
  | m + 1 => q_ct sig a m + (if 4 ≤ sig (a + m) then 0 else 1)
theorem ct_le (sig : Nat → Int32) (a : Nat) : ∀ m, q_ct sig a m ≤ m
  | 0 => Nat.le_refl 0
  | m + 1 => by
    have := ct_le sig a m
    show q_ct sig a m + (if 4 ≤ sig (a + m) then 0 else 1) ≤ m + 1
    by_cases h : 4 ≤ sig (a + m)
    · rw [if_pos h]; omega
    · rw [if_neg h]; omega
theorem ct_c {sig sig' : Nat → Int32} {a : Nat} : ∀ m, (∀ j, j < m → sig (a + j) = sig' (a + j)) → q_ct sig a m = q_ct sig' a m
  | 0, _ => rfl
  | m + 1, h => by
    show q_ct sig a m + (if 4 ≤ sig (a + m) then 0 else 1) = q_ct sig' a m + (if 4 ≤ sig' (a + m) then 0 else 1)
    rw [ct_c m (fun j hj => h j (by omega)), h m (by omega)]
theorem ct_m (sig : Nat → Int32) (a : Nat) {m : Nat} : ∀ r, q_ct sig a m ≤ q_ct sig a (m + r)
  | 0 => Nat.le_refl _
  | r + 1 => Nat.le_trans (ct_m sig a r) (Nat.le_add_right _ _)
theorem ct_s1 {sig : Nat → Int32} {a m : Nat} (h : 4 ≤ sig (a + m)) : q_ct sig a (m + 1) = q_ct sig a m := by
  show q_ct sig a m + (if 4 ≤ sig (a + m) then 0 else 1) = _
  rw [if_pos h]; rfl
theorem ct_s0 {sig : Nat → Int32} {a m : Nat} (h : ¬ 4 ≤ sig (a + m)) : q_ct sig a (m + 1) = q_ct sig a m + 1 := by
  show q_ct sig a m + (if 4 ≤ sig (a + m) then 0 else 1) = _
  rw [if_neg h]
def q_It (srt bas len dig dcm sgn tim sig yle ysg : Nat → Int32) (i k b w d e g t l h : Nat) : Prop :=
  (srt i = nI k ∧ bas i = nI b ∧ len i = nI w ∧ dig i = nI d ∧ dcm i = nI e ∧ sgn i = nI g ∧ tim i = nI t ∧ yle i = nI l ∧ ysg i = nI h) ∧
  (i < 12 ∧ 1 ≤ t ∧ t ≤ 9 ∧ b + w * t ≤ 96 ∧ 1 ≤ w ∧ w ≤ 12 ∧ e ≤ d ∧ d ≤ 9) ∧
  ((k = 1 ∧ 1 ≤ d ∧ g ≤ 1 ∧ w = d + g ∧ l = d ∧ h = g) ∨ (k = 2 ∧ d = 0 ∧ g = 0 ∧ l = w ∧ h ≤ 1) ∨ (k = 3 ∧ 1 ≤ d ∧ g = 0 ∧ l = w ∧ h ≤ 1 ∧ w ≤ 8 ∧ q_ct sig (8 * i) w = d ∧ ∀ j, j < w → ∃ v, 1 ≤ v ∧ v ≤ 7 ∧ sig (8 * i + j) = nI v))
def q_At (b w t : Nat) (ix : Int32) (el p : Nat) : Prop := 1 ≤ el ∧ el ≤ t ∧ p = b + (el - 1) * w ∧ (t = 1 ∨ ix = nI el)
theorem aq_in {b w t el p : Nat} {ix : Int32} (h : b + w * t ≤ 96) (A : q_At b w t ix el p) : p + w ≤ 96 := by
  obtain ⟨a, c, rfl, -⟩ := A
  obtain ⟨m, rfl⟩ : ∃ m, el = m + 1 := ⟨el - 1, by omega⟩
  have h2 : (m + 1) * w ≤ t * w := Nat.mul_le_mul_right w c
  rw [Nat.succ_mul] at h2
  rw [Nat.mul_comm w t] at h
  rw [Nat.add_sub_cancel]
  omega
def q_nv (s : Nat → Int32) (q : Nat) : Nat → Nat
  | 0 => 0
  | m + 1 => 10 * q_nv s q m + (if cd s (q + m) < 10 then cd s (q + m) else 0)
theorem nv_lt (s : Nat → Int32) (q : Nat) : ∀ m, q_nv s q m < pTen m
  | 0 => pt_pos 0
  | m + 1 => by
    have := nv_lt s q m
    show 10 * q_nv s q m + (if cd s (q + m) < 10 then cd s (q + m) else 0) < pTen (m + 1)
    rw [pt_s]
    by_cases h : cd s (q + m) < 10
    · rw [if_pos h]; omega
    · rw [if_neg h]; omega
def q_tv (s : Nat → Int32) (q : Nat) : Nat → Nat
  | 0 => 0
  | m + 1 => if cd s (q + m) < 10 then (10 * q_tv s q m + cd s (q + m)) % 1000000000 else q_tv s q m
theorem tv_lt (s : Nat → Int32) (q : Nat) : ∀ m, q_tv s q m < 1000000000
  | 0 => (by decide : 0 < 1000000000)
  | m + 1 => by
    have := tv_lt s q m
    show (if cd s (q + m) < 10 then (10 * q_tv s q m + cd s (q + m)) % 1000000000 else q_tv s q m) < 1000000000
    by_cases h : cd s (q + m) < 10
    · rw [if_pos h]; omega
    · rw [if_neg h]; exact this
def q_mn (s : Nat → Int32) (q : Nat) : Nat → Nat
  | 0 => 0
  | m + 1 => if s (q + m) = 11 then 1 else q_mn s q m
theorem mn_le (s : Nat → Int32) (q : Nat) : ∀ m, q_mn s q m ≤ 1
  | 0 => Nat.zero_le 1
  | m + 1 => by
    have := mn_le s q m
    show (if s (q + m) = 11 then 1 else q_mn s q m) ≤ 1
    by_cases h : s (q + m) = 11
    · rw [if_pos h]; omega
    · rw [if_neg h]; exact this
theorem mn_1 (s : Nat → Int32) (q j : Nat) (hj : s (q + j) = 11) : ∀ m, j < m → q_mn s q m = 1
  | 0, h => by omega
  | m + 1, h => by
    show (if s (q + m) = 11 then 1 else q_mn s q m) = 1
    by_cases e : s (q + m) = 11
    · rw [if_pos e]
    · rw [if_neg e]
      have : j ≠ m := fun z => e (z ▸ hj)
      exact mn_1 s q j hj m (by omega)
theorem mn_0 (s : Nat → Int32) (q : Nat) : ∀ m, (∀ j, j < m → ¬ s (q + j) = 11) → q_mn s q m = 0
  | 0, _ => rfl
  | m + 1, h => by
    show (if s (q + m) = 11 then 1 else q_mn s q m) = 0
    rw [if_neg (h m (by omega))]
    exact mn_0 s q m (fun j hj => h j (by omega))
def q_val (s : Nat → Int32) (k g w p : Nat) : Int :=
  if k = 1 then (if g = 1 ∧ s p = 11 then -((q_nv s (p + g) (w - g) : Nat) : Int) else ((q_nv s (p + g) (w - g) : Nat) : Int))
  else (if k = 3 ∧ q_mn s p w = 1 then -((q_tv s p w : Nat) : Int) else ((q_tv s p w : Nat) : Int))
theorem val_b {s : Nat → Int32} {k g w p : Nat} (h : k = 1 → w - g ≤ 9) : (q_val s k g w p).natAbs < 1000000000 := by
  unfold q_val
  by_cases a : k = 1
  · rw [if_pos a]
    have h1 := nv_lt s (p + g) (w - g)
    have h2 := pt_9 (h a)
    by_cases c : g = 1 ∧ s p = 11
    · rw [if_pos c]; omega
    · rw [if_neg c]; omega
  · rw [if_neg a]
    have h1 := tv_lt s p w
    by_cases c : k = 3 ∧ q_mn s p w = 1
    · rw [if_pos c]; omega
    · rw [if_neg c]; omega
end
section
section
variable {cn : Int32} {xpa : Int32} {xop : Int32} {pl : Int32} {ck : Int32} {pf : Int32} {pc : Int32} {st : Int32} {ix : Int32} {xst : Int32} {tl : Int32} {ds : Int32} {sto : Nat → Int32} {srt : Nat → Int32} {bas : Nat → Int32} {len : Nat → Int32} {dig : Nat → Int32} {dcm : Nat → Int32} {sgn : Nat → Int32} {tim : Nat → Int32} {sig : Nat → Int32} {op : Nat → Int32} {opX : Nat → Int32} {opY : Nat → Int32} {opZ : Nat → Int32} {tgt : Nat → Int32} {sta : Nat → Int32} {ins : Nat → Int32} {opn : Nat → Int32} {pE : Nat → Int32} {pL : Nat → Int32} {pI : Nat → Int32} {pB : Nat → Int32} {out : Nat → Int32} {pw : Nat → Int64} {wk : Nat → Int32} {yle ysg : Nat → Int32}
theorem xa_at {post : Int32 → Prop} {i k b w d e g t l h el p : Nat} {jx : Int32} (H : q_It srt bas len dig dcm sgn tim sig yle ysg i k b w d e g t l h) (A : q_At b w t jx el p) (hp : post (nI p)) : wpX_at post (cn, xpa, xop, pl, ck, pf, pc, st, ix, xst, tl, ds, sto, srt, bas, len, dig, dcm, sgn, tim, sig, op, opX, opY, opZ, tgt, sta, ins, opn, pE, pL, pI, pB, out, pw, wk) (nI i) jx := by
  obtain ⟨⟨-, hb, hw, -, -, -, ht, -, -⟩, ⟨hi, t1, t9, -⟩, -⟩ := H
  obtain ⟨e1, e2, rfl, A⟩ := A
  have hin : vp_in (nI i) 12 := vp_in_nI hi (by omega)
  have hc : (nI i).toNatClampNeg = i := nI_clamp (by omega)
  unfold wpX_at
  refine ⟨hin, hin, ?_⟩
  rw [hc, hb, hw, ht]
  by_cases h1 : t ≤ 1
  · refine br_t (nI_le (b := 1) h1 (by omega)) ⟨hin, ?_⟩
    obtain rfl : el = 1 := by omega
    rw [nb_z, nb_a0]
    rw [Nat.sub_self, Nat.zero_mul, Nat.add_zero] at hp
    exact hp
  · refine br_f (nI_ge (b := t) (a := 1) (by omega) (by omega)) ⟨hin, ?_⟩
    rcases A with A | rfl
    · omega
    · rw [show nI el - 1 = nI (el - 1) from pk_sub (b := 1) e1, pk_mul, nI_add]
      exact hp
theorem xa_v92 {post : Int64 → Prop} {i b w d e g t l h p : Nat} (H : q_It srt bas len dig dcm sgn tim sig yle ysg i 1 b w d e g t l h) (hs : StOK sto) (hp : p + w ≤ 96) (hP : post (zL (q_val sto 1 g w p))) : ∀ r m n : Nat, m + r = w - g → r < n → wX_valueOf_92 post (nI i) (nI p) (nI (p + w)) cn xpa xop pl ck pf pc st ix xst tl ds sto srt bas len dig dcm sgn tim sig op opX opY opZ tgt sta ins opn pE pL pI pB out pw wk n (lN (q_nv sto (p + g) m)) (nI (p + g + m)) := by
  obtain ⟨⟨-, -, -, -, -, hg, -, -, -⟩, ⟨hi, -⟩, hk⟩ := H
  have hin : vp_in (nI i) 12 := vp_in_nI hi (by omega)
  have hc : (nI i).toNatClampNeg = i := nI_clamp (by omega)
  have hgw : g ≤ 1 ∧ g ≤ w ∧ 1 ≤ w := by omega
  intro r
  induction r with
  | zero =>
    intro m n hm hn
    obtain ⟨n, rfl⟩ : ∃ q, n = q + 1 := ⟨n - 1, by omega⟩
    refine br_t (nI_le (by omega) (by omega)) ⟨hin, ?_⟩
    rw [hc, hg]
    obtain rfl : m = w - g := by omega
    by_cases g0 : g = 0
    · subst g0
      refine br_t rfl ?_
      unfold q_val at hP
      rw [if_pos rfl, if_neg (by omega), zl_n] at hP
      exact hP
    · obtain rfl : g = 1 := by omega
      refine br_f (nI_ne0 (by omega) (by omega)) ⟨vp_in_nI (by omega) (by omega), ?_⟩
      rw [nI_clamp (n := p) (by omega)]
      unfold q_val at hP
      rw [if_pos rfl] at hP
      by_cases m11 : sto p = 11
      · refine br_t m11 ?_
        rw [if_pos ⟨rfl, m11⟩, ← zl_neg, zl_n] at hP
        exact hP
      · refine br_f m11 ?_
        rw [if_neg (fun z => m11 z.2), zl_n] at hP
        exact hP
  | succ r ih =>
    intro m n hm hn
    obtain ⟨n, rfl⟩ : ∃ q, n = q + 1 := ⟨n - 1, by omega⟩
    have hin2 : vp_in (nI (p + g + m)) 96 := vp_in_nI (by omega) (by omega)
    refine br_f (nI_ge (by omega) (by omega)) ⟨hin2, ?_⟩
    rw [nI_clamp (n := p + g + m) (by omega), cd_e hs (p + g + m)]
    have cl := cd_l hs (p + g + m)
    have K := ih (m + 1) n (by omega) (by omega)
    by_cases c : cd sto (p + g + m) < 10
    · refine br_f (nI_ge (b := 10) c (by omega)) ⟨hin2, nm_r ?_ (nm_r (nI_1 _) K)⟩
      rw [nI_l (by omega), show (10 : Int64) = lN 10 from rfl, lN_mul, lN_add]
      show _ = lN (10 * q_nv sto (p + g) m + (if cd sto (p + g + m) < 10 then cd sto (p + g + m) else 0))
      rw [if_pos c]
    · refine br_t (nI_le (a := 10) (by omega) (by omega)) (nm_r ?_ (nm_r (nI_1 _) K))
      rw [show (0 : Int32).toInt64 = lN 0 from rfl, show (10 : Int64) = lN 10 from rfl, lN_mul, lN_add]
      show _ = lN (10 * q_nv sto (p + g) m + (if cd sto (p + g + m) < 10 then cd sto (p + g + m) else 0))
      rw [if_neg c]
theorem xa_v5 {post : Int64 → Prop} {w p : Nat} (hs : StOK sto) (hp : p + w ≤ 96) (hP : post (lN (q_tv sto p w))) : ∀ r m n : Nat, m + r = w → r < n → wX_digitsOf_5 post (nI (p + w)) cn xpa xop pl ck pf pc st ix xst tl ds sto srt bas len dig dcm sgn tim sig op opX opY opZ tgt sta ins opn pE pL pI pB out pw wk n (lN (q_tv sto p m)) (nI (p + m)) := by
  intro r
  induction r with
  | zero =>
    intro m n hm hn
    obtain ⟨n, rfl⟩ : ∃ q, n = q + 1 := ⟨n - 1, by omega⟩
    obtain rfl : m = w := by omega
    exact br_t (nI_le (by omega) (by omega)) hP
  | succ r ih =>
    intro m n hm hn
    obtain ⟨n, rfl⟩ : ∃ q, n = q + 1 := ⟨n - 1, by omega⟩
    have hin2 : vp_in (nI (p + m)) 96 := vp_in_nI (by omega) (by omega)
    refine br_f (nI_ge (by omega) (by omega)) ⟨hin2, ?_⟩
    rw [nI_clamp (n := p + m) (by omega), cd_e hs (p + m)]
    have cl := cd_l hs (p + m)
    have tl' := tv_lt sto p m
    have K := ih (m + 1) n (by omega) (by omega)
    by_cases c : cd sto (p + m) < 10
    · refine br_f (nI_ge (b := 10) c (by omega)) ⟨hin2, zl_bn, nm_r ?_ (nm_r (nI_1 _) K)⟩
      rw [nI_l (by omega), show (10 : Int64) = lN 10 from rfl, show (1000000000 : Int64) = lN 1000000000 from rfl, lN_mul, lN_add, pk_lRem (by omega) (by omega) (by omega)]
      show _ = lN (if cd sto (p + m) < 10 then (10 * q_tv sto p m + cd sto (p + m)) % 1000000000 else q_tv sto p m)
      rw [if_pos c]
    · refine br_t (nI_le (a := 10) (by omega) (by omega)) (nm_r (nI_1 _) ?_)
      have e : q_tv sto p (m + 1) = q_tv sto p m := by
        show (if cd sto (p + m) < 10 then (10 * q_tv sto p m + cd sto (p + m)) % 1000000000 else q_tv sto p m) = _
        rw [if_neg c]
      rw [e] at K
      exact K
theorem xa_v30 {post : Int64 → Prop} {i k b w d e g t l h p : Nat} (H : q_It srt bas len dig dcm sgn tim sig yle ysg i k b w d e g t l h) (k1 : ¬ k = 1) (hp : p + w ≤ 96) (hP : post (zL (q_val sto k g w p))) : ∀ r m n : Nat, m + r = w → r < n → (k = 3 → ∀ j, j < m → ¬ sto (p + j) = 11) → wX_valueOf_30 post (nI i) (nI (p + w)) (lN (q_tv sto p w)) cn xpa xop pl ck pf pc st ix xst tl ds sto srt bas len dig dcm sgn tim sig op opX opY opZ tgt sta ins opn pE pL pI pB out pw wk n (nI (p + m)) := by
  obtain ⟨⟨hk, -, -, -, -, hg, -, -, -⟩, ⟨hi, -⟩, hkk⟩ := H
  have hin : vp_in (nI i) 12 := vp_in_nI hi (by omega)
  have hc : (nI i).toNatClampNeg = i := nI_clamp (by omega)
  unfold q_val at hP
  rw [if_neg k1] at hP
  intro r
  induction r with
  | zero =>
    intro m n hm hn hn11
    obtain ⟨n, rfl⟩ : ∃ q, n = q + 1 := ⟨n - 1, by omega⟩
    obtain rfl : m = w := by omega
    refine br_t (nI_le (by omega) (by omega)) ?_
    rw [if_neg (fun z => by have := mn_0 sto p m (hn11 z.1); omega), zl_n] at hP
    exact hP
  | succ r ih =>
    intro m n hm hn hn11
    obtain ⟨n, rfl⟩ : ∃ q, n = q + 1 := ⟨n - 1, by omega⟩
    have hin2 : vp_in (nI (p + m)) 96 := vp_in_nI (by omega) (by omega)
    refine br_f (nI_ge (by omega) (by omega)) ⟨hin, ?_⟩
    rw [hc, hk]
    by_cases k3 : k = 3
    · refine br_t (by rw [k3]; rfl) ⟨hin2, ?_⟩
      rw [nI_clamp (n := p + m) (by omega)]
      by_cases c : sto (p + m) = 11
      · refine br_t c ?_
        rw [if_pos ⟨k3, mn_1 sto p m c w (by omega)⟩, ← zl_neg, zl_n] at hP
        exact hP
      · exact br_f c (nm_r (nI_1 _) (ih (m + 1) n (by omega) (by omega) (fun z j hj => by
          rcases (by omega : j < m ∨ j = m) with q | rfl
          · exact hn11 z j q
          · exact c)))
    · exact br_f (fun z => k3 ((nI_eq (b := 3) (by omega) (by omega)).mp z)) (nm_r (nI_1 _) (ih (m + 1) n (by omega) (by omega) (fun z => absurd z k3)))
theorem xa_val {post : Int64 → Prop} {i k b w d e g t l h p : Nat} (H : q_It srt bas len dig dcm sgn tim sig yle ysg i k b w d e g t l h) (hs : StOK sto) (hp : p + w ≤ 96) (hP : post (zL (q_val sto k g w p))) : wpX_valueOf post (cn, xpa, xop, pl, ck, pf, pc, st, ix, xst, tl, ds, sto, srt, bas, len, dig, dcm, sgn, tim, sig, op, opX, opY, opZ, tgt, sta, ins, opn, pE, pL, pI, pB, out, pw, wk) (nI i) (nI p) := by
  have H' := H
  obtain ⟨⟨hk, -, hw, -, -, hg, -, -, -⟩, ⟨hi, -⟩, hkk⟩ := H'
  have hin : vp_in (nI i) 12 := vp_in_nI hi (by omega)
  have hc : (nI i).toNatClampNeg = i := nI_clamp (by omega)
  unfold wpX_valueOf
  refine ⟨hin, ?_⟩
  rw [hc, hw, hk, hg]
  refine nm_r (nI_add _ _) ⟨hin, ?_⟩
  by_cases k1 : k = 1
  · subst k1
    refine br_t rfl ⟨hin, ?_⟩
    by_cases g0 : g = 0
    · subst g0
      exact br_t rfl ⟨w + 1, xa_v92 H hs hp hP w 0 (w + 1) (by omega) (by omega)⟩
    · obtain rfl : g = 1 := by omega
      exact br_f (nI_ne0 (by omega) (by omega)) (nm_r (nI_1 _) ⟨w + 1, xa_v92 H hs hp hP (w - 1) 0 (w + 1) (by omega) (by omega)⟩)
  · refine br_f (fun z => k1 ((nI_eq (b := 1) (by omega) (by omega)).mp z)) ?_
    unfold wpX_digitsOf
    exact ⟨w + 1, xa_v5 hs hp ⟨w + 1, xa_v30 H k1 hp hP w 0 (w + 1) (by omega) (by omega) (fun _ j hj => by omega)⟩ w 0 (w + 1) (by omega) (by omega)⟩
theorem xa_opnd {post : Int64 → Prop} {i k b w d e g t l h el p : Nat} {z : Int32} (H : q_It srt bas len dig dcm sgn tim sig yle ysg i k b w d e g t l h) (hs : StOK sto) (A : q_At b w t ix el p) (hP : post (zL (q_val sto k g w p))) : wpX_operand post (cn, xpa, xop, pl, ck, pf, pc, st, ix, xst, tl, ds, sto, srt, bas, len, dig, dcm, sgn, tim, sig, op, opX, opY, opZ, tgt, sta, ins, opn, pE, pL, pI, pB, out, pw, wk) (nI i) z := by
  have hi : i < 12 := H.2.1.1
  have hp := aq_in H.2.1.2.2.2.1 A
  unfold wpX_operand
  refine br_f (fun z => by have := (nI_eq (b := 16) (by omega) (by omega)).mp z; omega) ?_
  exact xa_at H A (xa_val H hs hp hP)
theorem xa_op16 {post : Int64 → Prop} {z : Int32} (hP : post (zL z.toInt)) : wpX_operand post (cn, xpa, xop, pl, ck, pf, pc, st, ix, xst, tl, ds, sto, srt, bas, len, dig, dcm, sgn, tim, sig, op, opX, opY, opZ, tgt, sta, ins, opn, pE, pL, pI, pB, out, pw, wk) 16 z := by
  unfold wpX_operand
  exact br_t rfl hP
theorem xa_pt {post : Int32 → Prop} {i k b w d e g t l h : Nat} (H : q_It srt bas len dig dcm sgn tim sig yle ysg i k b w d e g t l h) (hP : post (nI e)) : wpX_pointOf post (cn, xpa, xop, pl, ck, pf, pc, st, ix, xst, tl, ds, sto, srt, bas, len, dig, dcm, sgn, tim, sig, op, opX, opY, opZ, tgt, sta, ins, opn, pE, pL, pI, pB, out, pw, wk) (nI i) := by
  obtain ⟨⟨-, -, -, -, he, -⟩, ⟨hi, -⟩, -⟩ := H
  unfold wpX_pointOf
  refine br_f (fun z => by have := (nI_eq (b := 16) (by omega) (by omega)).mp z; omega) ⟨vp_in_nI hi (by omega), ?_⟩
  rw [nI_clamp (by omega), he]
  exact hP
theorem xa_pt16 {post : Int32 → Prop} (hP : post (nI 0)) : wpX_pointOf post (cn, xpa, xop, pl, ck, pf, pc, st, ix, xst, tl, ds, sto, srt, bas, len, dig, dcm, sgn, tim, sig, op, opX, opY, opZ, tgt, sta, ins, opn, pE, pL, pI, pB, out, pw, wk) 16 := by
  unfold wpX_pointOf
  exact br_t rfl hP
end
end
section
/-! scaling, powers and digits; the reference's readings -/
def q_sc (v : Int) (f t : Nat) : Int := if t < f then v.tdiv (pTen (f - t) : Nat) else v * (pTen (t - f) : Nat)
theorem so_lt {s : Nat → Int32} (h : StOK s) {j : Nat} (c : cd s j < 10) : ¬ (10 : Int32) ≤ s j := by
  rw [cd_e h j]; exact nI_ge (b := 10) c (by omega)
theorem so_ge {s : Nat → Int32} (h : StOK s) {j : Nat} (c : ¬ cd s j < 10) : (10 : Int32) ≤ s j := by
  rw [cd_e h j]; exact nI_le (a := 10) (by omega) (by have := cd_l h j; omega)
theorem so_l {s : Nat → Int32} (h : StOK s) (j : Nat) : (s j).toInt64 = lN (cd s j) := by
  have e := cd_e h j
  have l := cd_l h j
  generalize cd s j = c at *
  rw [e, nI_l (by omega)]
section
variable {cn : Int32} {xpa : Int32} {xop : Int32} {pl : Int32} {ck : Int32} {pf : Int32} {pc : Int32} {st : Int32} {ix : Int32} {xst : Int32} {tl : Int32} {ds : Int32} {sto : Nat → Int32} {srt : Nat → Int32} {bas : Nat → Int32} {len : Nat → Int32} {dig : Nat → Int32} {dcm : Nat → Int32} {sgn : Nat → Int32} {tim : Nat → Int32} {sig : Nat → Int32} {op : Nat → Int32} {opX : Nat → Int32} {opY : Nat → Int32} {opZ : Nat → Int32} {tgt : Nat → Int32} {sta : Nat → Int32} {ins : Nat → Int32} {opn : Nat → Int32} {pE : Nat → Int32} {pL : Nat → Int32} {pI : Nat → Int32} {pB : Nat → Int32} {out : Nat → Int32} {pw : Nat → Int64} {wk : Nat → Int32} {ypf : Int32} {yat : Int32} {yen : Int32} {yju : Int32} {yle : Nat → Int32} {ysg : Nat → Int32} {ych : Nat → Int32} {yot : Nat → Int32} {ylo : Nat → Int32} {yba : Nat → Int32} {yfr : Nat → Int32} {yva : Nat → Int32}
theorem xa_sc {post : Int64 → Prop} {v : Int} {f t : Nat} (hw : PwOK pw) (hv : v.natAbs < 9223372036854775808) (hf : f < 19) (ht : t < 19) (hP : post (zL (q_sc v f t))) : wpX_scaled post (cn, xpa, xop, pl, ck, pf, pc, st, ix, xst, tl, ds, sto, srt, bas, len, dig, dcm, sgn, tim, sig, op, opX, opY, opZ, tgt, sta, ins, opn, pE, pL, pI, pB, out, pw, wk) (zL v) (nI f) (nI t) := by
  unfold wpX_scaled
  unfold q_sc at hP
  by_cases h : t < f
  · rw [if_pos h] at hP
    have p1 := pt_pos (f - t)
    have p2 := pt_18 (a := f - t) (by omega)
    have hn : ¬ zL (pTen (f - t) : Nat) = 0 := by
      rw [zl_0]; exact zl_ne (by omega) (by omega) (by omega)
    refine br_t (nI_lt h (by omega)) ?_
    rw [pk_sub (by omega), nI_clamp (by omega), hw _ (by omega)]
    refine ⟨vp_in_nI (by omega) (by omega), nm_e (br_f hn ⟨hn, ?_⟩)⟩
    rw [zl_div hv (by omega)]
    exact hP
  · rw [if_neg h] at hP
    refine br_f (nI_nlt (by omega) (by omega)) ?_
    rw [pk_sub (by omega), nI_clamp (by omega), hw _ (by omega)]
    refine ⟨vp_in_nI (by omega) (by omega), ?_⟩
    rw [zl_mul]
    exact hP
theorem ya_sgn {post : Int32 → Prop} {i k b w d e g t l h : Nat} (H : q_It srt bas len dig dcm sgn tim sig yle ysg i k b w d e g t l h) (hP : post (nI g)) : wpY_hasSign post (cn, pl, ck, ypf, yat, st, ix, ds, yen, tl, yju, sto, srt, bas, yle, dcm, tim, sig, ysg, op, opX, opY, opZ, out, ych, yot, ylo, pE, pL, yba, yfr, yva) (nI i) := by
  obtain ⟨⟨hk, -, -, -, -, -, -, hl, hh⟩, ⟨hi, -⟩, hkk⟩ := H
  have hin : vp_in (nI i) 12 := vp_in_nI hi (by omega)
  have hc : (nI i).toNatClampNeg = i := nI_clamp (by omega)
  unfold wpY_hasSign
  refine ⟨hin, ?_⟩
  rw [hc, hk, hh]
  by_cases k1 : k = 1
  · subst k1
    obtain ⟨h1, rfl⟩ : g ≤ 1 ∧ h = g := by omega
    refine br_t rfl ⟨hin, ?_⟩
    rcases (by omega : h = 0 ∨ h = 1) with rfl | rfl
    · exact br_t rfl hP
    · exact br_f (by decide) hP
  · obtain rfl : g = 0 := by omega
    exact br_f (fun z => k1 ((nI_eq (b := 1) (by omega) (by omega)).mp z)) hP
theorem ya_w {post : Int32 → Prop} {i k b w d e g t l h : Nat} (H : q_It srt bas len dig dcm sgn tim sig yle ysg i k b w d e g t l h) (hP : post (nI w)) : wpY_width post (cn, pl, ck, ypf, yat, st, ix, ds, yen, tl, yju, sto, srt, bas, yle, dcm, tim, sig, ysg, op, opX, opY, opZ, out, ych, yot, ylo, pE, pL, yba, yfr, yva) (nI i) := by
  obtain ⟨⟨hk, -, -, -, -, -, -, hl, hh⟩, ⟨hi, -⟩, hkk⟩ := H
  have hin : vp_in (nI i) 12 := vp_in_nI hi (by omega)
  have hc : (nI i).toNatClampNeg = i := nI_clamp (by omega)
  unfold wpY_width
  refine ⟨hin, hin, ?_⟩
  rw [hc, hk, hh, hl]
  by_cases k1 : k = 1
  · subst k1
    obtain ⟨h1, rfl, hw, rfl⟩ : g ≤ 1 ∧ h = g ∧ w = d + g ∧ l = d := by omega
    refine br_t rfl ⟨hin, ?_⟩
    rcases (by omega : h = 0 ∨ h = 1) with rfl | rfl
    · refine br_t rfl ?_
      rw [nb_a0]; rw [hw] at hP; exact hP
    · refine br_f (by decide) ?_
      rw [nI_1]; rw [hw] at hP; exact hP
  · obtain rfl : l = w := by omega
    refine br_f (fun z => k1 ((nI_eq (b := 1) (by omega) (by omega)).mp z)) ?_
    rw [nb_a0]; exact hP
theorem ya_spot {post : Int32 → Prop} {i k b w d e g t l h el : Nat} (H : q_It srt bas len dig dcm sgn tim sig yle ysg i k b w d e g t l h) (h1 : 1 ≤ el) (hP : post (nI (b + (el - 1) * w))) : wpY_spot post (cn, pl, ck, ypf, yat, st, ix, ds, yen, tl, yju, sto, srt, bas, yle, dcm, tim, sig, ysg, op, opX, opY, opZ, out, ych, yot, ylo, pE, pL, yba, yfr, yva) (nI i) (nI el) := by
  have hi : i < 12 := H.2.1.1
  have hb := H.1.2.1
  unfold wpY_spot
  refine ⟨vp_in_nI hi (by omega), ya_w H ?_⟩
  rw [nI_clamp (by omega), hb, show nI el - 1 = nI (el - 1) from pk_sub (b := 1) h1, pk_mul, nI_add]
  exact hP
theorem ya_el {post : Int32 → Prop} {i k b w d e g t l h el p : Nat} (H : q_It srt bas len dig dcm sgn tim sig yle ysg i k b w d e g t l h) (A : q_At b w t ix el p) (hP : post (nI el)) : wpY_element post (cn, pl, ck, ypf, yat, st, ix, ds, yen, tl, yju, sto, srt, bas, yle, dcm, tim, sig, ysg, op, opX, opY, opZ, out, ych, yot, ylo, pE, pL, yba, yfr, yva) (nI i) := by
  obtain ⟨⟨-, -, -, -, -, -, ht, -, -⟩, ⟨hi, t1, t9, -⟩, -⟩ := H
  obtain ⟨e1, e2, -, A⟩ := A
  unfold wpY_element
  refine ⟨vp_in_nI hi (by omega), ?_⟩
  rw [nI_clamp (by omega), ht]
  by_cases h1 : t = 1
  · obtain rfl : el = 1 := by omega
    exact br_t (by rw [h1]; rfl) hP
  · refine br_f (fun z => h1 ((nI_eq (b := 1) (by omega) (by omega)).mp z)) ?_
    rcases A with A | rfl
    · exact absurd A h1
    · exact hP
def q_mk (k : Nat) (s : Nat → Int32) (p m : Nat) : Nat := if k = 3 then q_mn s p m else 0
theorem ya_115 {post : Int64 → Prop} {J : Int64 → Int32 → Int32 → Prop} {i k b w d e g t l h p m : Nat} {x3 x4 : Int32} {x5 : Int64} (H : q_It srt bas len dig dcm sgn tim sig yle ysg i k b w d e g t l h) (K : J x5 (nI (q_mk k sto p (m + 1))) (nI (m + 1))) : wY_valueAt_115 post J (nI i) x3 x4 x5 (nI (q_mk k sto p m)) (nI m) (sto (p + m)) 0 cn pl ck ypf yat st ix ds yen tl yju sto srt bas yle dcm tim sig ysg op opX opY opZ out ych yot ylo pE pL yba yfr yva := by
  obtain ⟨⟨hk, -⟩, ⟨hi, -⟩, hkk⟩ := H
  have hin : vp_in (nI i) 12 := vp_in_nI hi (by omega)
  have hc : (nI i).toNatClampNeg = i := nI_clamp (by omega)
  have K' : J x5 (nI (if k = 3 then (if sto (p + m) = 11 then 1 else q_mn sto p m) else 0)) (nI (m + 1)) := K
  unfold wY_valueAt_115 q_mk
  by_cases c : sto (p + m) = 11
  · refine br_t c (br_t rfl ⟨hin, ?_⟩)
    rw [hc, hk]
    rw [if_pos c] at K'
    by_cases k3 : k = 3
    · rw [if_pos k3] at K'
      exact br_t (by rw [k3]; rfl) (nm_r (nI_1 _) K')
    · rw [if_neg k3] at K' ⊢
      exact br_f (fun z => k3 ((nI_eq (b := 3) (by omega) (by omega)).mp z)) (nm_r (nI_1 _) K')
  · rw [if_neg c] at K'
    exact br_f c (nm_r (nI_1 _) K')
theorem ya_v23t {post : Int64 → Prop} {i k b w d e g t l h p : Nat} (H : q_It srt bas len dig dcm sgn tim sig yle ysg i k b w d e g t l h) (k1 : ¬ k = 1) (hs : StOK sto) (hp : p + w ≤ 96) (hP : post (zL (q_val sto k g w p))) : ∀ r m n : Nat, m + r = w → r < n → wY_valueAt_23 post (nI i) (nI p) (nI w) cn pl ck ypf yat st ix ds yen tl yju sto srt bas yle dcm tim sig ysg op opX opY opZ out ych yot ylo pE pL yba yfr yva n (lN (q_tv sto p m)) (nI (q_mk k sto p m)) (nI m) := by
  have H' := H
  obtain ⟨⟨hk, -⟩, ⟨hi, -⟩, hkk⟩ := H'
  have hin : vp_in (nI i) 12 := vp_in_nI hi (by omega)
  have hc : (nI i).toNatClampNeg = i := nI_clamp (by omega)
  obtain rfl : g = 0 := by omega
  unfold q_val at hP
  rw [if_neg k1] at hP
  intro r
  induction r with
  | zero =>
    intro m n hm hn
    obtain ⟨n, rfl⟩ : ∃ q, n = q + 1 := ⟨n - 1, by omega⟩
    obtain rfl : m = w := by omega
    refine br_t (nI_le (by omega) (by omega)) ?_
    unfold q_mk
    by_cases k3 : k = 3
    · rw [if_pos k3]
      have := mn_le sto p m
      rcases (by omega : q_mn sto p m = 0 ∨ q_mn sto p m = 1) with q | q
      · rw [q]
        rw [if_neg (by omega), zl_n] at hP
        exact br_t rfl hP
      · rw [q]
        rw [if_pos ⟨k3, q⟩, ← zl_neg, zl_n] at hP
        exact br_f (by decide) hP
    · rw [if_neg k3]
      rw [if_neg (fun z => k3 z.1), zl_n] at hP
      exact br_t rfl hP
  | succ r ih =>
    intro m n hm hn
    obtain ⟨n, rfl⟩ : ∃ q, n = q + 1 := ⟨n - 1, by omega⟩
    have K := ih (m + 1) n (by omega) (by omega)
    have cl := cd_l hs (p + m)
    have tl' := tv_lt sto p m
    refine br_f (nI_ge (by omega) (by omega)) ?_
    rw [nI_add, nI_clamp (n := p + m) (by omega)]
    refine ⟨vp_in_nI (by omega) (by omega), nm_e (ya_sgn H (br_t rfl ?_))⟩
    unfold wY_valueAt_58 wY_valueAt_59
    refine br_t rfl ?_
    by_cases c : cd sto (p + m) < 10
    · refine br_f (so_lt hs c) ⟨zl_bn, nm_r (e' := lN (q_tv sto p (m + 1))) ?_ (ya_115 H K)⟩
      rw [so_l hs, show (10 : Int64) = lN 10 from rfl, show (1000000000 : Int64) = lN 1000000000 from rfl, lN_mul, lN_add, pk_lRem (by omega) (by omega) (by omega), Nat.mul_comm]
      show _ = lN (if cd sto (p + m) < 10 then (10 * q_tv sto p m + cd sto (p + m)) % 1000000000 else q_tv sto p m)
      rw [if_pos c]
    · refine br_t (so_ge hs c) ?_
      unfold wY_valueAt_92
      refine br_t rfl ⟨hin, ?_⟩
      rw [hc, hk]
      refine br_f (fun z => k1 ((nI_eq (b := 1) (by omega) (by omega)).mp z)) (ya_115 H ?_)
      have e : q_tv sto p (m + 1) = q_tv sto p m := by
        show (if cd sto (p + m) < 10 then (10 * q_tv sto p m + cd sto (p + m)) % 1000000000 else q_tv sto p m) = _
        rw [if_neg c]
      rw [e] at K
      exact K
theorem ya_v23n {post : Int64 → Prop} {i b w d e g t l h p f : Nat} (H : q_It srt bas len dig dcm sgn tim sig yle ysg i 1 b w d e g t l h) (hs : StOK sto) (hp : p + w ≤ 96) (hf : f = if g = 1 ∧ sto p = 11 then 1 else 0) (hP : post (zL (q_val sto 1 g w p))) : ∀ r m n : Nat, g + m + r = w → r < n → wY_valueAt_23 post (nI i) (nI p) (nI w) cn pl ck ypf yat st ix ds yen tl yju sto srt bas yle dcm tim sig ysg op opX opY opZ out ych yot ylo pE pL yba yfr yva n (lN (q_nv sto (p + g) m)) (nI f) (nI (g + m)) := by
  have H' := H
  obtain ⟨⟨hk, -⟩, ⟨hi, -, -, -, -, -, -, hd9⟩, hkk⟩ := H'
  have hin : vp_in (nI i) 12 := vp_in_nI hi (by omega)
  have hc : (nI i).toNatClampNeg = i := nI_clamp (by omega)
  unfold q_val at hP
  rw [if_pos rfl] at hP
  intro r
  induction r with
  | zero =>
    intro m n hm hn
    obtain ⟨n, rfl⟩ : ∃ q, n = q + 1 := ⟨n - 1, by omega⟩
    obtain rfl : w - g = m := by omega
    refine br_t (nI_le (by omega) (by omega)) ?_
    by_cases q : g = 1 ∧ sto p = 11
    · rw [if_pos q] at hf hP
      rw [← zl_neg, zl_n] at hP
      rw [hf]
      exact br_f (by decide) hP
    · rw [if_neg q] at hf hP
      rw [zl_n] at hP
      rw [hf]
      exact br_t rfl hP
  | succ r ih =>
    intro m n hm hn
    obtain ⟨n, rfl⟩ : ∃ q, n = q + 1 := ⟨n - 1, by omega⟩
    have K := ih (m + 1) n (by omega) (by omega)
    have cl := cd_l hs (p + g + m)
    have nl := nv_lt sto (p + g) m
    have nl2 := pt_9 (a := m + 1) (by omega)
    rw [pt_s] at nl2
    refine br_f (nI_ge (by omega) (by omega)) ?_
    rw [nI_add, ← Nat.add_assoc, nI_clamp (n := p + g + m) (by omega)]
    refine ⟨vp_in_nI (by omega) (by omega), nm_e (ya_sgn H ?_)⟩
    have Q : wY_valueAt_58 post (wY_valueAt_23 post (nI i) (nI p) (nI w) cn pl ck ypf yat st ix ds yen tl yju sto srt bas yle dcm tim sig ysg op opX opY opZ out ych yot ylo pE pL yba yfr yva n) (nI i) (nI p) (nI w) (lN (q_nv sto (p + g) m)) (nI f) (nI (g + m)) (sto (p + g + m)) cn pl ck ypf yat st ix ds yen tl yju sto srt bas yle dcm tim sig ysg op opX opY opZ out ych yot ylo pE pL yba yfr yva := by
      have Q2 : ∀ x5 : Int64, x5 = lN (q_nv sto (p + g) (m + 1)) → wY_valueAt_115 post (wY_valueAt_23 post (nI i) (nI p) (nI w) cn pl ck ypf yat st ix ds yen tl yju sto srt bas yle dcm tim sig ysg op opX opY opZ out ych yot ylo pE pL yba yfr yva n) (nI i) (nI p) (nI w) x5 (nI f) (nI (g + m)) (sto (p + g + m)) 0 cn pl ck ypf yat st ix ds yen tl yju sto srt bas yle dcm tim sig ysg op opX opY opZ out ych yot ylo pE pL yba yfr yva := by
        intro x5 e5
        subst e5
        unfold wY_valueAt_115
        refine br_c (fun _ => br_t rfl ⟨hin, ?_⟩) (fun _ => nm_r (nI_1 _) K)
        rw [hc, hk]
        exact br_f (by decide) (nm_r (nI_1 _) K)
      unfold wY_valueAt_58 wY_valueAt_59
      refine br_t rfl ?_
      by_cases c : cd sto (p + g + m) < 10
      · refine br_f (so_lt hs c) ⟨zl_bn, fun x5 e5 => Q2 x5 (e5.trans ?_)⟩
        rw [so_l hs, show (10 : Int64) = lN 10 from rfl, show (1000000000 : Int64) = lN 1000000000 from rfl, lN_mul, lN_add, pk_lRem (by omega) (by omega) (by omega)]
        show _ = lN (10 * q_nv sto (p + g) m + (if cd sto (p + g + m) < 10 then cd sto (p + g + m) else 0))
        rw [if_pos c]
        exact congrArg lN (by omega)
      · refine br_t (so_ge hs c) ?_
        unfold wY_valueAt_92
        refine br_t rfl ⟨hin, ?_⟩
        rw [hc, hk]
        refine br_t rfl (fun x5 e5 => Q2 x5 (e5.trans ?_))
        rw [show (10 : Int64) = lN 10 from rfl, lN_mul]
        show _ = lN (10 * q_nv sto (p + g) m + (if cd sto (p + g + m) < 10 then cd sto (p + g + m) else 0))
        rw [if_neg c]
        exact congrArg lN (by omega)
    rcases (by omega : g = 0 ∨ g = 1) with rfl | rfl
    · exact br_t rfl Q
    · exact br_f (by decide) (br_f (nI_ne0 (by omega) (by omega)) Q)
theorem ya_val {post : Int64 → Prop} {i k b w d e g t l h el : Nat} (H : q_It srt bas len dig dcm sgn tim sig yle ysg i k b w d e g t l h) (hs : StOK sto) (h1 : 1 ≤ el) (hp : b + (el - 1) * w + w ≤ 96) (hP : post (zL (q_val sto k g w (b + (el - 1) * w)))) : wpY_valueAt post (cn, pl, ck, ypf, yat, st, ix, ds, yen, tl, yju, sto, srt, bas, yle, dcm, tim, sig, ysg, op, opX, opY, opZ, out, ych, yot, ylo, pE, pL, yba, yfr, yva) (nI i) (nI el) := by
  unfold wpY_valueAt
  refine ya_spot H h1 (ya_w H ?_)
  generalize b + (el - 1) * w = p at hp hP
  have H' := H
  obtain ⟨⟨hk, -⟩, ⟨hi, -, -, -, hw1, -⟩, hkk⟩ := H'
  have hin : vp_in (nI i) 12 := vp_in_nI hi (by omega)
  have hc : (nI i).toNatClampNeg = i := nI_clamp (by omega)
  by_cases k1 : k = 1
  · subst k1
    rcases (by omega : g = 0 ∨ g = 1) with rfl | rfl
    · exact ⟨w + 1, ya_v23n H hs hp (by rw [if_neg (by omega)]) hP w 0 (w + 1) (by omega) (by omega)⟩
    · refine ⟨w + 1, ?_⟩
      have K := fun f hf => ya_v23n (f := f) (cn := cn) (pl := pl) (ck := ck) (ypf := ypf) (yat := yat) (st := st) (ix := ix) (ds := ds) (yen := yen) (tl := tl) (yju := yju) (sto := sto) (srt := srt) (bas := bas) (yle := yle) (dcm := dcm) (tim := tim) (sig := sig) (ysg := ysg) (op := op) (opX := opX) (opY := opY) (opZ := opZ) (out := out) (ych := ych) (yot := yot) (ylo := ylo) (pE := pE) (pL := pL) (yba := yba) (yfr := yfr) (yva := yva) H hs hp hf hP (w - 1) 0 w (by omega) (by omega)
      refine br_f (nI_ge (a := 0) (by omega) (by omega)) ?_
      rw [nb_a0, nI_clamp (n := p) (by omega)]
      refine ⟨vp_in_nI (by omega) (by omega), nm_e (ya_sgn H (br_f (by decide) (br_t rfl ?_)))⟩
      unfold wY_valueAt_59
      refine br_f (by decide) ?_
      unfold wY_valueAt_92
      refine br_f (by decide) ?_
      unfold wY_valueAt_115
      by_cases c : sto p = 11
      · refine br_t c (br_f (by decide) (nm_r (nI_1 0) ?_))
        exact K 1 (by rw [if_pos ⟨rfl, c⟩])
      · refine br_f c (nm_r (nI_1 0) ?_)
        exact K 0 (by rw [if_neg (fun z => c z.2)])
  · refine ⟨w + 1, ?_⟩
    have K := ya_v23t (cn := cn) (pl := pl) (ck := ck) (ypf := ypf) (yat := yat) (st := st) (ix := ix) (ds := ds) (yen := yen) (tl := tl) (yju := yju) (sto := sto) (srt := srt) (bas := bas) (yle := yle) (dcm := dcm) (tim := tim) (sig := sig) (ysg := ysg) (op := op) (opX := opX) (opY := opY) (opZ := opZ) (out := out) (ych := ych) (yot := yot) (ylo := ylo) (pE := pE) (pL := pL) (yba := yba) (yfr := yfr) (yva := yva) H k1 hs hp hP w 0 (w + 1) (by omega) (by omega)
    have e : q_mk k sto p 0 = 0 := by unfold q_mk; by_cases k3 : k = 3 <;> simp [k3, q_mn]
    rw [e] at K
    exact K
end
theorem yt_4 {post : Int64 → Prop} {k : Nat} (hk : k < 1000) (hP : post (zL (pTen k : Nat))) : ∀ r m n : Nat, m + r = k → r < n → wY_ten_4 post (nI k) n (zL (pTen m : Nat)) (nI m) := by
  intro r
  induction r with
  | zero =>
    intro m n hm hn
    obtain ⟨n, rfl⟩ : ∃ q, n = q + 1 := ⟨n - 1, by omega⟩
    obtain rfl : m = k := by omega
    exact br_t (nI_le (by omega) (by omega)) hP
  | succ r ih =>
    intro m n hm hn
    obtain ⟨n, rfl⟩ : ∃ q, n = q + 1 := ⟨n - 1, by omega⟩
    refine br_f (nI_ge (by omega) (by omega)) (nm_r ?_ (nm_r (nI_1 _) (ih (m + 1) n (by omega) (by omega))))
    rw [zl_10, zl_mul, pt_s]
    exact congrArg zL (by omega)
theorem yt_ten {post : Int64 → Prop} {k : Nat} (hk : k < 1000) (hP : post (zL (pTen k : Nat))) : wpY_ten post (nI k) := ⟨k + 1, yt_4 hk hP k 0 (k + 1) (by omega) (by omega)⟩
def q_dg (v a e j : Nat) : Nat := if j + a < e then 0 else v / pTen (j + a - e) % 10
theorem dg_10 (v a e j : Nat) : q_dg v a e j < 10 := by
  unfold q_dg
  by_cases h : j + a < e
  · rw [if_pos h]; decide
  · rw [if_neg h]; omega
theorem yd_20 {post : Int32 → Prop} {v a e j : Nat} (hv : v < 9223372036854775808) (ha : j + a ≤ 18) (he : e ≤ 18) (hP : post (nI (q_dg v a e j))) : wY_digit_20 post (nI (j + a) - nI e) (lN v) := by
  unfold wY_digit_20
  unfold q_dg at hP
  by_cases h : j + a < e
  · rw [if_pos h] at hP
    refine br_f ?_ hP
    have := pk_sneg (a := j + a) (b := e) (by omega) h
    intro z
    exact absurd this (Int32.not_lt.mpr z)
  · rw [if_neg h] at hP
    rw [pk_sub (by omega)]
    have p1 := pt_pos (j + a - e)
    have p2 := pt_18 (a := j + a - e) (by omega)
    refine br_t (nI_pos' (by omega)) (br_t (nI_le (b := 18) (by omega) (by omega)) (yt_ten (by omega) ⟨?_, zl_10n, ?_⟩))
    · rw [zl_0]; exact zl_ne (by omega) (by omega) (by omega)
    · rw [zl_n, pk_lDiv (by omega) p1 (by omega), nb_rem (Nat.lt_of_le_of_lt (Nat.div_le_self _ _) hv)]
      exact hP
theorem yd_dig {post : Int32 → Prop} {v : Int} {a e j : Nat} (hv : v.natAbs < 9223372036854775808) (ha : j + a ≤ 18) (he : e ≤ 18) (hP : post (nI (q_dg v.natAbs a e j))) : wpY_digit post (zL v) (nI a) (nI e) (nI j) := by
  unfold wpY_digit
  refine nm_r (e' := nI (j + a) - nI e) ?_ ?_
  · rw [← nI_add]; grind
  · refine zb_le 0 v (fun h0 => ?_) (fun h0 => ?_) (by omega) hv
    · have e1 : zL v = lN v.natAbs := by rw [← zl_n]; exact congrArg zL (by omega)
      rw [e1]
      exact yd_20 hv ha he hP
    · have e1 : -zL v = lN v.natAbs := by rw [zl_neg, ← zl_n]; exact congrArg zL (by omega)
      rw [e1]
      exact yd_20 hv ha he hP
end
section
/-! digits of scaled values -/
theorem dg_mod {V d j : Nat} (h : j < d) : V % pTen d / pTen j % 10 = V / pTen j % 10 := by
  obtain ⟨r, rfl⟩ : ∃ r, d = j + (r + 1) := ⟨d - j - 1, by omega⟩
  rw [pt_add, Nat.mod_mul_right_div_self, pt_s, Nat.mod_mod_of_dvd _ ⟨pTen r, by rw [Nat.mul_comm]⟩]
theorem dg_z {V : Nat} : ∀ d, (∀ j, j < d → V / pTen j % 10 = 0) → V % pTen d = 0
  | 0, _ => by rw [pt_0]; omega
  | d + 1, h => by
    rw [pt_s, Nat.mod_mul, dg_z d (fun j hj => h j (by omega)), h d (by omega)]
    rfl
theorem dg_zc {V d j : Nat} (h : V % pTen d = 0) (hj : j < d) : V / pTen j % 10 = 0 := by
  rw [← dg_mod hj, h, Nat.zero_div]
theorem dg_sc (v : Int) (a e j : Nat) : (q_sc v a e).natAbs / pTen j % 10 = q_dg v.natAbs a e j := by
  unfold q_sc q_dg
  by_cases h : e < a
  · rw [if_pos h, if_neg (by omega), Int.natAbs_tdiv, Int.natAbs_natCast]
    show v.natAbs / pTen (a - e) / pTen j % 10 = _
    rw [Nat.div_div_eq_div_mul, ← pt_add]
    have : a - e + j = j + a - e := by omega
    rw [this]
  · rw [if_neg h, Int.natAbs_mul, Int.natAbs_natCast]
    by_cases h2 : j + a < e
    · rw [if_pos h2]
      obtain ⟨r, hr⟩ : ∃ r, e - a = j + (r + 1) := ⟨e - a - j - 1, by omega⟩
      rw [hr, pt_add, ← Nat.mul_assoc, Nat.mul_comm v.natAbs, Nat.mul_assoc, Nat.mul_comm, Nat.mul_div_cancel _ (pt_pos j), pt_s, ← Nat.mul_assoc, Nat.mul_mod_left]
    · rw [if_neg h2]
      obtain ⟨r, hr⟩ : ∃ r, j = (e - a) + r := ⟨j - (e - a), by omega⟩
      have : j + a - e = r := by omega
      rw [this, hr, pt_add, Nat.mul_comm v.natAbs, Nat.mul_div_mul_left _ _ (pt_pos _)]
theorem sc_b {v : Int} {a e : Nat} (hv : v.natAbs ≤ 2147483648) (he : e ≤ a + 9) : (q_sc v a e).natAbs < 9223372036854775808 := by
  unfold q_sc
  by_cases h : e < a
  · rw [if_pos h, Int.natAbs_tdiv]
    have : v.natAbs.div (pTen (a - e) : Int).natAbs ≤ v.natAbs := Nat.div_le_self _ _
    omega
  · rw [if_neg h, Int.natAbs_mul, Int.natAbs_natCast]
    have h1 := pt_9 (a := e - a) (by omega)
    have h2 : v.natAbs * pTen (e - a) ≤ 2147483648 * 1000000000 := Nat.mul_le_mul hv h1
    omega
theorem tm_e (V : Int) (p : Nat) : V.tmod p = if V < 0 then -((V.natAbs % p : Nat) : Int) else ((V.natAbs % p : Nat) : Int) := by
  by_cases h : V < 0
  · rw [if_pos h]
    have e : V = -((V.natAbs : Nat) : Int) := by omega
    have : V.tmod p = (-((V.natAbs : Nat) : Int)).tmod p := by rw [← e]
    rw [this, Int.neg_tmod]
    rfl
  · rw [if_neg h]
    have e : V = ((V.natAbs : Nat) : Int) := by omega
    have : V.tmod p = (((V.natAbs : Nat) : Int)).tmod p := by rw [← e]
    rw [this]
    rfl
def q_fb (v : Int) (D : Nat → Nat) : Nat → Nat
  | 0 => 0
  | m + 1 => if v < 0 ∧ D m ≠ 0 then 1 else q_fb v D m
theorem fb_le (v : Int) (D : Nat → Nat) : ∀ m, q_fb v D m ≤ 1
  | 0 => Nat.zero_le 1
  | m + 1 => by
    have := fb_le v D m
    show (if v < 0 ∧ D m ≠ 0 then 1 else q_fb v D m) ≤ 1
    by_cases h : v < 0 ∧ D m ≠ 0
    · rw [if_pos h]; omega
    · rw [if_neg h]; exact this
theorem fb_1 {v : Int} {D : Nat → Nat} {j : Nat} (hv : v < 0) (hj : D j ≠ 0) : ∀ m, j < m → q_fb v D m = 1
  | 0, h => by omega
  | m + 1, h => by
    show (if v < 0 ∧ D m ≠ 0 then 1 else q_fb v D m) = 1
    by_cases e : v < 0 ∧ D m ≠ 0
    · rw [if_pos e]
    · rw [if_neg e]
      have : j ≠ m := fun z => e ⟨hv, z ▸ hj⟩
      exact fb_1 hv hj m (by omega)
theorem fb_0 {v : Int} {D : Nat → Nat} : ∀ m, (∀ j, j < m → ¬ (v < 0 ∧ D j ≠ 0)) → q_fb v D m = 0
  | 0, _ => rfl
  | m + 1, h => by
    show (if v < 0 ∧ D m ≠ 0 then 1 else q_fb v D m) = 0
    rw [if_neg (h m (by omega))]
    exact fb_0 m (fun j hj => h j (by omega))
/-- the digits from the left -/
def q_D (v : Int) (a e d : Nat) : Nat → Nat := fun k => q_dg v.natAbs a e (d - 1 - k)
theorem D_10 (v : Int) (a e d k : Nat) : q_D v a e d k < 10 := dg_10 _ _ _ _
/-- what the component's remainder says of the sign -/
theorem fb_x {v : Int} {a e d : Nat} : (q_sc v a e).tmod (pTen d : Nat) < 0 ↔ q_fb v (q_D v a e d) d = 1 := by
  have hD : ∀ k, k < d → q_D v a e d k = (q_sc v a e).natAbs / pTen (d - 1 - k) % 10 := fun k _ => (dg_sc v a e _).symm
  have hneg : q_sc v a e < 0 → v < 0 := by
    intro h
    refine Int.not_le.mp (fun z => ?_)
    unfold q_sc at h
    by_cases c : e < a
    · rw [if_pos c] at h
      have := Int.tdiv_nonneg z (Int.natCast_nonneg (pTen (a - e)))
      omega
    · rw [if_neg c] at h
      have := Int.mul_nonneg z (Int.natCast_nonneg (pTen (e - a)))
      omega
  have hpos : ¬ q_sc v a e < 0 → v < 0 → (q_sc v a e) = 0 := by
    intro h1 h2
    unfold q_sc at h1 ⊢
    by_cases c : e < a
    · rw [if_pos c] at h1 ⊢
      have := Int.tdiv_nonneg (a := -v) (b := (pTen (a - e) : Nat)) (by omega) (Int.natCast_nonneg _)
      rw [Int.neg_tdiv] at this
      omega
    · rw [if_neg c] at h1 ⊢
      have := Int.mul_neg_of_neg_of_pos h2 (show (0 : Int) < (pTen (e - a) : Nat) by have := pt_pos (e - a); omega)
      omega
  rw [tm_e]
  constructor
  · intro h
    by_cases c : q_sc v a e < 0
    · rw [if_pos c] at h
      have hv := hneg c
      refine Classical.byContradiction (fun z => ?_)
      have h0 : (q_sc v a e).natAbs % pTen d = 0 := dg_z d (fun j hj => by
        refine Classical.byContradiction (fun y => z ?_)
        refine fb_1 (j := d - 1 - j) hv ?_ d (by omega)
        rw [hD _ (by omega), show d - 1 - (d - 1 - j) = j by omega]
        exact y)
      omega
    · rw [if_neg c] at h
      omega
  · intro h
    by_cases c : q_sc v a e < 0
    · rw [if_pos c]
      refine Classical.byContradiction (fun z => ?_)
      have h0 : (q_sc v a e).natAbs % pTen d = 0 := by omega
      have : q_fb v (q_D v a e d) d = 0 := fb_0 d (fun j hj y => y.2 (by rw [hD j hj]; exact dg_zc h0 (by omega)))
      omega
    · have : q_fb v (q_D v a e d) d = 0 := fb_0 d (fun j hj y => y.2 (by rw [hD j hj, hpos c y.1]; simp))
      omega
end
section
section
variable {cn : Int32} {xpa : Int32} {xop : Int32} {pl : Int32} {ck : Int32} {pf : Int32} {pc : Int32} {st : Int32} {ix : Int32} {xst : Int32} {tl : Int32} {ds : Int32} {sto : Nat → Int32} {srt : Nat → Int32} {bas : Nat → Int32} {len : Nat → Int32} {dig : Nat → Int32} {dcm : Nat → Int32} {sgn : Nat → Int32} {tim : Nat → Int32} {sig : Nat → Int32} {op : Nat → Int32} {opX : Nat → Int32} {opY : Nat → Int32} {opZ : Nat → Int32} {tgt : Nat → Int32} {sta : Nat → Int32} {ins : Nat → Int32} {opn : Nat → Int32} {pE : Nat → Int32} {pL : Nat → Int32} {pI : Nat → Int32} {pB : Nat → Int32} {out : Nat → Int32} {pw : Nat → Int64} {wk : Nat → Int32} {ypf : Int32} {yat : Int32} {yen : Int32} {yju : Int32} {yle : Nat → Int32} {ysg : Nat → Int32} {ych : Nat → Int32} {yot : Nat → Int32} {ylo : Nat → Int32} {yba : Nat → Int32} {yfr : Nat → Int32} {yva : Nat → Int32}
theorem xs_168 {post : SX → Prop} {d q : Nat} {D : Nat → Nat} (hw : ∀ k, k < d → wk k = nI (D k)) (hD : ∀ k, D k < 10) (hd : d ≤ 9) (hq : q + d ≤ 96) (hP : post (cn, xpa, xop, pl, ck, pf, pc, st, ix, xst, tl, ds, bk sto q (q + d) (fun j => nI (D (j - q))), srt, bas, len, dig, dcm, sgn, tim, sig, op, opX, opY, opZ, tgt, sta, ins, opn, pE, pL, pI, pB, out, pw, wk)) : ∀ r m n : Nat, m + r = d → r < n → wX_store_168 post (nI d) (nI q) cn xpa xop pl ck pf pc st ix xst tl ds n (nI m) (bk sto q (q + m) (fun j => nI (D (j - q)))) srt bas len dig dcm sgn tim sig op opX opY opZ tgt sta ins opn pE pL pI pB out pw wk := by
  intro r
  induction r with
  | zero =>
    intro m n hm hn
    obtain ⟨n, rfl⟩ : ∃ q, n = q + 1 := ⟨n - 1, by omega⟩
    obtain rfl : m = d := by omega
    exact br_t (nI_le (by omega) (by omega)) hP
  | succ r ih =>
    intro m n hm hn
    obtain ⟨n, rfl⟩ : ∃ q, n = q + 1 := ⟨n - 1, by omega⟩
    refine br_f (nI_ge (by omega) (by omega)) ⟨vp_in_nI (by omega) (by omega), ?_⟩
    rw [nI_add, nI_clamp (n := q + m) (by omega), nI_clamp (n := m) (by omega), hw m (by omega), nb_v (by have := hD m; omega)]
    refine ⟨vp_in_nI (by omega) (by omega), nm_r (bk_s (by omega) ?_) (nm_r (nI_1 _) (ih (m + 1) n (by omega) (by omega)))⟩
    show nI (D m) = nI (D (q + m - q))
    rw [Nat.add_sub_cancel_left]
theorem ys_210 {post : SY → Prop} {i b w d e g t l h p : Nat} {D : Nat → Nat} (H : q_It srt bas len dig dcm sgn tim sig yle ysg i 1 b w d e g t l h) (hw : ∀ k, k < d → yot k = nI (D k)) (hp : p + w ≤ 96) (hP : post (cn, pl, ck, ypf, yat, st, ix, ds, yen, tl, yju, bk sto (p + g) (p + g + d) (fun j => nI (D (j - (p + g)))), srt, bas, yle, dcm, tim, sig, ysg, op, opX, opY, opZ, out, ych, yot, ylo, pE, pL, yba, yfr, yva)) : ∀ r m n : Nat, m + r = d → r < n → wY_store_210 post (nI i) (nI d) (nI p) cn pl ck ypf yat st ix ds yen tl yju n (nI m) (bk sto (p + g) (p + g + m) (fun j => nI (D (j - (p + g))))) srt bas yle dcm tim sig ysg op opX opY opZ out ych yot ylo pE pL yba yfr yva := by
  obtain ⟨⟨-, -, -, -, -, -, -, -, hh⟩, ⟨hi, -, -, -, -, -, -, hd⟩, hkk⟩ := H
  have hin : vp_in (nI i) 12 := vp_in_nI hi (by omega)
  have hc : (nI i).toNatClampNeg = i := nI_clamp (by omega)
  obtain ⟨g1, hw', rfl⟩ : g ≤ 1 ∧ w = d + g ∧ h = g := by omega
  intro r
  induction r with
  | zero =>
    intro m n hm hn
    obtain ⟨n, rfl⟩ : ∃ q, n = q + 1 := ⟨n - 1, by omega⟩
    obtain rfl : m = d := by omega
    exact br_t (nI_le (by omega) (by omega)) hP
  | succ r ih =>
    intro m n hm hn
    obtain ⟨n, rfl⟩ : ∃ q, n = q + 1 := ⟨n - 1, by omega⟩
    have K := ih (m + 1) n (by omega) (by omega)
    have Q : ∀ z0 : Int32, z0 = nI h → wY_store_237 post (wY_store_210 post (nI i) (nI d) (nI p) cn pl ck ypf yat st ix ds yen tl yju n) (nI i) (nI d) (nI p) (nI m) z0 (nI p) cn pl ck ypf yat st ix ds yen tl yju (bk sto (p + h) (p + h + m) (fun j => nI (D (j - (p + h))))) srt bas yle dcm tim sig ysg op opX opY opZ out ych yot ylo pE pL yba yfr yva := by
      intro z0 e0
      subst e0
      unfold wY_store_237
      refine ⟨vp_in_nI (by omega) (by omega), ?_⟩
      rw [nI_add, nI_add, nI_clamp (n := p + h + m) (by omega), nI_clamp (n := m) (by omega), hw m (by omega)]
      refine ⟨vp_in_nI (by omega) (by omega), nm_r (bk_s (by omega) ?_) (nm_r (nI_1 _) K)⟩
      show nI (D m) = nI (D (p + h + m - (p + h)))
      rw [Nat.add_sub_cancel_left]
    refine br_f (nI_ge (by omega) (by omega)) ⟨hin, ?_⟩
    rw [hc, hh]
    rcases (by omega : h = 0 ∨ h = 1) with rfl | rfl
    · exact br_t rfl (Q 0 rfl)
    · exact br_f (by decide) (Q 1 rfl)
/-- the component's digits at work -/
theorem xs_68 {post : SX → Prop} {i d L : Nat} {x8 : Int32} (hL : L < 9223372036854775808) (hd : d ≤ 9) (hK : ∀ x6 n, wX_store_68 post (nI i) x8 (nI d) cn xpa xop pl ck pf pc st ix xst tl ds (n + 1) x6 (nI 0 - 1) sto srt bas len dig dcm sgn tim sig op opX opY opZ tgt sta ins opn pE pL pI pB out pw (bk wk 0 d (fun k => nI (L / pTen (d - 1 - k) % 10)))) : ∀ r n : Nat, r ≤ d → r < n → wX_store_68 post (nI i) x8 (nI d) cn xpa xop pl ck pf pc st ix xst tl ds n (lN (L / pTen (d - r))) (nI r - 1) sto srt bas len dig dcm sgn tim sig op opX opY opZ tgt sta ins opn pE pL pI pB out pw (bk wk r d (fun k => nI (L / pTen (d - 1 - k) % 10))) := by
  intro r
  induction r with
  | zero =>
    intro n hr hn
    obtain ⟨n, rfl⟩ : ∃ q, n = q + 1 := ⟨n - 1, by omega⟩
    exact hK _ n
  | succ r ih =>
    intro n hr hn
    obtain ⟨n, rfl⟩ : ∃ q, n = q + 1 := ⟨n - 1, by omega⟩
    have l1 : L / pTen (d - (r + 1)) < 9223372036854775808 := Nat.lt_of_le_of_lt (Nat.div_le_self _ _) hL
    rw [nI_pred]
    refine br_f (nI_pos (by omega)) ⟨zl_10n, vp_in_nI (by omega) (by omega), ?_⟩
    rw [nb_rem l1, nb_div l1, nI_clamp (n := r) (by omega), nb_w (by omega)]
    refine nm_r (bk_p (by omega) ?_) ⟨zl_10n, nm_r ?_ (nm_r (nb_m _) (ih n (by omega) (by omega)))⟩
    · show nI _ = nI _
      rw [show d - 1 - r = d - (r + 1) by omega]
    · rw [Nat.div_div_eq_div_mul, ← pt_s, show d - (r + 1) + 1 = d - r by omega]
/-- the component's end of a store into a number -/
theorem xs_num {post : SX → Prop} {i b w d e g t l h el p B n : Nat} {D : Nat → Nat} {x6 : Int64} (H : q_It srt bas len dig dcm sgn tim sig yle ysg i 1 b w d e g t l h) (A : q_At b w t ix el p) (hw : ∀ k, k < d → wk k = nI (D k)) (hD : ∀ k, D k < 10) (hB : B ≤ 1) (hP : post (cn, xpa, xop, pl, ck, pf, pc, st, ix, xst, tl, ds, bk (if g = 1 then upd sto p (nI (12 - B)) else sto) (p + g) (p + g + d) (fun j => nI (D (j - (p + g)))), srt, bas, len, dig, dcm, sgn, tim, sig, op, opX, opY, opZ, tgt, sta, ins, opn, pE, pL, pI, pB, out, pw, wk)) : wX_store_68 post (nI i) (nI B) (nI d) cn xpa xop pl ck pf pc st ix xst tl ds (n + 1) x6 (nI 0 - 1) sto srt bas len dig dcm sgn tim sig op opX opY opZ tgt sta ins opn pE pL pI pB out pw wk := by
  have hp := aq_in H.2.1.2.2.2.1 A
  have H' := H
  obtain ⟨⟨hk, -, -, -, -, hg, -⟩, ⟨hi, -, -, -, -, -, -, hd⟩, hkk⟩ := H'
  have hin : vp_in (nI i) 12 := vp_in_nI hi (by omega)
  have hc : (nI i).toNatClampNeg = i := nI_clamp (by omega)
  refine br_t (by decide) (xa_at H A ⟨hin, ?_⟩)
  rw [hc, hk, hg]
  refine br_f (by decide) ⟨hin, ?_⟩
  rcases (by omega : g = 0 ∨ g = 1) with rfl | rfl
  · rw [if_neg (by decide)] at hP
    refine br_t rfl ⟨d + 1, ?_⟩
    have K := xs_168 (post := post) hw hD hd (q := p) (by omega) hP d 0 (d + 1) (by omega) (by omega)
    rw [Nat.add_zero p, bk_0] at K
    exact K
  · rw [if_pos rfl] at hP
    refine br_f (by decide) (nm_r (nI_1 p) ?_)
    rw [nI_clamp (n := p) (by omega)]
    have hin3 : vp_in (nI p) 96 := vp_in_nI (by omega) (by omega)
    have K : ∀ s', s' = upd sto p (nI (12 - B)) → ∃ n168 : Nat, wX_store_168 post (nI d) (nI (p + 1)) cn xpa xop pl ck pf pc st ix xst tl ds n168 0 s' srt bas len dig dcm sgn tim sig op opX opY opZ tgt sta ins opn pE pL pI pB out pw wk := by
      intro s' es
      subst es
      have K := xs_168 (post := post) hw hD hd (q := p + 1) (by omega) hP d 0 (d + 1) (by omega) (by omega)
      rw [Nat.add_zero, bk_0] at K
      exact ⟨d + 1, K⟩
    rcases (by omega : B = 0 ∨ B = 1) with rfl | rfl
    · exact br_t rfl ⟨hin3, fun s' es => K s' (es.trans (congrArg (upd sto p) (by decide)))⟩
    · exact br_f (by decide) ⟨hin3, fun s' es => K s' (es.trans (congrArg (upd sto p) (by decide)))⟩
/-- the reference's digits -/
theorem ys_92 {post : SY → Prop} {i k b w d e g t l h a p : Nat} {v : Int} (H : q_It srt bas len dig dcm sgn tim sig yle ysg i k b w d e g t l h) (hv : v.natAbs < 9223372036854775808) (ha : a ≤ 9) (hK : ∀ n, wY_store_92 post (nI i) (zL v) (nI a) (nI d) (nI p) cn pl ck ypf yat st ix ds yen tl yju (n + 1) (nI (q_fb v (q_D v a e d) d)) (nI d) sto srt bas yle dcm tim sig ysg op opX opY opZ out ych (bk yot 0 d (fun k => nI (q_D v a e d k))) ylo pE pL yba yfr yva) : ∀ r m n : Nat, m + r = d → r < n → wY_store_92 post (nI i) (zL v) (nI a) (nI d) (nI p) cn pl ck ypf yat st ix ds yen tl yju n (nI (q_fb v (q_D v a e d) m)) (nI m) sto srt bas yle dcm tim sig ysg op opX opY opZ out ych (bk yot 0 m (fun k => nI (q_D v a e d k))) ylo pE pL yba yfr yva := by
  obtain ⟨⟨-, -, -, -, he, -⟩, ⟨hi, -, -, -, -, -, hed, hd⟩, hkk⟩ := H
  have hin : vp_in (nI i) 12 := vp_in_nI hi (by omega)
  have hc : (nI i).toNatClampNeg = i := nI_clamp (by omega)
  intro r
  induction r with
  | zero =>
    intro m n hm hn
    obtain ⟨n, rfl⟩ : ∃ q, n = q + 1 := ⟨n - 1, by omega⟩
    obtain rfl : m = d := by omega
    exact hK n
  | succ r ih =>
    intro m n hm hn
    obtain ⟨n, rfl⟩ : ∃ q, n = q + 1 := ⟨n - 1, by omega⟩
    have K := ih (m + 1) n (by omega) (by omega)
    have fl := fb_le v (q_D v a e d) m
    have hin2 : vp_in (nI m) 32 := vp_in_nI (by omega) (by omega)
    have eu : upd (bk yot 0 m (fun k => nI (q_D v a e d k))) m (nI (q_D v a e d m)) = bk yot 0 (m + 1) (fun k => nI (q_D v a e d k)) := bk_s (by omega) rfl
    have es : q_fb v (q_D v a e d) (m + 1) = if v < 0 ∧ q_D v a e d m ≠ 0 then 1 else q_fb v (q_D v a e d) m := rfl
    have or0 : ∀ f : Nat, f ≤ 1 → nI f ||| 0 = nI f := by decide
    have or1 : ∀ f : Nat, f ≤ 1 → nI f ||| 1 = nI 1 := by decide
    refine br_f (nI_ge (by omega) (by omega)) ⟨hin, ?_⟩
    rw [hc, he, show nI d - 1 = nI (d - 1) from pk_sub (b := 1) (by omega), pk_sub (by omega)]
    refine yd_dig hv (by omega) (by omega) ⟨hin2, ?_⟩
    rw [nI_clamp (n := m) (by omega)]
    refine nm_r eu ?_
    have D10 := D_10 v a e d m
    refine zb_le 0 v (fun h0 => ?_) (fun h0 => ⟨hin2, ?_⟩) (by omega) hv
    · rw [es, if_neg (fun z => by omega)] at K
      exact nm_r (or0 _ fl) (nm_r (nI_1 _) K)
    · rw [bk_in (Nat.zero_le m) (Nat.lt_succ_self m)]
      by_cases hz : q_D v a e d m = 0
      · rw [es, if_neg (fun z => z.2 hz)] at K
        exact br_t (congrArg nI hz) (nm_r (or0 _ fl) (nm_r (nI_1 _) K))
      · rw [es, if_pos ⟨by omega, hz⟩] at K
        exact br_f (fun z => hz ((nI_eq (b := 0) (by omega) (by omega)).mp z)) (nm_r (or1 _ fl) (nm_r (nI_1 _) K))
/-- the reference's end of a store into a number -/
theorem ys_num {post : SY → Prop} {i b w d e g t l h p B n : Nat} {D : Nat → Nat} {x3 : Int64} {x5 : Int32} (H : q_It srt bas len dig dcm sgn tim sig yle ysg i 1 b w d e g t l h) (hp : p + w ≤ 96) (hw : ∀ k, k < d → yot k = nI (D k)) (hB : B ≤ 1) (hP : post (cn, pl, ck, ypf, yat, st, ix, ds, yen, tl, yju, bk (if g = 1 then upd sto p (nI (12 - B)) else sto) (p + g) (p + g + d) (fun j => nI (D (j - (p + g)))), srt, bas, yle, dcm, tim, sig, ysg, op, opX, opY, opZ, out, ych, yot, ylo, pE, pL, yba, yfr, yva)) : wY_store_92 post (nI i) x3 x5 (nI d) (nI p) cn pl ck ypf yat st ix ds yen tl yju (n + 1) (nI B) (nI d) sto srt bas yle dcm tim sig ysg op opX opY opZ out ych yot ylo pE pL yba yfr yva := by
  have H' := H
  obtain ⟨⟨hk, -, -, -, -, -, -, -, hh⟩, ⟨hi, -, -, -, -, -, -, hd⟩, hkk⟩ := H'
  have hin : vp_in (nI i) 12 := vp_in_nI hi (by omega)
  have hc : (nI i).toNatClampNeg = i := nI_clamp (by omega)
  obtain rfl : h = g := by omega
  refine br_t (nI_le (by omega) (by omega)) ⟨hin, ?_⟩
  rw [hc, hk, hh]
  refine br_f (by decide) ⟨hin, ?_⟩
  rcases (by omega : h = 0 ∨ h = 1) with rfl | rfl
  · rw [if_neg (by decide)] at hP
    refine br_t rfl ⟨d + 1, ?_⟩
    have K := ys_210 H hw hp hP d 0 (d + 1) (by omega) (by omega)
    rw [Nat.add_zero, bk_0] at K
    exact K
  · rw [if_pos rfl] at hP
    rw [nI_clamp (n := p) (by omega)]
    have hin3 : vp_in (nI p) 96 := vp_in_nI (by omega) (by omega)
    have K : ∀ s', s' = upd sto p (nI (12 - B)) → ∃ n210 : Nat, wY_store_210 post (nI i) (nI d) (nI p) cn pl ck ypf yat st ix ds yen tl yju n210 0 s' srt bas yle dcm tim sig ysg op opX opY opZ out ych yot ylo pE pL yba yfr yva := by
      intro s' es
      subst es
      have K := ys_210 H hw hp hP d 0 (d + 1) (by omega) (by omega)
      rw [Nat.add_zero, bk_0] at K
      exact ⟨d + 1, K⟩
    refine br_f (by decide) ?_
    rcases (by omega : B = 0 ∨ B = 1) with rfl | rfl
    · exact br_t rfl ⟨hin3, fun s' es => K s' (es.trans (congrArg (upd sto p) (by decide)))⟩
    · exact br_f (by decide) ⟨hin3, fun s' es => K s' (es.trans (congrArg (upd sto p) (by decide)))⟩
end
end
section
section
variable {cn : Int32} {xpa : Int32} {xop : Int32} {pl : Int32} {ck : Int32} {pf : Int32} {pc : Int32} {st : Int32} {ix : Int32} {xst : Int32} {tl : Int32} {ds : Int32} {sto : Nat → Int32} {srt : Nat → Int32} {bas : Nat → Int32} {len : Nat → Int32} {dig : Nat → Int32} {dcm : Nat → Int32} {sgn : Nat → Int32} {tim : Nat → Int32} {sig : Nat → Int32} {op : Nat → Int32} {opX : Nat → Int32} {opY : Nat → Int32} {opZ : Nat → Int32} {tgt : Nat → Int32} {sta : Nat → Int32} {ins : Nat → Int32} {opn : Nat → Int32} {pE : Nat → Int32} {pL : Nat → Int32} {pI : Nat → Int32} {pB : Nat → Int32} {out : Nat → Int32} {pw : Nat → Int64} {wk : Nat → Int32} {ypf : Int32} {yat : Int32} {yen : Int32} {yju : Int32} {yle : Nat → Int32} {ysg : Nat → Int32} {ych : Nat → Int32} {yot : Nat → Int32} {ylo : Nat → Int32} {yba : Nat → Int32} {yfr : Nat → Int32} {yva : Nat → Int32}
/-- a character behind the choice: not a digit's place -/
theorem xe_hi {post : SX → Prop} {J : Int32 → Int32 → Int32 → Int32 → (Nat → Int32) → (Nat → Int32) → (Nat → Int32) → (Nat → Int32) → (Nat → Int32) → (Nat → Int32) → (Nat → Int32) → (Nat → Int32) → (Nat → Int32) → (Nat → Int32) → (Nat → Int32) → (Nat → Int32) → (Nat → Int32) → (Nat → Int32) → (Nat → Int32) → (Nat → Int32) → (Nat → Int32) → (Nat → Int32) → (Nat → Int32) → (Nat → Int32) → (Nat → Int32) → (Nat → Int32) → (Nat → Int64) → (Nat → Int32) → Prop} {x1 x3 x4 x5 x6 x8 : Int32} {p m c : Nat} (h4 : 4 ≤ x8) (hc : c ≤ 41) (hp : p + m < 96) (K : J x4 x5 x6 (nI (m + 1)) (upd sto (p + m) (nI c)) srt bas len dig dcm sgn tim sig op opX opY opZ tgt sta ins opn pE pL pI pB out pw wk) : wX_edit_102 post J x1 (nI p) x3 x4 x5 x6 (nI m) x8 (nI c) cn xpa xop pl ck pf pc st ix xst tl ds sto srt bas len dig dcm sgn tim sig op opX opY opZ tgt sta ins opn pE pL pI pB out pw wk := by
  unfold wX_edit_102
  refine br_t h4 ?_
  unfold wX_edit_160
  rw [nI_add, nI_clamp (n := p + m) (by omega), nb_w (by omega)]
  exact ⟨vp_in_nI hp (by omega), nm_e (nm_r (nI_1 _) K)⟩
theorem ye_hi {post : SY → Prop} {J : Int32 → Int32 → Int32 → Int32 → (Nat → Int32) → (Nat → Int32) → (Nat → Int32) → (Nat → Int32) → (Nat → Int32) → (Nat → Int32) → (Nat → Int32) → (Nat → Int32) → (Nat → Int32) → (Nat → Int32) → (Nat → Int32) → (Nat → Int32) → (Nat → Int32) → (Nat → Int32) → (Nat → Int32) → (Nat → Int32) → (Nat → Int32) → (Nat → Int32) → (Nat → Int32) → (Nat → Int32) → (Nat → Int32) → Prop} {x1 x3 x4 x5 x6 x8 : Int32} {p m c : Nat} (h4 : 4 ≤ x8) (hp : p + m < 96) (K : J x4 x5 x6 (nI (m + 1)) (upd sto (p + m) (nI c)) srt bas yle dcm tim sig ysg op opX opY opZ out ych yot ylo pE pL yba yfr yva) : wY_edit_102 post J x1 (nI p) x3 x4 x5 x6 (nI m) x8 (nI c) cn pl ck ypf yat st ix ds yen tl yju sto srt bas yle dcm tim sig ysg op opX opY opZ out ych yot ylo pE pL yba yfr yva := by
  unfold wY_edit_102
  refine br_t h4 ?_
  unfold wY_edit_175
  rw [nI_add, nI_clamp (n := p + m) (by omega)]
  exact ⟨vp_in_nI hp (by omega), nm_e (nm_r (nI_1 _) K)⟩
/-- a digit's place: the digit is shown (c = D, the quiet ends), or it is still quiet -/
theorem xe_lo {post : SX → Prop} {J : Int32 → Int32 → Int32 → Int32 → (Nat → Int32) → (Nat → Int32) → (Nat → Int32) → (Nat → Int32) → (Nat → Int32) → (Nat → Int32) → (Nat → Int32) → (Nat → Int32) → (Nat → Int32) → (Nat → Int32) → (Nat → Int32) → (Nat → Int32) → (Nat → Int32) → (Nat → Int32) → (Nat → Int32) → (Nat → Int32) → (Nat → Int32) → (Nat → Int32) → (Nat → Int32) → (Nat → Int32) → (Nat → Int32) → (Nat → Int32) → (Nat → Int64) → (Nat → Int32) → Prop} {x1 x3 x5 x8 z0 : Int32} {p m q nx Dn : Nat} (h4 : ¬ 4 ≤ x8) (hnx : nx < 9) (hwk : wk nx = nI Dn) (hDn : Dn < 10) (hq : q ≤ 1) (hp : p + m < 96)
    (Ka : (q = 0 ∨ x8 = 1 ∨ Dn ≠ 0) → J 0 x5 (nI (nx + 1)) (nI (m + 1)) (upd sto (p + m) (nI Dn)) srt bas len dig dcm sgn tim sig op opX opY opZ tgt sta ins opn pE pL pI pB out pw wk)
    (Kb : ∀ c, c = (if x8 = 2 then 10 else 15) → q = 1 → ¬ x8 = 1 → Dn = 0 → J 1 (nI c) (nI (nx + 1)) (nI (m + 1)) (upd sto (p + m) (nI c)) srt bas len dig dcm sgn tim sig op opX opY opZ tgt sta ins opn pE pL pI pB out pw wk) : wX_edit_102 post J x1 (nI p) x3 (nI q) x5 (nI nx) (nI m) x8 z0 cn xpa xop pl ck pf pc st ix xst tl ds sto srt bas len dig dcm sgn tim sig op opX opY opZ tgt sta ins opn pE pL pI pB out pw wk := by
  have W : ∀ (c : Nat) (y4 y5 : Int32), c < 128 → J y4 y5 (nI (nx + 1)) (nI (m + 1)) (upd sto (p + m) (nI c)) srt bas len dig dcm sgn tim sig op opX opY opZ tgt sta ins opn pE pL pI pB out pw wk → wX_edit_160 post J x1 (nI p) x3 y4 y5 (nI (nx + 1)) (nI m) (nI c) cn xpa xop pl ck pf pc st ix xst tl ds sto srt bas len dig dcm sgn tim sig op opX opY opZ tgt sta ins opn pE pL pI pB out pw wk := by
    intro c y4 y5 hc K
    unfold wX_edit_160
    rw [nI_add, nI_clamp (n := p + m) (by omega), nb_w hc]
    exact ⟨vp_in_nI hp (by omega), nm_e (nm_r (nI_1 _) K)⟩
  have W0 : (q = 0 ∨ x8 = 1 ∨ Dn ≠ 0) → wX_edit_136 post J x1 (nI p) x3 0 x5 (nI (nx + 1)) (nI m) x8 (nI Dn) cn xpa xop pl ck pf pc st ix xst tl ds sto srt bas len dig dcm sgn tim sig op opX opY opZ tgt sta ins opn pE pL pI pB out pw wk := by
    intro z
    unfold wX_edit_136
    exact br_t rfl (W Dn 0 x5 (by omega) (Ka z))
  unfold wX_edit_102
  refine br_f h4 (nm_r (nI_1 _) ⟨vp_in_nI hnx (by omega), ?_⟩)
  rw [nI_clamp (n := nx) (by omega), hwk]
  refine nm_e (pk_lt 0 Dn (fun h => ?_) (fun h => ?_))
  · unfold wX_edit_133
    exact W0 (by omega)
  · refine br_c (fun h1 => ?_) (fun h1 => ?_)
    · unfold wX_edit_133
      exact W0 (Or.inr (Or.inl h1))
    · rcases (by omega : q = 0 ∨ q = 1) with rfl | rfl
      · exact W0 (Or.inl rfl)
      · unfold wX_edit_136
        refine br_f (by decide) (br_c (fun h2 => ?_) (fun h2 => ?_))
        · unfold wX_edit_154
          exact W 10 1 10 (by omega) (Kb 10 (by rw [if_pos h2]) rfl h1 (by omega))
        · unfold wX_edit_154
          exact W 15 1 15 (by omega) (Kb 15 (by rw [if_neg h2]) rfl h1 (by omega))
theorem ye_lo {post : SY → Prop} {J : Int32 → Int32 → Int32 → Int32 → (Nat → Int32) → (Nat → Int32) → (Nat → Int32) → (Nat → Int32) → (Nat → Int32) → (Nat → Int32) → (Nat → Int32) → (Nat → Int32) → (Nat → Int32) → (Nat → Int32) → (Nat → Int32) → (Nat → Int32) → (Nat → Int32) → (Nat → Int32) → (Nat → Int32) → (Nat → Int32) → (Nat → Int32) → (Nat → Int32) → (Nat → Int32) → (Nat → Int32) → (Nat → Int32) → Prop} {x1 x3 x5 x8 z0 : Int32} {p m q nx Dn : Nat} (h4 : ¬ 4 ≤ x8) (h1 : x8 ≤ 1 ↔ x8 = 1) (hnx : nx < 9) (hwk : yot nx = nI Dn) (hDn : Dn < 10) (hq : q ≤ 1) (hp : p + m < 96)
    (Ka : (q = 0 ∨ x8 = 1 ∨ Dn ≠ 0) → J (nI (nx + 1)) (nI Dn) 0 (nI (m + 1)) (upd sto (p + m) (nI Dn)) srt bas yle dcm tim sig ysg op opX opY opZ out ych yot ylo pE pL yba yfr yva)
    (Kb : ∀ c, c = (if x8 = 2 then 10 else 15) → q = 1 → ¬ x8 = 1 → Dn = 0 → J (nI (nx + 1)) (nI c) 1 (nI (m + 1)) (upd sto (p + m) (nI c)) srt bas yle dcm tim sig ysg op opX opY opZ out ych yot ylo pE pL yba yfr yva) : wY_edit_102 post J x1 (nI p) x3 (nI nx) x5 (nI q) (nI m) x8 z0 cn pl ck ypf yat st ix ds yen tl yju sto srt bas yle dcm tim sig ysg op opX opY opZ out ych yot ylo pE pL yba yfr yva := by
  have W : ∀ (c : Nat) (y6 : Int32), J (nI (nx + 1)) (nI c) y6 (nI (m + 1)) (upd sto (p + m) (nI c)) srt bas yle dcm tim sig ysg op opX opY opZ out ych yot ylo pE pL yba yfr yva → wY_edit_166 post J x1 (nI p) x3 (nI nx) y6 (nI m) (nI c) cn pl ck ypf yat st ix ds yen tl yju sto srt bas yle dcm tim sig ysg op opX opY opZ out ych yot ylo pE pL yba yfr yva := by
    intro c y6 K
    unfold wY_edit_166
    refine nm_r (nI_1 _) ?_
    unfold wY_edit_175
    rw [nI_add, nI_clamp (n := p + m) (by omega)]
    exact ⟨vp_in_nI hp (by omega), nm_e (nm_r (nI_1 _) K)⟩
  have W0 : (q = 0 ∨ x8 = 1 ∨ Dn ≠ 0) → wY_edit_135 post J x1 (nI p) x3 (nI nx) (nI m) x8 cn pl ck ypf yat st ix ds yen tl yju sto srt bas yle dcm tim sig ysg op opX opY opZ out ych yot ylo pE pL yba yfr yva := by
    intro z
    unfold wY_edit_135 wY_edit_136
    refine br_t rfl ⟨vp_in_nI (by omega) (by omega), ?_⟩
    rw [nI_clamp (n := nx) (by omega), hwk]
    exact W Dn 0 (Ka z)
  unfold wY_edit_102
  refine br_f h4 ?_
  rcases (by omega : q = 0 ∨ q = 1) with rfl | rfl
  · exact br_t rfl (W0 (Or.inl rfl))
  · refine br_f (by decide) (br_c (fun z => W0 (Or.inr (Or.inl (h1.mp z)))) (fun z => ⟨vp_in_nI (by omega) (by omega), ?_⟩))
    have z1 : ¬ x8 = 1 := fun y => z (h1.mpr y)
    rw [nI_clamp (n := nx) (by omega), hwk]
    refine pk_eq Dn 0 (fun h => ?_) (fun h => W0 (Or.inr (Or.inr h)))
    unfold wY_edit_136
    refine br_f (by decide) (br_c (fun h2 => ?_) (fun h2 => ?_))
    · exact W 10 1 (Kb 10 (by rw [if_pos h2]) rfl z1 h)
    · exact W 15 1 (Kb 15 (by rw [if_neg h2]) rfl z1 h)
/-- both editings, in lockstep -/
theorem ed_sim {i b w d e g t l h p B : Nat} {D : Nat → Nat} (H : q_It srt bas len dig dcm sgn tim sig yle ysg i 3 b w d e g t l h) (hp : p + w ≤ 96) (hB : B ≤ 1) (hD : ∀ k, D k < 10) (hwk : ∀ k, k < d → wk k = nI (D k)) (hyo : ∀ k, k < d → yot k = nI (D k)) : ∀ (r m : Nat) (s : Nat → Int32) (q nx : Nat) (cx cy : Nat), m + r = w → StOK s → q ≤ 1 → nx = q_ct sig (8 * i) m → cx ≤ 41 → cy ≤ 41 → (q = 1 → cx = cy) →
    ∃ s', StOK s' ∧ (∀ (post : SX → Prop) n, r < n → post (cn, xpa, xop, pl, ck, pf, pc, st, ix, xst, tl, ds, s', srt, bas, len, dig, dcm, sgn, tim, sig, op, opX, opY, opZ, tgt, sta, ins, opn, pE, pL, pI, pB, out, pw, wk) → wX_edit_13 post (nI i) (nI p) (nI B) cn xpa xop pl ck pf pc st ix xst tl ds n (nI q) (nI cx) (nI nx) (nI m) s srt bas len dig dcm sgn tim sig op opX opY opZ tgt sta ins opn pE pL pI pB out pw wk) ∧ (∀ (post : SY → Prop) n, r < n → post (cn, pl, ck, ypf, yat, st, ix, ds, yen, tl, yju, s', srt, bas, yle, dcm, tim, sig, ysg, op, opX, opY, opZ, out, ych, yot, ylo, pE, pL, yba, yfr, yva) → wY_edit_13 post (nI i) (nI p) (nI B) cn pl ck ypf yat st ix ds yen tl yju n (nI nx) (nI cy) (nI q) (nI m) s srt bas yle dcm tim sig ysg op opX opY opZ out ych yot ylo pE pL yba yfr yva) := by
  obtain ⟨⟨-, -, hw, -, -, -, -, hl, -⟩, ⟨hi, -, -, -, hw1, hw12, hed, hd9⟩, hkk⟩ := H
  obtain ⟨rfl, hw8, hct, hsg⟩ : l = w ∧ w ≤ 8 ∧ q_ct sig (8 * i) w = d ∧ ∀ j, j < w → ∃ v, 1 ≤ v ∧ v ≤ 7 ∧ sig (8 * i + j) = nI v := by
    rcases hkk with z | z | z
    · omega
    · omega
    · exact ⟨z.2.2.2.1, z.2.2.2.2.2.1, z.2.2.2.2.2.2⟩
  have hin : vp_in (nI i) 12 := vp_in_nI hi (by omega)
  have hc : (nI i).toNatClampNeg = i := nI_clamp (by omega)
  intro r
  induction r with
  | zero =>
    intro m s q nx cx cy hm hs hq hn hcx hcy hqq
    refine ⟨s, hs, fun post n h0 hP => ?_, fun post n h0 hP => ?_⟩
    · obtain ⟨n, rfl⟩ : ∃ q, n = q + 1 := ⟨n - 1, by omega⟩
      refine ⟨hin, ?_⟩
      rw [hc, hw]
      exact br_t (nI_le (by omega) (by omega)) hP
    · obtain ⟨n, rfl⟩ : ∃ q, n = q + 1 := ⟨n - 1, by omega⟩
      refine ⟨hin, ?_⟩
      rw [hc, hl]
      exact br_t (nI_le (by omega) (by omega)) hP
  | succ r ih =>
    intro m s q nx cx cy hm hs hq hn hcx hcy hqq
    obtain ⟨v, v1, v7, hv⟩ := hsg m (by omega)
    have e8 : 8 * nI i + nI m = nI (8 * i + m) := by
      rw [show (8 : Int32) = nI 8 from rfl, pk_mul, nI_add]
    have hin8 : vp_in (nI (8 * i + m)) 96 := vp_in_nI (by omega) (by omega)
    have hc8 : (nI (8 * i + m)).toNatClampNeg = 8 * i + m := nI_clamp (by omega)
    -- behind the choice of the character
    have Q : ∀ c, c ≤ 41 → ∃ s', StOK s' ∧ (∀ (post : SX → Prop) n, r < n → post (cn, xpa, xop, pl, ck, pf, pc, st, ix, xst, tl, ds, s', srt, bas, len, dig, dcm, sgn, tim, sig, op, opX, opY, opZ, tgt, sta, ins, opn, pE, pL, pI, pB, out, pw, wk) → wX_edit_102 post (wX_edit_13 post (nI i) (nI p) (nI B) cn xpa xop pl ck pf pc st ix xst tl ds n) (nI i) (nI p) (nI B) (nI q) (nI cx) (nI nx) (nI m) (nI v) (nI c) cn xpa xop pl ck pf pc st ix xst tl ds s srt bas len dig dcm sgn tim sig op opX opY opZ tgt sta ins opn pE pL pI pB out pw wk) ∧ (∀ (post : SY → Prop) n, r < n → post (cn, pl, ck, ypf, yat, st, ix, ds, yen, tl, yju, s', srt, bas, yle, dcm, tim, sig, ysg, op, opX, opY, opZ, out, ych, yot, ylo, pE, pL, yba, yfr, yva) → wY_edit_102 post (wY_edit_13 post (nI i) (nI p) (nI B) cn pl ck ypf yat st ix ds yen tl yju n) (nI i) (nI p) (nI B) (nI nx) (nI cy) (nI q) (nI m) (nI v) (nI c) cn pl ck ypf yat st ix ds yen tl yju s srt bas yle dcm tim sig ysg op opX opY opZ out ych yot ylo pE pL yba yfr yva) := by
      intro c hc41
      by_cases h4 : 4 ≤ v
      · have h4' : (4 : Int32) ≤ nI v := nI_le (a := 4) h4 (by omega)
        obtain ⟨s', a1, a2, a3⟩ := ih (m + 1) (upd s (p + m) (nI c)) q nx cx cy (by omega) (so_u hs ⟨c, hc41, rfl⟩) hq (by rw [ct_s1 (by rw [hv]; exact h4')]; exact hn) hcx hcy hqq
        exact ⟨s', a1, fun post n h0 hP => xe_hi h4' hc41 (by omega) (a2 post n h0 hP), fun post n h0 hP => ye_hi h4' (by omega) (a3 post n h0 hP)⟩
      · have h4' : ¬ (4 : Int32) ≤ nI v := nI_ge (b := 4) (by omega) (by omega)
        have hn1 : q_ct sig (8 * i) (m + 1) = nx + 1 := by rw [ct_s0 (by rw [hv]; exact h4'), hn]
        have hnd : nx + 1 ≤ d := by
          have := ct_m sig (8 * i) (m := m + 1) r
          rw [show m + 1 + r = l by omega, hct, hn1] at this
          exact this
        have hle1 : nI v ≤ 1 ↔ nI v = 1 := by
          rw [show (1 : Int32) = nI 1 from rfl, nI_leI (by omega) (by omega), nI_eq (by omega) (by omega)]
          omega
        have hDn := hD nx
        by_cases hsh : q = 0 ∨ nI v = 1 ∨ D nx ≠ 0
        · obtain ⟨s', a1, a2, a3⟩ := ih (m + 1) (upd s (p + m) (nI (D nx))) 0 (nx + 1) cx (D nx) (by omega) (so_u hs ⟨D nx, by omega, rfl⟩) (by omega) hn1.symm hcx (by omega) (by omega)
          refine ⟨s', a1, fun post n h0 hP => xe_lo h4' (by omega) (hwk nx (by omega)) hDn hq (by omega) (fun _ => a2 post n h0 hP) (fun c _ b1 b2 b3 => ?_), fun post n h0 hP => ye_lo h4' hle1 (by omega) (hyo nx (by omega)) hDn hq (by omega) (fun _ => a3 post n h0 hP) (fun c _ b1 b2 b3 => ?_)⟩
          · rcases hsh with z | z | z
            · omega
            · exact absurd z b2
            · exact absurd b3 z
          · rcases hsh with z | z | z
            · omega
            · exact absurd z b2
            · exact absurd b3 z
        · obtain ⟨c', hc'⟩ : ∃ c' : Nat, c' = (if nI v = 2 then 10 else 15) := ⟨_, rfl⟩
          have c41 : c' ≤ 41 := by
            by_cases z : nI v = 2
            · rw [if_pos z] at hc'; omega
            · rw [if_neg z] at hc'; omega
          obtain ⟨s', a1, a2, a3⟩ := ih (m + 1) (upd s (p + m) (nI c')) 1 (nx + 1) c' c' (by omega) (so_u hs ⟨c', c41, rfl⟩) (by omega) hn1.symm c41 c41 (fun _ => rfl)
          refine ⟨s', a1, fun post n h0 hP => xe_lo h4' (by omega) (hwk nx (by omega)) hDn hq (by omega) (fun z => absurd z hsh) (fun c ec _ _ _ => ?_), fun post n h0 hP => ye_lo h4' hle1 (by omega) (hyo nx (by omega)) hDn hq (by omega) (fun z => absurd z hsh) (fun c ec _ _ _ => ?_)⟩
          · rw [ec, ← hc']; exact a2 post n h0 hP
          · rw [ec, ← hc']; exact a3 post n h0 hP
    have X0 : ∀ (post : SX → Prop) n, (∀ x8 : Int32, x8 = nI v → ((x8 = 4 → (((nI q = 0 → (wX_edit_102 post (wX_edit_13 post (nI i) (nI p) (nI B) cn xpa xop pl ck pf pc st ix xst tl ds n) (nI i) (nI p) (nI B) (nI q) (nI cx) (nI nx) (nI m) x8 14 cn xpa xop pl ck pf pc st ix xst tl ds s srt bas len dig dcm sgn tim sig op opX opY opZ tgt sta ins opn pE pL pI pB out pw wk)) ∧ (¬ nI q = 0 → (wX_edit_102 post (wX_edit_13 post (nI i) (nI p) (nI B) cn xpa xop pl ck pf pc st ix xst tl ds n) (nI i) (nI p) (nI B) (nI q) (nI cx) (nI nx) (nI m) x8 (nI cx) cn xpa xop pl ck pf pc st ix xst tl ds s srt bas len dig dcm sgn tim sig op opX opY opZ tgt sta ins opn pE pL pI pB out pw wk))))) ∧ (¬ x8 = 4 → (((x8 = 5 → (wX_edit_102 post (wX_edit_13 post (nI i) (nI p) (nI B) cn xpa xop pl ck pf pc st ix xst tl ds n) (nI i) (nI p) (nI B) (nI q) (nI cx) (nI nx) (nI m) x8 13 cn xpa xop pl ck pf pc st ix xst tl ds s srt bas len dig dcm sgn tim sig op opX opY opZ tgt sta ins opn pE pL pI pB out pw wk)) ∧ (¬ x8 = 5 → (((x8 = 6 → (((nI B = 0 → (wX_edit_102 post (wX_edit_13 post (nI i) (nI p) (nI B) cn xpa xop pl ck pf pc st ix xst tl ds n) (nI i) (nI p) (nI B) (nI q) (nI cx) (nI nx) (nI m) x8 10 cn xpa xop pl ck pf pc st ix xst tl ds s srt bas len dig dcm sgn tim sig op opX opY opZ tgt sta ins opn pE pL pI pB out pw wk)) ∧ (¬ nI B = 0 → (wX_edit_102 post (wX_edit_13 post (nI i) (nI p) (nI B) cn xpa xop pl ck pf pc st ix xst tl ds n) (nI i) (nI p) (nI B) (nI q) (nI cx) (nI nx) (nI m) x8 11 cn xpa xop pl ck pf pc st ix xst tl ds s srt bas len dig dcm sgn tim sig op opX opY opZ tgt sta ins opn pE pL pI pB out pw wk))))) ∧ (¬ x8 = 6 → (((nI B = 0 → (wX_edit_102 post (wX_edit_13 post (nI i) (nI p) (nI B) cn xpa xop pl ck pf pc st ix xst tl ds n) (nI i) (nI p) (nI B) (nI q) (nI cx) (nI nx) (nI m) x8 12 cn xpa xop pl ck pf pc st ix xst tl ds s srt bas len dig dcm sgn tim sig op opX opY opZ tgt sta ins opn pE pL pI pB out pw wk)) ∧ (¬ nI B = 0 → (wX_edit_102 post (wX_edit_13 post (nI i) (nI p) (nI B) cn xpa xop pl ck pf pc st ix xst tl ds n) (nI i) (nI p) (nI B) (nI q) (nI cx) (nI nx) (nI m) x8 11 cn xpa xop pl ck pf pc st ix xst tl ds s srt bas len dig dcm sgn tim sig op opX opY opZ tgt sta ins opn pE pL pI pB out pw wk))))))))))))) → wX_edit_13 post (nI i) (nI p) (nI B) cn xpa xop pl ck pf pc st ix xst tl ds (n + 1) (nI q) (nI cx) (nI nx) (nI m) s srt bas len dig dcm sgn tim sig op opX opY opZ tgt sta ins opn pE pL pI pB out pw wk := by
      intro post n K
      refine ⟨hin, ?_⟩
      rw [hc, hw]
      refine br_f (nI_ge (by omega) (by omega)) ?_
      rw [e8, hc8, hv]
      exact ⟨hin8, K⟩
    have Y0 : ∀ (post : SY → Prop) n, (∀ x8 : Int32, x8 = nI v → ((x8 = 4 → (((nI q = 0 → (wY_edit_102 post (wY_edit_13 post (nI i) (nI p) (nI B) cn pl ck ypf yat st ix ds yen tl yju n) (nI i) (nI p) (nI B) (nI nx) (nI cy) (nI q) (nI m) x8 14 cn pl ck ypf yat st ix ds yen tl yju s srt bas yle dcm tim sig ysg op opX opY opZ out ych yot ylo pE pL yba yfr yva)) ∧ (¬ nI q = 0 → (wY_edit_102 post (wY_edit_13 post (nI i) (nI p) (nI B) cn pl ck ypf yat st ix ds yen tl yju n) (nI i) (nI p) (nI B) (nI nx) (nI cy) (nI q) (nI m) x8 (nI cy) cn pl ck ypf yat st ix ds yen tl yju s srt bas yle dcm tim sig ysg op opX opY opZ out ych yot ylo pE pL yba yfr yva))))) ∧ (¬ x8 = 4 → (((x8 = 5 → (wY_edit_102 post (wY_edit_13 post (nI i) (nI p) (nI B) cn pl ck ypf yat st ix ds yen tl yju n) (nI i) (nI p) (nI B) (nI nx) (nI cy) (nI q) (nI m) x8 13 cn pl ck ypf yat st ix ds yen tl yju s srt bas yle dcm tim sig ysg op opX opY opZ out ych yot ylo pE pL yba yfr yva)) ∧ (¬ x8 = 5 → (((x8 = 6 → (((nI B = 0 → (wY_edit_102 post (wY_edit_13 post (nI i) (nI p) (nI B) cn pl ck ypf yat st ix ds yen tl yju n) (nI i) (nI p) (nI B) (nI nx) (nI cy) (nI q) (nI m) x8 10 cn pl ck ypf yat st ix ds yen tl yju s srt bas yle dcm tim sig ysg op opX opY opZ out ych yot ylo pE pL yba yfr yva)) ∧ (¬ nI B = 0 → (wY_edit_102 post (wY_edit_13 post (nI i) (nI p) (nI B) cn pl ck ypf yat st ix ds yen tl yju n) (nI i) (nI p) (nI B) (nI nx) (nI cy) (nI q) (nI m) x8 11 cn pl ck ypf yat st ix ds yen tl yju s srt bas yle dcm tim sig ysg op opX opY opZ out ych yot ylo pE pL yba yfr yva))))) ∧ (¬ x8 = 6 → (((nI B = 0 → (wY_edit_102 post (wY_edit_13 post (nI i) (nI p) (nI B) cn pl ck ypf yat st ix ds yen tl yju n) (nI i) (nI p) (nI B) (nI nx) (nI cy) (nI q) (nI m) x8 12 cn pl ck ypf yat st ix ds yen tl yju s srt bas yle dcm tim sig ysg op opX opY opZ out ych yot ylo pE pL yba yfr yva)) ∧ (¬ nI B = 0 → (wY_edit_102 post (wY_edit_13 post (nI i) (nI p) (nI B) cn pl ck ypf yat st ix ds yen tl yju n) (nI i) (nI p) (nI B) (nI nx) (nI cy) (nI q) (nI m) x8 11 cn pl ck ypf yat st ix ds yen tl yju s srt bas yle dcm tim sig ysg op opX opY opZ out ych yot ylo pE pL yba yfr yva))))))))))))) → wY_edit_13 post (nI i) (nI p) (nI B) cn pl ck ypf yat st ix ds yen tl yju (n + 1) (nI nx) (nI cy) (nI q) (nI m) s srt bas yle dcm tim sig ysg op opX opY opZ out ych yot ylo pE pL yba yfr yva := by
      intro post n K
      refine ⟨hin, ?_⟩
      rw [hc, hl]
      refine br_f (nI_ge (by omega) (by omega)) ?_
      rw [e8, hc8, hv]
      exact ⟨hin8, K⟩
    have ne : ∀ a : Nat, a ≤ 9 → v ≠ a → ¬ nI v = nI a := fun a ha hva z => hva ((nI_eq (by omega) (by omega)).mp z)
    have fin : ∀ c, c ≤ 41 → (∀ (post : SX → Prop) n, wX_edit_102 post (wX_edit_13 post (nI i) (nI p) (nI B) cn xpa xop pl ck pf pc st ix xst tl ds n) (nI i) (nI p) (nI B) (nI q) (nI cx) (nI nx) (nI m) (nI v) (nI c) cn xpa xop pl ck pf pc st ix xst tl ds s srt bas len dig dcm sgn tim sig op opX opY opZ tgt sta ins opn pE pL pI pB out pw wk → wX_edit_13 post (nI i) (nI p) (nI B) cn xpa xop pl ck pf pc st ix xst tl ds (n + 1) (nI q) (nI cx) (nI nx) (nI m) s srt bas len dig dcm sgn tim sig op opX opY opZ tgt sta ins opn pE pL pI pB out pw wk) → (∀ (post : SY → Prop) n, wY_edit_102 post (wY_edit_13 post (nI i) (nI p) (nI B) cn pl ck ypf yat st ix ds yen tl yju n) (nI i) (nI p) (nI B) (nI nx) (nI cy) (nI q) (nI m) (nI v) (nI c) cn pl ck ypf yat st ix ds yen tl yju s srt bas yle dcm tim sig ysg op opX opY opZ out ych yot ylo pE pL yba yfr yva → wY_edit_13 post (nI i) (nI p) (nI B) cn pl ck ypf yat st ix ds yen tl yju (n + 1) (nI nx) (nI cy) (nI q) (nI m) s srt bas yle dcm tim sig ysg op opX opY opZ out ych yot ylo pE pL yba yfr yva) →
        ∃ s', StOK s' ∧ (∀ (post : SX → Prop) n, r + 1 < n → post (cn, xpa, xop, pl, ck, pf, pc, st, ix, xst, tl, ds, s', srt, bas, len, dig, dcm, sgn, tim, sig, op, opX, opY, opZ, tgt, sta, ins, opn, pE, pL, pI, pB, out, pw, wk) → wX_edit_13 post (nI i) (nI p) (nI B) cn xpa xop pl ck pf pc st ix xst tl ds n (nI q) (nI cx) (nI nx) (nI m) s srt bas len dig dcm sgn tim sig op opX opY opZ tgt sta ins opn pE pL pI pB out pw wk) ∧ (∀ (post : SY → Prop) n, r + 1 < n → post (cn, pl, ck, ypf, yat, st, ix, ds, yen, tl, yju, s', srt, bas, yle, dcm, tim, sig, ysg, op, opX, opY, opZ, out, ych, yot, ylo, pE, pL, yba, yfr, yva) → wY_edit_13 post (nI i) (nI p) (nI B) cn pl ck ypf yat st ix ds yen tl yju n (nI nx) (nI cy) (nI q) (nI m) s srt bas yle dcm tim sig ysg op opX opY opZ out ych yot ylo pE pL yba yfr yva) := by
      intro c hc41 fx fy
      obtain ⟨s', a1, a2, a3⟩ := Q c hc41
      refine ⟨s', a1, fun post n h0 hP => ?_, fun post n h0 hP => ?_⟩
      · obtain ⟨n, rfl⟩ : ∃ q, n = q + 1 := ⟨n - 1, by omega⟩
        exact fx post n (a2 post n (by omega) hP)
      · obtain ⟨n, rfl⟩ : ∃ q, n = q + 1 := ⟨n - 1, by omega⟩
        exact fy post n (a3 post n (by omega) hP)
    by_cases v4 : v = 4
    · rcases (by omega : q = 0 ∨ q = 1) with q0 | q1
      · refine fin 14 (by omega) (fun post n K => X0 post n ?_) (fun post n K => Y0 post n ?_)
        · exact fun x8 e8 => br_t (by rw [e8, v4]; rfl) (br_t (by rw [q0]; rfl) (by rw [e8]; exact K))
        · exact fun x8 e8 => br_t (by rw [e8, v4]; rfl) (br_t (by rw [q0]; rfl) (by rw [e8]; exact K))
      · refine fin cx hcx (fun post n K => X0 post n ?_) (fun post n K => Y0 post n ?_)
        · exact fun x8 e8 => br_t (by rw [e8, v4]; rfl) (br_f (by rw [q1]; decide) (by rw [e8]; exact K))
        · exact fun x8 e8 => br_t (by rw [e8, v4]; rfl) (br_f (by rw [q1]; decide) (by rw [e8, ← hqq q1]; rw [← hqq q1] at K; exact K))
    · by_cases v5 : v = 5
      · refine fin 13 (by omega) (fun post n K => X0 post n ?_) (fun post n K => Y0 post n ?_)
        · exact fun x8 e8 => br_f (by rw [e8]; exact ne 4 (by omega) v4) (br_t (by rw [e8, v5]; rfl) (by rw [e8]; exact K))
        · exact fun x8 e8 => br_f (by rw [e8]; exact ne 4 (by omega) v4) (br_t (by rw [e8, v5]; rfl) (by rw [e8]; exact K))
      · by_cases v6 : v = 6
        · rcases (by omega : B = 0 ∨ B = 1) with q0 | q1
          · refine fin 10 (by omega) (fun post n K => X0 post n ?_) (fun post n K => Y0 post n ?_)
            · exact fun x8 e8 => br_f (by rw [e8]; exact ne 4 (by omega) v4) (br_f (by rw [e8]; exact ne 5 (by omega) v5) (br_t (by rw [e8, v6]; rfl) (br_t (by rw [q0]; rfl) (by rw [e8]; exact K))))
            · exact fun x8 e8 => br_f (by rw [e8]; exact ne 4 (by omega) v4) (br_f (by rw [e8]; exact ne 5 (by omega) v5) (br_t (by rw [e8, v6]; rfl) (br_t (by rw [q0]; rfl) (by rw [e8]; exact K))))
          · refine fin 11 (by omega) (fun post n K => X0 post n ?_) (fun post n K => Y0 post n ?_)
            · exact fun x8 e8 => br_f (by rw [e8]; exact ne 4 (by omega) v4) (br_f (by rw [e8]; exact ne 5 (by omega) v5) (br_t (by rw [e8, v6]; rfl) (br_f (by rw [q1]; decide) (by rw [e8]; exact K))))
            · exact fun x8 e8 => br_f (by rw [e8]; exact ne 4 (by omega) v4) (br_f (by rw [e8]; exact ne 5 (by omega) v5) (br_t (by rw [e8, v6]; rfl) (br_f (by rw [q1]; decide) (by rw [e8]; exact K))))
        · rcases (by omega : B = 0 ∨ B = 1) with q0 | q1
          · refine fin 12 (by omega) (fun post n K => X0 post n ?_) (fun post n K => Y0 post n ?_)
            · exact fun x8 e8 => br_f (by rw [e8]; exact ne 4 (by omega) v4) (br_f (by rw [e8]; exact ne 5 (by omega) v5) (br_f (by rw [e8]; exact ne 6 (by omega) v6) (br_t (by rw [q0]; rfl) (by rw [e8]; exact K))))
            · exact fun x8 e8 => br_f (by rw [e8]; exact ne 4 (by omega) v4) (br_f (by rw [e8]; exact ne 5 (by omega) v5) (br_f (by rw [e8]; exact ne 6 (by omega) v6) (br_t (by rw [q0]; rfl) (by rw [e8]; exact K))))
          · refine fin 11 (by omega) (fun post n K => X0 post n ?_) (fun post n K => Y0 post n ?_)
            · exact fun x8 e8 => br_f (by rw [e8]; exact ne 4 (by omega) v4) (br_f (by rw [e8]; exact ne 5 (by omega) v5) (br_f (by rw [e8]; exact ne 6 (by omega) v6) (br_f (by rw [q1]; decide) (by rw [e8]; exact K))))
            · exact fun x8 e8 => br_f (by rw [e8]; exact ne 4 (by omega) v4) (br_f (by rw [e8]; exact ne 5 (by omega) v5) (br_f (by rw [e8]; exact ne 6 (by omega) v6) (br_f (by rw [q1]; decide) (by rw [e8]; exact K))))
end
end
section
section
variable {cn : Int32} {xpa : Int32} {xop : Int32} {pl : Int32} {ck : Int32} {pf : Int32} {pc : Int32} {st : Int32} {ix : Int32} {xst : Int32} {tl : Int32} {ds : Int32} {sto : Nat → Int32} {srt : Nat → Int32} {bas : Nat → Int32} {len : Nat → Int32} {dig : Nat → Int32} {dcm : Nat → Int32} {sgn : Nat → Int32} {tim : Nat → Int32} {sig : Nat → Int32} {op : Nat → Int32} {opX : Nat → Int32} {opY : Nat → Int32} {opZ : Nat → Int32} {tgt : Nat → Int32} {sta : Nat → Int32} {ins : Nat → Int32} {opn : Nat → Int32} {pE : Nat → Int32} {pL : Nat → Int32} {pI : Nat → Int32} {pB : Nat → Int32} {out : Nat → Int32} {pw : Nat → Int64} {wk : Nat → Int32} {ypf : Int32} {yat : Int32} {yen : Int32} {yju : Int32} {yle : Nat → Int32} {ysg : Nat → Int32} {ych : Nat → Int32} {yot : Nat → Int32} {ylo : Nat → Int32} {yba : Nat → Int32} {yfr : Nat → Int32} {yva : Nat → Int32}
theorem xs_28 {post : SX → Prop} {i k b w d e g t l h a : Nat} {v : Int} (H : q_It srt bas len dig dcm sgn tim sig yle ysg i k b w d e g t l h) (hd1 : 1 ≤ d) (hv : v.natAbs ≤ 2147483648)
    (hK : ∀ x6 n, wX_store_68 post (nI i) (nI (q_fb v (q_D v a e d) d)) (nI d) cn xpa xop pl ck pf pc st ix xst tl ds (n + 1) x6 (nI 0 - 1) sto srt bas len dig dcm sgn tim sig op opX opY opZ tgt sta ins opn pE pL pI pB out pw (bk wk 0 d (fun k => nI (q_D v a e d k)))) : wX_store_28 post (nI i) (zL ((q_sc v a e).tmod (pTen d : Nat))) cn xpa xop pl ck pf pc st ix xst tl ds sto srt bas len dig dcm sgn tim sig op opX opY opZ tgt sta ins opn pE pL pI pB out pw wk := by
  obtain ⟨⟨-, -, -, hdg, -⟩, ⟨hi, -, -, -, -, -, hed, hd9⟩, hkk⟩ := H
  have hin : vp_in (nI i) 12 := vp_in_nI hi (by omega)
  have hc : (nI i).toNatClampNeg = i := nI_clamp (by omega)
  have p9 := pt_9 hd9
  have pp := pt_pos d
  obtain ⟨L, hL⟩ : ∃ L, L = (q_sc v a e).natAbs % pTen d := ⟨_, rfl⟩
  have L1 : L < pTen d := by rw [hL]; exact Nat.mod_lt _ pp
  have L2 : ((q_sc v a e).tmod (pTen d : Nat)).natAbs = L := by rw [Int.natAbs_tmod, Int.natAbs_natCast, hL]
  have hDD : ∀ k, k < d → q_D v a e d k = L / pTen (d - 1 - k) % 10 := by
    intro k hk
    rw [hL, dg_mod (by omega), dg_sc]
    rfl
  have e1 : bk wk 0 d (fun k => nI (q_D v a e d k)) = bk wk 0 d (fun k => nI (L / pTen (d - 1 - k) % 10)) := bk_c (fun j _ hj => by rw [hDD j hj])
  rw [e1] at hK
  have K := xs_68 (by omega) hd9 hK d (d + 1) (by omega) (by omega)
  rw [Nat.sub_self, pt_0, Nat.div_one, bk_0] at K
  have K54 : wX_store_54 post (nI i) (lN L) (nI (q_fb v (q_D v a e d) d)) cn xpa xop pl ck pf pc st ix xst tl ds sto srt bas len dig dcm sgn tim sig op opX opY opZ tgt sta ins opn pE pL pI pB out pw wk := by
    unfold wX_store_54
    refine ⟨hin, ?_⟩
    rw [hc, hdg]
    exact nm_e (nm_e ⟨d + 1, K⟩)
  have fl := fb_le v (q_D v a e d) d
  have fx := @fb_x v a e d
  generalize (q_sc v a e).tmod (pTen d : Nat) = T at *
  unfold wX_store_28
  refine zb_le 0 T (fun h0 => ?_) (fun h0 => ?_) (by omega) (by omega)
  · have f0 : q_fb v (q_D v a e d) d = 0 := by omega
    rw [f0] at K54
    have eT : zL T = lN L := by rw [← zl_n]; exact congrArg zL (by omega)
    rw [eT]
    unfold wX_store_42
    exact br_t rfl K54
  · have f0 : q_fb v (q_D v a e d) d = 1 := by omega
    rw [f0] at K54
    have eT : -zL T = lN L := by rw [zl_neg, ← zl_n]; exact congrArg zL (by omega)
    unfold wX_store_42
    exact br_f (by decide) (nm_r eT K54)
theorem xs_store {post : SX → Prop} {i k b w d e g t l h a : Nat} {v : Int} (H : q_It srt bas len dig dcm sgn tim sig yle ysg i k b w d e g t l h) (hd1 : 1 ≤ d) (hw : PwOK pw) (hv : v.natAbs ≤ 2147483648) (ha : a ≤ 9)
    (hK : ∀ x6 n, wX_store_68 post (nI i) (nI (q_fb v (q_D v a e d) d)) (nI d) cn xpa xop pl ck pf pc st ix xst tl ds (n + 1) x6 (nI 0 - 1) sto srt bas len dig dcm sgn tim sig op opX opY opZ tgt sta ins opn pE pL pI pB out pw (bk wk 0 d (fun k => nI (q_D v a e d k)))) : wpX_store post (cn, xpa, xop, pl, ck, pf, pc, st, ix, xst, tl, ds, sto, srt, bas, len, dig, dcm, sgn, tim, sig, op, opX, opY, opZ, tgt, sta, ins, opn, pE, pL, pI, pB, out, pw, wk) (nI i) (zL (q_sc v a e)) := by
  have K := xs_28 H hd1 hv hK
  obtain ⟨⟨-, -, -, hdg, -⟩, ⟨hi, -, -, -, -, -, hed, hd9⟩, hkk⟩ := H
  have hin : vp_in (nI i) 12 := vp_in_nI hi (by omega)
  have hc : (nI i).toNatClampNeg = i := nI_clamp (by omega)
  have p9 := pt_9 hd9
  have pp := pt_pos d
  have hn : ¬ zL (pTen d : Nat) = 0 := by
    rw [zl_0]; exact zl_ne (by omega) (by omega) (by omega)
  unfold wpX_store
  refine ⟨hin, ?_⟩
  rw [hc, hdg, nI_clamp (n := d) (by omega), hw d (by omega)]
  refine ⟨vp_in_nI (by omega) (by omega), nm_e (br_f hn ⟨hn, ?_⟩)⟩
  rw [zl_rem (sc_b hv (by omega)) (by omega)]
  exact K
theorem ys_36 {post : SY → Prop} {i b w d e g t l h a p : Nat} {x3 : Int64} {x5 : Int32} (H : q_It srt bas len dig dcm sgn tim sig yle ysg i 3 b w d e g t l h) (hK : ∃ n92, wY_store_92 post (nI i) x3 x5 (nI d) (nI p) cn pl ck ypf yat st ix ds yen tl yju n92 0 0 sto srt bas yle dcm tim sig ysg op opX opY opZ out ych yot ylo pE pL yba yfr yva) : ∀ r m n : Nat, m + r = w → r < n → wY_store_36 post (nI i) x3 x5 (nI p) (nI w) cn pl ck ypf yat st ix ds yen tl yju sto srt bas yle dcm tim sig ysg op opX opY opZ out ych yot ylo pE pL yba yfr yva n (nI (q_ct sig (8 * i) m)) (nI m) := by
  obtain ⟨⟨hk, -⟩, ⟨hi, -⟩, hkk⟩ := H
  have hin : vp_in (nI i) 12 := vp_in_nI hi (by omega)
  have hc : (nI i).toNatClampNeg = i := nI_clamp (by omega)
  obtain ⟨hw8, hct⟩ : w ≤ 8 ∧ q_ct sig (8 * i) w = d := by
    rcases hkk with z | z | z
    · omega
    · omega
    · exact ⟨z.2.2.2.2.2.1, z.2.2.2.2.2.2.1⟩
  intro r
  induction r with
  | zero =>
    intro m n hm hn
    obtain ⟨n, rfl⟩ : ∃ q, n = q + 1 := ⟨n - 1, by omega⟩
    obtain rfl : m = w := by omega
    refine br_t (nI_le (by omega) (by omega)) ⟨hin, ?_⟩
    rw [hc, hk, hct]
    exact br_f (by decide) hK
  | succ r ih =>
    intro m n hm hn
    obtain ⟨n, rfl⟩ : ∃ q, n = q + 1 := ⟨n - 1, by omega⟩
    have K := ih (m + 1) n (by omega) (by omega)
    refine br_f (nI_ge (by omega) (by omega)) ?_
    rw [show 8 * nI i + nI m = nI (8 * i + m) by rw [show (8 : Int32) = nI 8 from rfl, pk_mul, nI_add], nI_clamp (n := 8 * i + m) (by omega)]
    refine ⟨vp_in_nI (by omega) (by omega), br_c (fun h4 => ?_) (fun h4 => ?_)⟩
    · rw [ct_s1 h4] at K
      exact nm_r (nI_1 _) K
    · rw [ct_s0 h4] at K
      exact nm_r (nI_1 _) (nm_r (nI_1 _) K)
theorem ys_store {post : SY → Prop} {i k b w d e g t l h a el : Nat} {v : Int} (H : q_It srt bas len dig dcm sgn tim sig yle ysg i k b w d e g t l h) (k2 : ¬ k = 2) (h1 : 1 ≤ el) (hv : v.natAbs ≤ 2147483648) (ha : a ≤ 9) (hK : ∀ n, wY_store_92 post (nI i) (zL v) (nI a) (nI d) (nI (b + (el - 1) * w)) cn pl ck ypf yat st ix ds yen tl yju (n + 1) (nI (q_fb v (q_D v a e d) d)) (nI d) sto srt bas yle dcm tim sig ysg op opX opY opZ out ych (bk yot 0 d (fun k => nI (q_D v a e d k))) ylo pE pL yba yfr yva) : wpY_store post (cn, pl, ck, ypf, yat, st, ix, ds, yen, tl, yju, sto, srt, bas, yle, dcm, tim, sig, ysg, op, opX, opY, opZ, out, ych, yot, ylo, pE, pL, yba, yfr, yva) (nI i) (nI el) (zL v) (nI a) := by
  have K := ys_92 H (by omega) ha hK d 0 (d + 1) (by omega) (by omega)
  rw [bk_0] at K
  have hi : i < 12 := H.2.1.1
  have hk := H.1.1
  have hl := H.1.2.2.2.2.2.2.2.1
  have hin : vp_in (nI i) 12 := vp_in_nI hi (by omega)
  have hc : (nI i).toNatClampNeg = i := nI_clamp (by omega)
  unfold wpY_store
  refine ya_spot H h1 ⟨hin, ?_⟩
  rw [hc, hk, hl]
  by_cases k3 : k = 3
  · subst k3
    obtain rfl : l = w := by have := H.2.2; omega
    exact br_t rfl ⟨hin, nm_e ⟨l + 1, ys_36 (a := a) H ⟨_, K⟩ l 0 (l + 1) (by omega) (by omega)⟩⟩
  · have k1 : k = 1 := by have := H.2.2; omega
    refine br_f (fun z => k3 ((nI_eq (b := 3) (by omega) (by omega)).mp z)) ⟨1, br_t (by decide) ⟨hin, ?_⟩⟩
    rw [hc, hk, hl]
    obtain rfl : l = d := by have := H.2.2; omega
    exact br_t (by rw [k1]; rfl) ⟨hin, nm_e ⟨_, K⟩⟩
/-- both stores: one outcome -/
theorem sr_sim {i k b w d e g t l h el p a : Nat} {v : Int} (H : q_It srt bas len dig dcm sgn tim sig yle ysg i k b w d e g t l h) (k2 : ¬ k = 2) (A : q_At b w t ix el p) (hs : StOK sto) (hw : PwOK pw) (hv : v.natAbs ≤ 2147483648) (ha : a ≤ 9) :
    ∃ s' wk' yot', StOK s' ∧ (∀ post : SX → Prop, post (cn, xpa, xop, pl, ck, pf, pc, st, ix, xst, tl, ds, s', srt, bas, len, dig, dcm, sgn, tim, sig, op, opX, opY, opZ, tgt, sta, ins, opn, pE, pL, pI, pB, out, pw, wk') → wpX_store post (cn, xpa, xop, pl, ck, pf, pc, st, ix, xst, tl, ds, sto, srt, bas, len, dig, dcm, sgn, tim, sig, op, opX, opY, opZ, tgt, sta, ins, opn, pE, pL, pI, pB, out, pw, wk) (nI i) (zL (q_sc v a e))) ∧ (∀ post : SY → Prop, post (cn, pl, ck, ypf, yat, st, ix, ds, yen, tl, yju, s', srt, bas, yle, dcm, tim, sig, ysg, op, opX, opY, opZ, out, ych, yot', ylo, pE, pL, yba, yfr, yva) → wpY_store post (cn, pl, ck, ypf, yat, st, ix, ds, yen, tl, yju, sto, srt, bas, yle, dcm, tim, sig, ysg, op, opX, opY, opZ, out, ych, yot, ylo, pE, pL, yba, yfr, yva) (nI i) (nI el) (zL v) (nI a)) := by
  have hp := aq_in H.2.1.2.2.2.1 A
  have hd1 : 1 ≤ d := by have := H.2.2; omega
  have hd9 : d ≤ 9 := H.2.1.2.2.2.2.2.2.2
  have hi : i < 12 := H.2.1.1
  have hk := H.1.1
  have hin : vp_in (nI i) 12 := vp_in_nI hi (by omega)
  have hc : (nI i).toNatClampNeg = i := nI_clamp (by omega)
  have ep : p = b + (el - 1) * w := A.2.2.1
  have D10 := D_10 v a e d
  have fl := fb_le v (q_D v a e d) d
  have wx : ∀ k, k < d → bk wk 0 d (fun k => nI (q_D v a e d k)) k = nI (q_D v a e d k) := fun k hk => bk_in (Nat.zero_le k) hk
  have wy : ∀ k, k < d → bk yot 0 d (fun k => nI (q_D v a e d k)) k = nI (q_D v a e d k) := fun k hk => bk_in (Nat.zero_le k) hk
  by_cases k1 : k = 1
  · subst k1
    refine ⟨bk (if g = 1 then upd sto p (nI (12 - q_fb v (q_D v a e d) d)) else sto) (p + g) (p + g + d) (fun j => nI (q_D v a e d (j - (p + g)))), bk wk 0 d (fun k => nI (q_D v a e d k)), bk yot 0 d (fun k => nI (q_D v a e d k)), ?_, fun post hP => ?_, fun post hP => ?_⟩
    · refine so_b ?_ (fun j _ _ => ⟨_, by have := D10 (j - (p + g)); omega, rfl⟩)
      by_cases g1 : g = 1
      · rw [if_pos g1]; exact so_u hs ⟨_, by omega, rfl⟩
      · rw [if_neg g1]; exact hs
    · exact xs_store H hd1 hw hv ha (fun x6 n => xs_num H A wx D10 fl hP)
    · refine ys_store H k2 A.1 hv ha (fun n => ?_)
      rw [← ep]
      exact ys_num H hp wy fl hP
  · obtain rfl : k = 3 := by have := H.2.2; omega
    obtain ⟨s', a1, a2, a3⟩ := ed_sim (wk := bk wk 0 d (fun k => nI (q_D v a e d k))) (yot := bk yot 0 d (fun k => nI (q_D v a e d k))) (cn := cn) (xpa := xpa) (xop := xop) (pl := pl) (ck := ck) (pf := pf) (pc := pc) (st := st) (ix := ix) (xst := xst) (tl := tl) (ds := ds) (op := op) (opX := opX) (opY := opY) (opZ := opZ) (tgt := tgt) (sta := sta) (ins := ins) (opn := opn) (pE := pE) (pL := pL) (pI := pI) (pB := pB) (out := out) (pw := pw) (ypf := ypf) (yat := yat) (yen := yen) (yju := yju) (ych := ych) (ylo := ylo) (yba := yba) (yfr := yfr) (yva := yva) H hp fl D10 wx wy w 0 sto 1 0 10 10 (by omega) hs (by omega) rfl (by omega) (by omega) (fun _ => rfl)
    refine ⟨s', bk wk 0 d (fun k => nI (q_D v a e d k)), bk yot 0 d (fun k => nI (q_D v a e d k)), a1, fun post hP => xs_store H hd1 hw hv ha (fun x6 n => ?_), fun post hP => ys_store H k2 A.1 hv ha (fun n => ?_)⟩
    · refine br_t (by decide) (xa_at H A ⟨hin, ?_⟩)
      rw [hc, hk]
      refine br_t rfl ?_
      unfold wpX_edit
      exact ⟨w + 1, a2 _ (w + 1) (by omega) hP⟩
    · rw [← ep]
      refine br_t (nI_le (by omega) (by omega)) ⟨hin, ?_⟩
      rw [hc, hk]
      refine br_t rfl ?_
      unfold wpY_edit
      exact ⟨w + 1, a3 _ (w + 1) (by omega) hP⟩
end
end
section
section
variable {cn : Int32} {xpa : Int32} {xop : Int32} {pl : Int32} {ck : Int32} {pf : Int32} {pc : Int32} {st : Int32} {ix : Int32} {xst : Int32} {tl : Int32} {ds : Int32} {sto : Nat → Int32} {srt : Nat → Int32} {bas : Nat → Int32} {len : Nat → Int32} {dig : Nat → Int32} {dcm : Nat → Int32} {sgn : Nat → Int32} {tim : Nat → Int32} {sig : Nat → Int32} {op : Nat → Int32} {opX : Nat → Int32} {opY : Nat → Int32} {opZ : Nat → Int32} {tgt : Nat → Int32} {sta : Nat → Int32} {ins : Nat → Int32} {opn : Nat → Int32} {pE : Nat → Int32} {pL : Nat → Int32} {pI : Nat → Int32} {pB : Nat → Int32} {out : Nat → Int32} {pw : Nat → Int64} {wk : Nat → Int32} {ypf : Int32} {yat : Int32} {yen : Int32} {yju : Int32} {yle : Nat → Int32} {ysg : Nat → Int32} {ych : Nat → Int32} {yot : Nat → Int32} {ylo : Nat → Int32} {yba : Nat → Int32} {yfr : Nat → Int32} {yva : Nat → Int32}
/-! the reference takes characters -/
theorem yk_41 {post : Int32 → SY → Prop} {w p s : Nat} (hs1 : s ≤ w) (hw : w ≤ 12) (hp : p + w ≤ 96) (hP : post (nI (w - s)) (cn, pl, ck, ypf, yat, st, ix, ds, yen, tl, yju, sto, srt, bas, yle, dcm, tim, sig, ysg, op, opX, opY, opZ, out, bk ych 0 (w - s) (fun k => sto (p + s + k)), yot, ylo, pE, pL, yba, yfr, yva)) : ∀ r m n : Nat, m + r = w - s → r < n → wY_take_41 post (nI p) (nI s) (nI w) cn pl ck ypf yat st ix ds yen tl yju n (nI (s + m)) sto srt bas yle dcm tim sig ysg op opX opY opZ out (bk ych 0 m (fun k => sto (p + s + k))) yot ylo pE pL yba yfr yva := by
  intro r
  induction r with
  | zero =>
    intro m n hm hn
    obtain ⟨n, rfl⟩ : ∃ q, n = q + 1 := ⟨n - 1, by omega⟩
    obtain rfl : m = w - s := by omega
    refine br_t (nI_le (by omega) (by omega)) ?_
    rw [pk_sub hs1]
    exact hP
  | succ r ih =>
    intro m n hm hn
    obtain ⟨n, rfl⟩ : ∃ q, n = q + 1 := ⟨n - 1, by omega⟩
    refine br_f (nI_ge (by omega) (by omega)) ?_
    rw [nI_add, pk_sub (by omega), Nat.add_sub_cancel_left, nI_clamp (n := p + (s + m)) (by omega), nI_clamp (n := m) (by omega)]
    refine ⟨vp_in_nI (by omega) (by omega), vp_in_nI (by omega) (by omega), nm_r (bk_s (by omega) ?_) (nm_r (nI_1 _) (ih (m + 1) n (by omega) (by omega)))⟩
    show sto (p + (s + m)) = sto (p + s + m)
    rw [Nat.add_assoc]
theorem yk_28 {post : Int32 → SY → Prop} {i k b w d e g t l h p s : Nat} (H : q_It srt bas len dig dcm sgn tim sig yle ysg i k b w d e g t l h) (hs1 : s ≤ w) (hp : p + w ≤ 96) (hP : post (nI (w - s)) (cn, pl, ck, ypf, yat, st, ix, ds, yen, tl, yju, sto, srt, bas, yle, dcm, tim, sig, ysg, op, opX, opY, opZ, out, bk ych 0 (w - s) (fun k => sto (p + s + k)), yot, ylo, pE, pL, yba, yfr, yva)) : wY_take_28 post (nI i) (nI p) (nI s) cn pl ck ypf yat st ix ds yen tl yju sto srt bas yle dcm tim sig ysg op opX opY opZ out ych yot ylo pE pL yba yfr yva := by
  unfold wY_take_28
  refine ya_w H ⟨w + 1, ?_⟩
  have K := yk_41 hs1 H.2.1.2.2.2.2.2.1 hp hP (w - s) 0 (w + 1) (by omega) (by omega)
  rw [bk_0] at K
  exact K
theorem ya_take0 {post : Int32 → SY → Prop} {i k b w d e g t l h el p : Nat} (H : q_It srt bas len dig dcm sgn tim sig yle ysg i k b w d e g t l h) (A : q_At b w t ix el p) (hP : post (nI (w - g)) (cn, pl, ck, ypf, yat, st, ix, ds, yen, tl, yju, sto, srt, bas, yle, dcm, tim, sig, ysg, op, opX, opY, opZ, out, bk ych 0 (w - g) (fun k => sto (p + g + k)), yot, ylo, pE, pL, yba, yfr, yva)) : wpY_take post (cn, pl, ck, ypf, yat, st, ix, ds, yen, tl, yju, sto, srt, bas, yle, dcm, tim, sig, ysg, op, opX, opY, opZ, out, ych, yot, ylo, pE, pL, yba, yfr, yva) (nI i) 0 := by
  have hp := aq_in H.2.1.2.2.2.1 A
  have hg : g ≤ 1 ∧ g ≤ w := by have := H.2; omega
  unfold wpY_take
  refine ya_el H A (ya_spot H A.1 (ya_sgn H ?_))
  rw [← A.2.2.1]
  rcases (by omega : g = 0 ∨ g = 1) with rfl | rfl
  · exact br_t rfl (by unfold wY_take_27; exact yk_28 (s := 0) H (by omega) hp hP)
  · exact br_f (by decide) (br_t rfl (yk_28 (s := 1) H (by omega) hp hP))
theorem ya_take1 {post : Int32 → SY → Prop} {i k b w d e g t l h el p : Nat} (H : q_It srt bas len dig dcm sgn tim sig yle ysg i k b w d e g t l h) (A : q_At b w t ix el p) (hP : post (nI w) (cn, pl, ck, ypf, yat, st, ix, ds, yen, tl, yju, sto, srt, bas, yle, dcm, tim, sig, ysg, op, opX, opY, opZ, out, bk ych 0 w (fun k => sto (p + k)), yot, ylo, pE, pL, yba, yfr, yva)) : wpY_take post (cn, pl, ck, ypf, yat, st, ix, ds, yen, tl, yju, sto, srt, bas, yle, dcm, tim, sig, ysg, op, opX, opY, opZ, out, ych, yot, ylo, pE, pL, yba, yfr, yva) (nI i) 1 := by
  have hp := aq_in H.2.1.2.2.2.1 A
  have hg : g ≤ 1 ∧ g ≤ w := by have := H.2; omega
  unfold wpY_take
  refine ya_el H A (ya_spot H A.1 (ya_sgn H ?_))
  rw [← A.2.2.1]
  have K : wY_take_27 post (nI i) (nI p) cn pl ck ypf yat st ix ds yen tl yju sto srt bas yle dcm tim sig ysg op opX opY opZ out ych yot ylo pE pL yba yfr yva := by
    unfold wY_take_27
    exact yk_28 (s := 0) H (by omega) hp hP
  rcases (by omega : g = 0 ∨ g = 1) with rfl | rfl
  · exact br_t rfl K
  · exact br_f (by decide) (br_f (by decide) K)
/-! the reference writes characters -/
theorem ym_99 {post : SY → Prop} {i b w d e g t l h p N : Nat} {G : Nat → Int32} (H : q_It srt bas len dig dcm sgn tim sig yle ysg i 2 b w d e g t l h) (hN : N < 1000) (hp : p + w ≤ 96) (hG : ∀ k, k < w → G (p + k) = if k < N then ych k else 10) (hP : post (cn, pl, ck, ypf, yat, st, ix, ds, yen, tl, yju, bk sto p (p + w) G, srt, bas, yle, dcm, tim, sig, ysg, op, opX, opY, opZ, out, ych, yot, ylo, pE, pL, yba, yfr, yva)) : ∀ r m n : Nat, m + r = w → r < n → wY_move_99 post (nI i) (nI N) (nI p) cn pl ck ypf yat st ix ds yen tl yju n (nI m) (bk sto p (p + m) G) srt bas yle dcm tim sig ysg op opX opY opZ out ych yot ylo pE pL yba yfr yva := by
  obtain ⟨⟨-, -, -, -, -, -, -, hl, -⟩, ⟨hi, -, -, -, hw1, hw12, -⟩, hkk⟩ := H
  have hin : vp_in (nI i) 12 := vp_in_nI hi (by omega)
  have hc : (nI i).toNatClampNeg = i := nI_clamp (by omega)
  obtain rfl : l = w := by omega
  intro r
  induction r with
  | zero =>
    intro m n hm hn
    obtain ⟨n, rfl⟩ : ∃ q, n = q + 1 := ⟨n - 1, by omega⟩
    obtain rfl : m = l := by omega
    refine ⟨hin, ?_⟩
    rw [hc, hl]
    exact br_t (nI_le (by omega) (by omega)) hP
  | succ r ih =>
    intro m n hm hn
    obtain ⟨n, rfl⟩ : ∃ q, n = q + 1 := ⟨n - 1, by omega⟩
    have K := ih (m + 1) n (by omega) (by omega)
    have g0 := hG m (by omega)
    have hin2 : vp_in (nI (p + m)) 96 := vp_in_nI (by omega) (by omega)
    refine ⟨hin, ?_⟩
    rw [hc, hl]
    refine br_f (nI_ge (by omega) (by omega)) ?_
    rw [nI_add, nI_clamp (n := p + m) (by omega), nI_clamp (n := m) (by omega)]
    refine pk_le N m (fun h => ⟨hin2, nm_r (bk_s (by omega) ?_) (nm_r (nI_1 _) K)⟩) (fun h => ⟨vp_in_nI (by omega) (by omega), hin2, nm_r (bk_s (by omega) ?_) (nm_r (nI_1 _) K)⟩)
    · rw [g0, if_neg (by omega)]
    · rw [g0, if_pos (by omega)]
theorem ym_82 {post : SY → Prop} {i b w d e g t l h el p N : Nat} {G : Nat → Int32} (H : q_It srt bas len dig dcm sgn tim sig yle ysg i 2 b w d e g t l h) (A : q_At b w t ix el p) (hN : N < 1000) (hG : ∀ k, k < w → G (p + k) = if k < N then ych k else 10) (hP : post (cn, pl, ck, ypf, yat, st, ix, ds, yen, tl, yju, bk sto p (p + w) G, srt, bas, yle, dcm, tim, sig, ysg, op, opX, opY, opZ, out, ych, yot, ylo, pE, pL, yba, yfr, yva)) : wY_move_82 post (nI i) (nI N) cn pl ck ypf yat st ix ds yen tl yju sto srt bas yle dcm tim sig ysg op opX opY opZ out ych yot ylo pE pL yba yfr yva := by
  have hp := aq_in H.2.1.2.2.2.1 A
  unfold wY_move_82
  refine ya_el H A (ya_spot H A.1 ⟨w + 1, ?_⟩)
  rw [← A.2.2.1]
  have K := ym_99 H hN hp hG hP w 0 (w + 1) (by omega) (by omega)
  rw [Nat.add_zero p, bk_0] at K
  exact K
/-! the component copies -/
theorem xc_95 {post : SX → Prop} {q w M : Nat} {G : Nat → Int32} (hq : q + w ≤ 96) (hG : ∀ k, M ≤ k → k < w → G (q + k) = 10) (hP : post (cn, xpa, xop, pl, ck, pf, pc, st, ix, xst, tl, ds, bk sto q (q + w) G, srt, bas, len, dig, dcm, sgn, tim, sig, op, opX, opY, opZ, tgt, sta, ins, opn, pE, pL, pI, pB, out, pw, wk)) : ∀ r m n : Nat, m + r = w → M ≤ m → r < n → wX_copy_95 post (nI q) (nI w) cn xpa xop pl ck pf pc st ix xst tl ds n (nI m) (bk sto q (q + m) G) srt bas len dig dcm sgn tim sig op opX opY opZ tgt sta ins opn pE pL pI pB out pw wk := by
  intro r
  induction r with
  | zero =>
    intro m n hm hM hn
    obtain ⟨n, rfl⟩ : ∃ q, n = q + 1 := ⟨n - 1, by omega⟩
    obtain rfl : m = w := by omega
    exact br_t (nI_le (by omega) (by omega)) hP
  | succ r ih =>
    intro m n hm hM hn
    obtain ⟨n, rfl⟩ : ∃ q, n = q + 1 := ⟨n - 1, by omega⟩
    refine br_f (nI_ge (by omega) (by omega)) ?_
    rw [nI_add, nI_clamp (n := q + m) (by omega)]
    refine ⟨vp_in_nI (by omega) (by omega), nm_r (bk_s (by omega) ?_) (nm_r (nI_1 _) (ih (m + 1) n (by omega) (by omega) (by omega)))⟩
    rw [hG m hM (by omega)]
    exact nb_v (c := 10) (by omega)
theorem xc_22 {post : SX → Prop} {f q w M : Nat} {G : Nat → Int32} (hs : StOK sto) (hq : q + M ≤ 96) (hf : f + M ≤ 96) (hqf : q ≤ f) (hG : ∀ k, k < M → G (q + k) = sto (f + k)) (hK : ∃ n95 : Nat, wX_copy_95 post (nI q) (nI w) cn xpa xop pl ck pf pc st ix xst tl ds n95 (nI M) (bk sto q (q + M) G) srt bas len dig dcm sgn tim sig op opX opY opZ tgt sta ins opn pE pL pI pB out pw wk) : ∀ r m n : Nat, m + r = M → r < n → wX_copy_22 post (nI f) (nI q) (nI w) (nI M) cn xpa xop pl ck pf pc st ix xst tl ds n (nI m) (bk sto q (q + m) G) srt bas len dig dcm sgn tim sig op opX opY opZ tgt sta ins opn pE pL pI pB out pw wk := by
  intro r
  induction r with
  | zero =>
    intro m n hm hn
    obtain ⟨n, rfl⟩ : ∃ q, n = q + 1 := ⟨n - 1, by omega⟩
    obtain rfl : m = M := by omega
    exact br_t (nI_le (by omega) (by omega)) hK
  | succ r ih =>
    intro m n hm hn
    obtain ⟨n, rfl⟩ : ∃ q, n = q + 1 := ⟨n - 1, by omega⟩
    refine br_f (nI_ge (by omega) (by omega)) ?_
    rw [nI_add, nI_add, nI_clamp (n := q + m) (by omega), nI_clamp (n := f + m) (by omega), bk_out (j := f + m) (by omega), so_v hs]
    refine ⟨vp_in_nI (by omega) (by omega), vp_in_nI (by omega) (by omega), nm_r (bk_s (by omega) (hG m (by omega)).symm) (nm_r (nI_1 _) (ih (m + 1) n (by omega) (by omega)))⟩
theorem xc_62 {post : SX → Prop} {f q w M : Nat} {G : Nat → Int32} (hs : StOK sto) (hq : q + M ≤ 96) (hf : f + M ≤ 96) (hqf : f < q) (hG : ∀ k, k < M → G (q + k) = sto (f + k)) (hK : ∃ n95 : Nat, wX_copy_95 post (nI q) (nI w) cn xpa xop pl ck pf pc st ix xst tl ds n95 (nI M) (bk sto q (q + M) G) srt bas len dig dcm sgn tim sig op opX opY opZ tgt sta ins opn pE pL pI pB out pw wk) : ∀ r n : Nat, r ≤ M → r < n → wX_copy_62 post (nI f) (nI q) (nI w) (nI M) cn xpa xop pl ck pf pc st ix xst tl ds n (nI r - 1) (bk sto (q + r) (q + M) G) srt bas len dig dcm sgn tim sig op opX opY opZ tgt sta ins opn pE pL pI pB out pw wk := by
  intro r
  induction r with
  | zero =>
    intro n hm hn
    obtain ⟨n, rfl⟩ : ∃ q, n = q + 1 := ⟨n - 1, by omega⟩
    exact br_t (by decide) hK
  | succ r ih =>
    intro n hm hn
    obtain ⟨n, rfl⟩ : ∃ q, n = q + 1 := ⟨n - 1, by omega⟩
    rw [nI_pred]
    refine br_f (nI_pos (by omega)) ?_
    rw [nI_add, nI_add, nI_clamp (n := q + r) (by omega), nI_clamp (n := f + r) (by omega), bk_out (j := f + r) (by omega), so_v hs]
    refine ⟨vp_in_nI (by omega) (by omega), vp_in_nI (by omega) (by omega), nm_r (bk_p (lo := q + r) (by omega) (hG r (by omega)).symm) (nm_r (nb_m _) (ih n (by omega) (by omega)))⟩
theorem xc_copy {post : SX → Prop} {f q w N : Nat} {G : Nat → Int32} (hs : StOK sto) (hq : q + w ≤ 96) (hf : f + N ≤ 96) (hN : 0 < N) (hw : 0 < w) (hG : ∀ k, k < w → G (q + k) = if k < N then sto (f + k) else 10) (hP : post (cn, xpa, xop, pl, ck, pf, pc, st, ix, xst, tl, ds, bk sto q (q + w) G, srt, bas, len, dig, dcm, sgn, tim, sig, op, opX, opY, opZ, tgt, sta, ins, opn, pE, pL, pI, pB, out, pw, wk)) : wpX_copy post (cn, xpa, xop, pl, ck, pf, pc, st, ix, xst, tl, ds, sto, srt, bas, len, dig, dcm, sgn, tim, sig, op, opX, opY, opZ, tgt, sta, ins, opn, pE, pL, pI, pB, out, pw, wk) (nI f) (nI N) (nI q) (nI w) := by
  have R : ∀ M, 0 < M → M ≤ w → M ≤ N → (M = N ∨ M = w) → wX_copy_12 post (nI f) (nI q) (nI w) (nI M) cn xpa xop pl ck pf pc st ix xst tl ds sto srt bas len dig dcm sgn tim sig op opX opY opZ tgt sta ins opn pE pL pI pB out pw wk := by
    intro M h0 h1 h2 h3
    have hK : ∃ n95 : Nat, wX_copy_95 post (nI q) (nI w) cn xpa xop pl ck pf pc st ix xst tl ds n95 (nI M) (bk sto q (q + M) G) srt bas len dig dcm sgn tim sig op opX opY opZ tgt sta ins opn pE pL pI pB out pw wk := ⟨w + 1, xc_95 (M := M) hq (fun k a c => by rw [hG k c, if_neg (by omega)]) hP (w - M) M (w + 1) (by omega) (by omega) (by omega)⟩
    have hG' : ∀ k, k < M → G (q + k) = sto (f + k) := fun k hk => by rw [hG k (by omega), if_pos (by omega)]
    unfold wX_copy_12
    refine pk_lt f q (fun h => ?_) (fun h => ?_)
    · have K := xc_62 hs (by omega) (by omega) h hG' hK M (M + 1) (by omega) (by omega)
      rw [bk_0] at K
      exact nm_e ⟨_, K⟩
    · have K := xc_22 hs (by omega) (by omega) h hG' hK M 0 (M + 1) (by omega) (by omega)
      rw [Nat.add_zero q, bk_0] at K
      exact ⟨_, K⟩
  unfold wpX_copy
  exact pk_le w N (fun h => R w hw (by omega) h (Or.inr rfl)) (fun h => R N hN (by omega) (by omega) (Or.inl rfl))
/-! spelling -/
theorem sp_n {V : Nat} (hV : V ≤ 2147483648) : ∃ N, 1 ≤ N ∧ N ≤ 10 ∧ V < pTen N ∧ ∀ m, 1 ≤ m → m < N → pTen m ≤ V := by
  obtain ⟨N, ⟨h1, h2⟩, h3⟩ := pk_least (fun k => 1 ≤ k ∧ V < pTen k) ⟨10, by decide, Nat.lt_of_le_of_lt hV (by decide)⟩
  refine ⟨N, h1, ?_, h2, fun m a c => ?_⟩
  · refine Nat.not_lt.mp (fun z => h3 10 z ⟨by decide, Nat.lt_of_le_of_lt hV (by decide)⟩)
  · exact Nat.not_lt.mp (fun z => h3 m c ⟨a, z⟩)
def q_G (q V N : Nat) : Nat → Int32 := fun j => if j - q < N then nI (V / pTen (N - 1 - (j - q)) % 10) else 10
theorem xl_46 {post : SX → Prop} {q w V N : Nat} (hw : PwOK pw) (hV : V ≤ 2147483648) (hN : N ≤ 10) (hq : q + w ≤ 96) (hP : post (cn, xpa, xop, pl, ck, pf, pc, st, ix, xst, tl, ds, bk sto q (q + w) (q_G q V N), srt, bas, len, dig, dcm, sgn, tim, sig, op, opX, opY, opZ, tgt, sta, ins, opn, pE, pL, pI, pB, out, pw, wk)) : ∀ r m n : Nat, m + r = w → r < n → wX_spell_46 post (nI q) (nI w) (lN V) (nI N) cn xpa xop pl ck pf pc st ix xst tl ds n (nI m) (bk sto q (q + m) (q_G q V N)) srt bas len dig dcm sgn tim sig op opX opY opZ tgt sta ins opn pE pL pI pB out pw wk := by
  intro r
  induction r with
  | zero =>
    intro m n hm hn
    obtain ⟨n, rfl⟩ : ∃ q, n = q + 1 := ⟨n - 1, by omega⟩
    obtain rfl : m = w := by omega
    exact br_t (nI_le (by omega) (by omega)) hP
  | succ r ih =>
    intro m n hm hn
    obtain ⟨n, rfl⟩ : ∃ q, n = q + 1 := ⟨n - 1, by omega⟩
    have K := ih (m + 1) n (by omega) (by omega)
    have g0 : q_G q V N (q + m) = if m < N then nI (V / pTen (N - 1 - m) % 10) else 10 := by
      unfold q_G; rw [Nat.add_sub_cancel_left]
    refine br_f (nI_ge (by omega) (by omega)) (pk_le N m (fun h => ?_) (fun h => ?_))
    · unfold wX_spell_75
      refine br_t rfl ?_
      rw [nI_add, nI_clamp (n := q + m) (by omega)]
      refine ⟨vp_in_nI (by omega) (by omega), nm_r (bk_s (by omega) ?_) (nm_r (nI_1 _) K)⟩
      rw [g0, if_neg (by omega)]
      decide
    · rw [show nI N - 1 = nI (N - 1) from pk_sub (b := 1) (by omega), pk_sub (by omega), nI_clamp (n := N - 1 - m) (by omega), hw _ (by omega), zl_n]
      refine ⟨vp_in_nI (by omega) (by omega), ?_⟩
      have p1 := pt_pos (N - 1 - m)
      have p2 := pt_18 (a := N - 1 - m) (by omega)
      have hn : ¬ lN (pTen (N - 1 - m)) = 0 := by
        rw [show (0 : Int64) = lN 0 from rfl, pk_lEQ (by omega) (by omega)]; omega
      unfold wX_spell_75
      refine br_f hn ⟨hn, zl_10n, ?_⟩
      rw [nI_add, nI_clamp (n := q + m) (by omega), pk_lDiv (by omega) p1 (by omega), nb_rem (Nat.lt_of_le_of_lt (Nat.div_le_self _ _) (by omega)), nb_w (by omega)]
      refine ⟨vp_in_nI (by omega) (by omega), nm_r (bk_s (by omega) ?_) (nm_r (nI_1 _) K)⟩
      rw [g0, if_pos h]
theorem xl_17 {post : SX → Prop} {q w V N : Nat} (hw : PwOK pw) (hV : V ≤ 2147483648) (hN : N ≤ 10) (hVN : V < pTen N) (hm : ∀ m, 1 ≤ m → m < N → pTen m ≤ V) (hK : ∃ n46 : Nat, wX_spell_46 post (nI q) (nI w) (lN V) (nI N) cn xpa xop pl ck pf pc st ix xst tl ds n46 0 sto srt bas len dig dcm sgn tim sig op opX opY opZ tgt sta ins opn pE pL pI pB out pw wk) : ∀ r m n : Nat, m + r = N → 1 ≤ m → r < n → wX_spell_17 post (nI q) (nI w) (lN V) cn xpa xop pl ck pf pc st ix xst tl ds sto srt bas len dig dcm sgn tim sig op opX opY opZ tgt sta ins opn pE pL pI pB out pw wk n (nI m) := by
  intro r
  induction r with
  | zero =>
    intro m n hm' h1 hn
    obtain ⟨n, rfl⟩ : ∃ q, n = q + 1 := ⟨n - 1, by omega⟩
    obtain rfl : m = N := by omega
    have p2 := pt_18 (a := m) (by omega)
    refine br_f (nI_ge (b := 11) (by omega) (by omega)) ⟨vp_in_nI (by omega) (by omega), ?_⟩
    rw [nI_clamp (n := m) (by omega), hw _ (by omega), zl_n]
    exact br_t ((pk_lLT (by omega) (by omega)).mpr hVN) hK
  | succ r ih =>
    intro m n hm' h1 hn
    obtain ⟨n, rfl⟩ : ∃ q, n = q + 1 := ⟨n - 1, by omega⟩
    have p2 := pt_18 (a := m) (by omega)
    have p3 := hm m h1 (by omega)
    refine br_f (nI_ge (b := 11) (by omega) (by omega)) ⟨vp_in_nI (by omega) (by omega), ?_⟩
    rw [nI_clamp (n := m) (by omega), hw _ (by omega), zl_n]
    exact br_f (fun z => by have := (pk_lLT (by omega) (by omega)).mp z; omega) (nm_r (nI_1 _) (ih (m + 1) n (by omega) (by omega) (by omega)))
theorem zl_abs (z : Int32) : z.toInt.natAbs ≤ 2147483648 := by
  have := z.le_toInt
  have := z.toInt_lt
  omega
theorem xl_spell {post : SX → Prop} {q w N : Nat} {z : Int32} (hw : PwOK pw) (hN1 : 1 ≤ N) (hN : N ≤ 10) (hVN : z.toInt.natAbs < pTen N) (hm : ∀ m, 1 ≤ m → m < N → pTen m ≤ z.toInt.natAbs) (hq : q + w ≤ 96) (hP : post (cn, xpa, xop, pl, ck, pf, pc, st, ix, xst, tl, ds, bk sto q (q + w) (q_G q z.toInt.natAbs N), srt, bas, len, dig, dcm, sgn, tim, sig, op, opX, opY, opZ, tgt, sta, ins, opn, pE, pL, pI, pB, out, pw, wk)) : wpX_spell post (cn, xpa, xop, pl, ck, pf, pc, st, ix, xst, tl, ds, sto, srt, bas, len, dig, dcm, sgn, tim, sig, op, opX, opY, opZ, tgt, sta, ins, opn, pE, pL, pI, pB, out, pw, wk) z (nI q) (nI w) := by
  have hV := zl_abs z
  have K := xl_46 hw hV hN hq hP w 0 (w + 1) (by omega) (by omega)
  rw [Nat.add_zero q, bk_0] at K
  have K2 := xl_17 hw hV hN hVN hm ⟨_, K⟩ (N - 1) 1 (N + 1) (by omega) (by omega) (by omega)
  unfold wpX_spell
  refine br_c (fun h => ?_) (fun h => ?_)
  · have h' : (0 : Int32).toInt ≤ z.toInt := Int32.le_iff_toInt_le.mp h
    rw [show (0 : Int32).toInt = 0 from by decide] at h'
    have e1 : z.toInt64 = lN z.toInt.natAbs := by rw [zl_i, ← zl_n]; exact congrArg zL (by omega)
    rw [e1]
    exact ⟨_, K2⟩
  · have h' : ¬ (0 : Int32).toInt ≤ z.toInt := fun y => h (Int32.le_iff_toInt_le.mpr y)
    rw [show (0 : Int32).toInt = 0 from by decide] at h'
    have e1 : -z.toInt64 = lN z.toInt.natAbs := by rw [zl_i, zl_neg, ← zl_n]; exact congrArg zL (by omega)
    exact nm_r e1 ⟨_, K2⟩
theorem yl_37 {post : Int32 → SY → Prop} {V N : Nat} (hV : V ≤ 2147483648) (hN : N ≤ 10) (hP : post (nI N) (cn, pl, ck, ypf, yat, st, ix, ds, yen, tl, yju, sto, srt, bas, yle, dcm, tim, sig, ysg, op, opX, opY, opZ, out, bk ych 0 N (fun k => nI (V / pTen (N - 1 - k) % 10)), yot, ylo, pE, pL, yba, yfr, yva)) : ∀ r m n : Nat, m + r = N → r < n → wY_spell_37 post (lN V) (nI N) cn pl ck ypf yat st ix ds yen tl yju n (nI m) sto srt bas yle dcm tim sig ysg op opX opY opZ out (bk ych 0 m (fun k => nI (V / pTen (N - 1 - k) % 10))) yot ylo pE pL yba yfr yva := by
  intro r
  induction r with
  | zero =>
    intro m n hm hn
    obtain ⟨n, rfl⟩ : ∃ q, n = q + 1 := ⟨n - 1, by omega⟩
    obtain rfl : m = N := by omega
    exact br_t (nI_le (by omega) (by omega)) hP
  | succ r ih =>
    intro m n hm hn
    obtain ⟨n, rfl⟩ : ∃ q, n = q + 1 := ⟨n - 1, by omega⟩
    have p1 := pt_pos (N - 1 - m)
    have p2 := pt_18 (a := N - 1 - m) (by omega)
    have hn : ¬ lN (pTen (N - 1 - m)) = 0 := by
      rw [show (0 : Int64) = lN 0 from rfl, pk_lEQ (by omega) (by omega)]; omega
    refine br_f (nI_ge (by omega) (by omega)) ?_
    rw [show nI N - 1 = nI (N - 1) from pk_sub (b := 1) (by omega), pk_sub (by omega)]
    refine yt_ten (by omega) ?_
    rw [zl_n, pk_lDiv (by omega) p1 (by omega), nb_rem (Nat.lt_of_le_of_lt (Nat.div_le_self _ _) (by omega)), nI_clamp (n := m) (by omega)]
    exact ⟨hn, zl_10n, vp_in_nI (by omega) (by omega), nm_r (bk_s (by omega) rfl) (nm_r (nI_1 _) (ih (m + 1) n (by omega) (by omega)))⟩
theorem yl_16 {post : Int32 → SY → Prop} {V N : Nat} (hV : V ≤ 2147483648) (hN : N ≤ 10) (hVN : V < pTen N) (hm : ∀ m, 1 ≤ m → m < N → pTen m ≤ V) (hK : ∃ n37 : Nat, wY_spell_37 post (lN V) (nI N) cn pl ck ypf yat st ix ds yen tl yju n37 0 sto srt bas yle dcm tim sig ysg op opX opY opZ out ych yot ylo pE pL yba yfr yva) : ∀ r m n : Nat, m + r = N → 1 ≤ m → r < n → wY_spell_16 post (lN V) cn pl ck ypf yat st ix ds yen tl yju sto srt bas yle dcm tim sig ysg op opX opY opZ out ych yot ylo pE pL yba yfr yva n (nI m) := by
  have Z : ∀ m, m ≤ 10 → ¬ lN (pTen m) = 0 := fun m h => by
    have p1 := pt_pos m
    have p2 := pt_18 (a := m) (by omega)
    rw [show (0 : Int64) = lN 0 from rfl, pk_lEQ (by omega) (by omega)]; omega
  have Q : ∀ m, m ≤ 10 → (lN V / lN (pTen m) ≤ 0 ↔ V < pTen m) := fun m h => by
    have p1 := pt_pos m
    have p2 := pt_18 (a := m) (by omega)
    rw [pk_lDiv (by omega) p1 (by omega), show (0 : Int64) = lN 0 from rfl, pk_lLE (Nat.lt_of_le_of_lt (Nat.div_le_self _ _) (by omega)) (by omega), Nat.le_zero_eq, Nat.div_eq_zero_iff_lt p1]
  intro r
  induction r with
  | zero =>
    intro m n hm' h1 hn
    obtain ⟨n, rfl⟩ : ∃ q, n = q + 1 := ⟨n - 1, by omega⟩
    obtain rfl : m = N := by omega
    refine yt_ten (by omega) ?_
    rw [zl_n]
    exact ⟨Z m hN, br_t ((Q m hN).mpr hVN) hK⟩
  | succ r ih =>
    intro m n hm' h1 hn
    obtain ⟨n, rfl⟩ : ∃ q, n = q + 1 := ⟨n - 1, by omega⟩
    have p3 := hm m h1 (by omega)
    refine yt_ten (by omega) ?_
    rw [zl_n]
    exact ⟨Z m (by omega), br_f (fun z => by have := (Q m (by omega)).mp z; omega) (nm_r (nI_1 _) (ih (m + 1) n (by omega) (by omega) (by omega)))⟩
theorem yl_spell {post : Int32 → SY → Prop} {N : Nat} {z : Int32} (hN1 : 1 ≤ N) (hN : N ≤ 10) (hVN : z.toInt.natAbs < pTen N) (hm : ∀ m, 1 ≤ m → m < N → pTen m ≤ z.toInt.natAbs) (hP : post (nI N) (cn, pl, ck, ypf, yat, st, ix, ds, yen, tl, yju, sto, srt, bas, yle, dcm, tim, sig, ysg, op, opX, opY, opZ, out, bk ych 0 N (fun k => nI (z.toInt.natAbs / pTen (N - 1 - k) % 10)), yot, ylo, pE, pL, yba, yfr, yva)) : wpY_spell post (cn, pl, ck, ypf, yat, st, ix, ds, yen, tl, yju, sto, srt, bas, yle, dcm, tim, sig, ysg, op, opX, opY, opZ, out, ych, yot, ylo, pE, pL, yba, yfr, yva) z := by
  have hV := zl_abs z
  have K := yl_37 hV hN hP N 0 (N + 1) (by omega) (by omega)
  rw [bk_0] at K
  have K2 := yl_16 hV hN hVN hm ⟨_, K⟩ (N - 1) 1 (N + 1) (by omega) (by omega) (by omega)
  unfold wpY_spell
  refine br_c (fun h => ?_) (fun h => ?_)
  · have h' : (0 : Int32).toInt ≤ z.toInt := Int32.le_iff_toInt_le.mp h
    rw [show (0 : Int32).toInt = 0 from by decide] at h'
    have e1 : z.toInt64 = lN z.toInt.natAbs := by rw [zl_i, ← zl_n]; exact congrArg zL (by omega)
    rw [e1]
    exact ⟨_, K2⟩
  · have h' : ¬ (0 : Int32).toInt ≤ z.toInt := fun y => h (Int32.le_iff_toInt_le.mpr y)
    rw [show (0 : Int32).toInt = 0 from by decide] at h'
    have e1 : -z.toInt64 = lN z.toInt.natAbs := by rw [zl_i, zl_neg, ← zl_n]; exact congrArg zL (by omega)
    exact nm_r e1 ⟨_, K2⟩
end
end
section
/-- an operand that is an item, of a sort in K, usable at this index -/
def q_Use (srt bas len dig dcm sgn tim sig yle ysg : Nat → Int32) (ix x : Int32) (K : Nat → Prop) : Prop := ∃ i k b w d e g t l h el p : Nat, x = nI i ∧ q_It srt bas len dig dcm sgn tim sig yle ysg i k b w d e g t l h ∧ q_At b w t ix el p ∧ K k
theorem us_16 {i : Nat} (h : i < 12) : ¬ nI i = 16 := fun z => by have := (nI_eq (b := 16) (by omega) (by omega)).mp z; omega
theorem it_vb {srt bas len dig dcm sgn tim sig yle ysg : Nat → Int32} {s : Nat → Int32} {i k b w d e g t l h p : Nat} (H : q_It srt bas len dig dcm sgn tim sig yle ysg i k b w d e g t l h) : (q_val s k g w p).natAbs < 1000000000 := val_b (fun k1 => by have := H.2; omega)
section
variable {cn : Int32} {xpa : Int32} {xop : Int32} {pl : Int32} {ck : Int32} {pf : Int32} {pc : Int32} {st : Int32} {ix : Int32} {xst : Int32} {tl : Int32} {ds : Int32} {sto : Nat → Int32} {srt : Nat → Int32} {bas : Nat → Int32} {len : Nat → Int32} {dig : Nat → Int32} {dcm : Nat → Int32} {sgn : Nat → Int32} {tim : Nat → Int32} {sig : Nat → Int32} {op : Nat → Int32} {opX : Nat → Int32} {opY : Nat → Int32} {opZ : Nat → Int32} {tgt : Nat → Int32} {sta : Nat → Int32} {ins : Nat → Int32} {opn : Nat → Int32} {pE : Nat → Int32} {pL : Nat → Int32} {pI : Nat → Int32} {pB : Nat → Int32} {out : Nat → Int32} {pw : Nat → Int64} {wk : Nat → Int32} {ypf : Int32} {yat : Int32} {yen : Int32} {yju : Int32} {yle : Nat → Int32} {ysg : Nat → Int32} {ych : Nat → Int32} {yot : Nat → Int32} {ylo : Nat → Int32} {yba : Nat → Int32} {yfr : Nat → Int32} {yva : Nat → Int32}
theorem mv_sim {x y z : Int32} (hx : x = 16 ∨ q_Use srt bas len dig dcm sgn tim sig yle ysg ix x (fun _ => True)) (hy : q_Use srt bas len dig dcm sgn tim sig yle ysg ix y (fun _ => True)) (hs : StOK sto) (hw : PwOK pw) :
    ∃ s' wk' ych' yot', StOK s' ∧ (∀ post : SX → Prop, post (cn, xpa, xop, pl, ck, pf, pc, st, ix, xst, tl, ds, s', srt, bas, len, dig, dcm, sgn, tim, sig, op, opX, opY, opZ, tgt, sta, ins, opn, pE, pL, pI, pB, out, pw, wk') → wpX_move post (cn, xpa, xop, pl, ck, pf, pc, st, ix, xst, tl, ds, sto, srt, bas, len, dig, dcm, sgn, tim, sig, op, opX, opY, opZ, tgt, sta, ins, opn, pE, pL, pI, pB, out, pw, wk) x y z) ∧ (∀ post : SY → Prop, post (cn, pl, ck, ypf, yat, st, ix, ds, yen, tl, yju, s', srt, bas, yle, dcm, tim, sig, ysg, op, opX, opY, opZ, out, ych', yot', ylo, pE, pL, yba, yfr, yva) → wpY_move post (cn, pl, ck, ypf, yat, st, ix, ds, yen, tl, yju, sto, srt, bas, yle, dcm, tim, sig, ysg, op, opX, opY, opZ, out, ych, yot, ylo, pE, pL, yba, yfr, yva) x y z) := by
  obtain ⟨i, k, b, w, d, e, g, t, l, h, el, p, rfl, H, A, -⟩ := hy
  have hp := aq_in H.2.1.2.2.2.1 A
  have hi : i < 12 := H.2.1.1
  have hw1 : 1 ≤ w := H.2.1.2.2.2.2.1
  have hk := H.1.1
  have hl := H.1.2.2.1
  have he := H.1.2.2.2.2.1
  have hin : vp_in (nI i) 12 := vp_in_nI hi (by omega)
  have hc : (nI i).toNatClampNeg = i := nI_clamp (by omega)
  have he9 : e ≤ 9 := by have := H.2.1; omega
  by_cases k2 : k = 2
  · subst k2
    rcases hx with rfl | ⟨i', k', b', w', d', e', g', t', l', h', el', p', rfl, H', A', -⟩
    · obtain ⟨N, n1, n10, nV, nm⟩ := sp_n (zl_abs z)
      have hG : ∀ k, k < w → q_G p z.toInt.natAbs N (p + k) = if k < N then bk ych 0 N (fun k => nI (z.toInt.natAbs / pTen (N - 1 - k) % 10)) k else 10 := by
        intro k hk
        unfold q_G
        rw [Nat.add_sub_cancel_left]
        by_cases c : k < N
        · rw [if_pos c, if_pos c, bk_in (Nat.zero_le k) c]
        · rw [if_neg c, if_neg c]
      refine ⟨bk sto p (p + w) (q_G p z.toInt.natAbs N), wk, bk ych 0 N (fun k => nI (z.toInt.natAbs / pTen (N - 1 - k) % 10)), yot, ?_, fun post hP => ?_, fun post hP => ?_⟩
      · refine so_b hs (fun j _ _ => ?_)
        unfold q_G
        by_cases c : j - p < N
        · rw [if_pos c]; exact ⟨_, by omega, rfl⟩
        · rw [if_neg c]; exact ⟨10, by omega, rfl⟩
      · unfold wpX_move
        refine ⟨hin, ?_⟩
        rw [hc, hk, hl]
        exact br_t rfl (xa_at H A (br_t rfl ⟨hin, xl_spell hw n1 n10 nV nm hp hP⟩))
      · unfold wpY_move
        refine ⟨hin, ?_⟩
        rw [hc, hk]
        exact br_t rfl (br_t rfl (yl_spell n1 n10 nV nm (ym_82 H A (by omega) hG hP)))
    · have hp' := aq_in H'.2.1.2.2.2.1 A'
      have hi' : i' < 12 := H'.2.1.1
      have hin' : vp_in (nI i') 12 := vp_in_nI hi' (by omega)
      have hc' : (nI i').toNatClampNeg = i' := nI_clamp (by omega)
      have hl' := H'.1.2.2.1
      have hg' := H'.1.2.2.2.2.2.1
      have gw : g' ≤ 1 ∧ g' < w' ∧ w' ≤ 12 := by have := H'.2; omega
      have hGx : ∀ k, k < w → (fun j => if j - p < w' - g' then sto (p' + g' + (j - p)) else 10) (p + k) = if k < w' - g' then sto (p' + g' + k) else 10 := by
        intro k hk
        show (if p + k - p < w' - g' then sto (p' + g' + (p + k - p)) else 10) = _
        rw [Nat.add_sub_cancel_left]
      have hGy : ∀ k, k < w → (fun j => if j - p < w' - g' then sto (p' + g' + (j - p)) else 10) (p + k) = if k < w' - g' then bk ych 0 (w' - g') (fun k => sto (p' + g' + k)) k else 10 := by
        intro k hk
        rw [hGx k hk]
        by_cases c : k < w' - g'
        · rw [if_pos c, if_pos c, bk_in (Nat.zero_le k) c]
        · rw [if_neg c, if_neg c]
      refine ⟨bk sto p (p + w) (fun j => if j - p < w' - g' then sto (p' + g' + (j - p)) else 10), wk, bk ych 0 (w' - g') (fun k => sto (p' + g' + k)), yot, ?_, fun post hP => ?_, fun post hP => ?_⟩
      · refine so_b hs (fun j _ _ => ?_)
        show ∃ c, c ≤ 41 ∧ (if j - p < w' - g' then sto (p' + g' + (j - p)) else 10) = nI c
        by_cases c : j - p < w' - g'
        · rw [if_pos c]; exact hs _
        · rw [if_neg c]; exact ⟨10, by omega, rfl⟩
      · have C : ∀ s : Nat, s = g' → wX_move_103 post (nI i') (nI i) (nI p) (nI s) (nI p') cn xpa xop pl ck pf pc st ix xst tl ds sto srt bas len dig dcm sgn tim sig op opX opY opZ tgt sta ins opn pE pL pI pB out pw wk := by
          intro s es
          subst es
          have C2 : wX_move_126 post (nI i) (nI p) (nI (p' + s)) (nI s) (nI w') cn xpa xop pl ck pf pc st ix xst tl ds sto srt bas len dig dcm sgn tim sig op opX opY opZ tgt sta ins opn pE pL pI pB out pw wk := by
            unfold wX_move_126
            refine nm_r (pk_sub (by omega)) ⟨hin, ?_⟩
            rw [hc, hl]
            exact xc_copy hs hp (by omega) (by omega) (by omega) hGx hP
          unfold wX_move_103
          refine nm_r (nI_add _ _) ⟨hin', hin', ?_⟩
          rw [hc', hg', hl']
          rcases (by omega : s = 0 ∨ s = 1) with rfl | rfl
          · exact br_t rfl C2
          · exact br_f (by decide) C2
        unfold wpX_move
        refine ⟨hin, ?_⟩
        rw [hc, hk]
        refine br_t rfl (xa_at H A (br_f (us_16 hi') (xa_at H' A' ⟨hin', ?_⟩)))
        rw [hc', hg']
        rcases (by omega : g' = 0 ∨ g' = 1) with q | q
        · exact br_t (by rw [q]; rfl) (C 0 q.symm)
        · exact br_f (by rw [q]; decide) (C 1 q.symm)
      · unfold wpY_move
        refine ⟨hin, ?_⟩
        rw [hc, hk]
        exact br_t rfl (br_f (us_16 hi') (ya_take0 H' A' (ym_82 H A (by omega) hGy hP)))
  · have hk2 : ¬ nI k = 2 := fun z => k2 ((nI_eq (b := 2) (by have := H.2.2; omega) (by omega)).mp z)
    rcases hx with rfl | ⟨i', k', b', w', d', e', g', t', l', h', el', p', rfl, H', A', -⟩
    · obtain ⟨s', wk', yot', a1, a2, a3⟩ := sr_sim (a := 0) (v := z.toInt) (cn := cn) (xpa := xpa) (xop := xop) (pl := pl) (ck := ck) (pf := pf) (pc := pc) (st := st) (ix := ix) (xst := xst) (tl := tl) (ds := ds) (sto := sto) (srt := srt) (bas := bas) (len := len) (dig := dig) (dcm := dcm) (sgn := sgn) (tim := tim) (sig := sig) (op := op) (opX := opX) (opY := opY) (opZ := opZ) (tgt := tgt) (sta := sta) (ins := ins) (opn := opn) (pE := pE) (pL := pL) (pI := pI) (pB := pB) (out := out) (pw := pw) (wk := wk) (ypf := ypf) (yat := yat) (yen := yen) (yju := yju) (yle := yle) (ysg := ysg) (ych := ych) (yot := yot) (ylo := ylo) (yba := yba) (yfr := yfr) (yva := yva) H k2 A hs hw (zl_abs z) (by omega)
      refine ⟨s', wk', ych, yot', a1, fun post hP => ?_, fun post hP => ?_⟩
      · unfold wpX_move
        refine ⟨hin, ?_⟩
        rw [hc, hk, he]
        refine br_f hk2 (xa_op16 (xa_pt16 ⟨hin, xa_sc hw (by have := zl_abs z; omega) (by omega) (by omega) (a2 _ hP)⟩))
      · unfold wpY_move
        refine ⟨hin, ?_⟩
        rw [hc, hk]
        refine br_f hk2 (br_t rfl ?_)
        unfold wY_move_31
        exact ya_el H A (br_t rfl (a3 _ hP))
    · have hi' : i' < 12 := H'.2.1.1
      have hin' : vp_in (nI i') 12 := vp_in_nI hi' (by omega)
      have hc' : (nI i').toNatClampNeg = i' := nI_clamp (by omega)
      have he' := H'.1.2.2.2.2.1
      have he9' : e' ≤ 9 := by have := H'.2.1; omega
      have hp' := aq_in H'.2.1.2.2.2.1 A'
      have vb := it_vb (s := sto) (p := p') H'
      obtain ⟨s', wk', yot', a1, a2, a3⟩ := sr_sim (a := e') (v := q_val sto k' g' w' p') (cn := cn) (xpa := xpa) (xop := xop) (pl := pl) (ck := ck) (pf := pf) (pc := pc) (st := st) (ix := ix) (xst := xst) (tl := tl) (ds := ds) (sto := sto) (srt := srt) (bas := bas) (len := len) (dig := dig) (dcm := dcm) (sgn := sgn) (tim := tim) (sig := sig) (op := op) (opX := opX) (opY := opY) (opZ := opZ) (tgt := tgt) (sta := sta) (ins := ins) (opn := opn) (pE := pE) (pL := pL) (pI := pI) (pB := pB) (out := out) (pw := pw) (wk := wk) (ypf := ypf) (yat := yat) (yen := yen) (yju := yju) (yle := yle) (ysg := ysg) (ych := ych) (yot := yot) (ylo := ylo) (yba := yba) (yfr := yfr) (yva := yva) H k2 A hs hw (by omega) he9'
      refine ⟨s', wk', ych, yot', a1, fun post hP => ?_, fun post hP => ?_⟩
      · unfold wpX_move
        refine ⟨hin, ?_⟩
        rw [hc, hk, he]
        exact br_f hk2 (xa_opnd H' hs A' (xa_pt H' ⟨hin, xa_sc hw (by omega) (by omega) (by omega) (a2 _ hP)⟩))
      · unfold wpY_move
        refine ⟨hin, ?_⟩
        rw [hc, hk]
        refine br_f hk2 (br_f (us_16 hi') (ya_el H' A' (ya_val H' hs A'.1 (by rw [← A'.2.2.1]; exact hp') ?_)))
        rw [← A'.2.2.1]
        unfold wY_move_31
        refine ya_el H A (br_f (us_16 hi') ⟨hin', ?_⟩)
        rw [hc', he']
        exact a3 _ hP
end
end
section
section
variable {cn : Int32} {xpa : Int32} {xop : Int32} {pl : Int32} {ck : Int32} {pf : Int32} {pc : Int32} {st : Int32} {ix : Int32} {xst : Int32} {tl : Int32} {ds : Int32} {sto : Nat → Int32} {srt : Nat → Int32} {bas : Nat → Int32} {len : Nat → Int32} {dig : Nat → Int32} {dcm : Nat → Int32} {sgn : Nat → Int32} {tim : Nat → Int32} {sig : Nat → Int32} {op : Nat → Int32} {opX : Nat → Int32} {opY : Nat → Int32} {opZ : Nat → Int32} {tgt : Nat → Int32} {sta : Nat → Int32} {ins : Nat → Int32} {opn : Nat → Int32} {pE : Nat → Int32} {pL : Nat → Int32} {pI : Nat → Int32} {pB : Nat → Int32} {out : Nat → Int32} {pw : Nat → Int64} {wk : Nat → Int32} {ypf : Int32} {yat : Int32} {yen : Int32} {yju : Int32} {yle : Nat → Int32} {ysg : Nat → Int32} {ych : Nat → Int32} {yot : Nat → Int32} {ylo : Nat → Int32} {yba : Nat → Int32} {yfr : Nat → Int32} {yva : Nat → Int32}
theorem nu_l {i k b w d e g t l h p : Nat} (H : q_It srt bas len dig dcm sgn tim sig yle ysg i k b w d e g t l h) (hp : p + w ≤ 96) (hch : ∀ k, k < w - g → ych k = sto (p + g + k)) : ∀ r m : Nat, m + r = w - g → ∃ ρ : Nat, ρ ≤ 1 ∧ (∀ (post : Int32 → Prop) n, r < n → post (nI ρ) → wX_numeric_25 post (nI i) (nI p) cn xpa xop pl ck pf pc st ix xst tl ds sto srt bas len dig dcm sgn tim sig op opX opY opZ tgt sta ins opn pE pL pI pB out pw wk n (nI (g + m))) ∧ (∀ (post : Int32 → SY → Prop) n, r < n → post (nI ρ) (cn, pl, ck, ypf, yat, st, ix, ds, yen, tl, yju, sto, srt, bas, yle, dcm, tim, sig, ysg, op, opX, opY, opZ, out, ych, yot, ylo, pE, pL, yba, yfr, yva) → wY_numeric_9 post (nI (w - g)) cn pl ck ypf yat st ix ds yen tl yju sto srt bas yle dcm tim sig ysg op opX opY opZ out ych yot ylo pE pL yba yfr yva n (nI m)) := by
  obtain ⟨⟨-, -, hw, -⟩, ⟨hi, -, -, -, hw1, hw12, -⟩, hkk⟩ := H
  have hin : vp_in (nI i) 12 := vp_in_nI hi (by omega)
  have hc : (nI i).toNatClampNeg = i := nI_clamp (by omega)
  have hg : g ≤ 1 ∧ g ≤ w := by omega
  intro r
  induction r with
  | zero =>
    intro m hm
    refine ⟨1, by omega, fun post n hn hP => ?_, fun post n hn hP => ?_⟩
    · obtain ⟨n, rfl⟩ : ∃ q, n = q + 1 := ⟨n - 1, by omega⟩
      refine ⟨hin, ?_⟩
      rw [hc, hw]
      exact br_t (nI_le (by omega) (by omega)) hP
    · obtain ⟨n, rfl⟩ : ∃ q, n = q + 1 := ⟨n - 1, by omega⟩
      exact br_t (nI_le (by omega) (by omega)) hP
  | succ r ih =>
    intro m hm
    obtain ⟨ρ, h1, hX, hY⟩ := ih (m + 1) (by omega)
    have hc2 := hch m (by omega)
    by_cases c : sto (p + g + m) ≤ 9
    · refine ⟨ρ, h1, fun post n hn hP => ?_, fun post n hn hP => ?_⟩
      · obtain ⟨n, rfl⟩ : ∃ q, n = q + 1 := ⟨n - 1, by omega⟩
        refine ⟨hin, ?_⟩
        rw [hc, hw]
        refine br_f (nI_ge (by omega) (by omega)) ?_
        rw [nI_add, ← Nat.add_assoc, nI_clamp (n := p + g + m) (by omega)]
        exact ⟨vp_in_nI (by omega) (by omega), br_t c (nm_r (nI_1 _) (hX post n (by omega) hP))⟩
      · obtain ⟨n, rfl⟩ : ∃ q, n = q + 1 := ⟨n - 1, by omega⟩
        refine br_f (nI_ge (by omega) (by omega)) ⟨vp_in_nI (by omega) (by omega), ?_⟩
        rw [nI_clamp (n := m) (by omega), hc2]
        exact br_t c (nm_r (nI_1 _) (hY post n (by omega) hP))
    · refine ⟨0, by omega, fun post n hn hP => ?_, fun post n hn hP => ?_⟩
      · obtain ⟨n, rfl⟩ : ∃ q, n = q + 1 := ⟨n - 1, by omega⟩
        refine ⟨hin, ?_⟩
        rw [hc, hw]
        refine br_f (nI_ge (by omega) (by omega)) ?_
        rw [nI_add, ← Nat.add_assoc, nI_clamp (n := p + g + m) (by omega)]
        exact ⟨vp_in_nI (by omega) (by omega), br_f c hP⟩
      · obtain ⟨n, rfl⟩ : ∃ q, n = q + 1 := ⟨n - 1, by omega⟩
        refine br_f (nI_ge (by omega) (by omega)) ⟨vp_in_nI (by omega) (by omega), ?_⟩
        rw [nI_clamp (n := m) (by omega), hc2]
        exact br_f c hP
theorem nu_sim {x : Int32} (hx : q_Use srt bas len dig dcm sgn tim sig yle ysg ix x (fun k => k = 1 ∨ k = 2)) :
    ∃ ρ ych', ρ ≤ 1 ∧ (∀ post : Int32 → Prop, post (nI ρ) → wpX_numeric post (cn, xpa, xop, pl, ck, pf, pc, st, ix, xst, tl, ds, sto, srt, bas, len, dig, dcm, sgn, tim, sig, op, opX, opY, opZ, tgt, sta, ins, opn, pE, pL, pI, pB, out, pw, wk) x) ∧ (∀ post : Int32 → SY → Prop, post (nI ρ) (cn, pl, ck, ypf, yat, st, ix, ds, yen, tl, yju, sto, srt, bas, yle, dcm, tim, sig, ysg, op, opX, opY, opZ, out, ych', yot, ylo, pE, pL, yba, yfr, yva) → wpY_numeric post (cn, pl, ck, ypf, yat, st, ix, ds, yen, tl, yju, sto, srt, bas, yle, dcm, tim, sig, ysg, op, opX, opY, opZ, out, ych, yot, ylo, pE, pL, yba, yfr, yva) x) := by
  obtain ⟨i, k, b, w, d, e, g, t, l, h, el, p, rfl, H, A, -⟩ := hx
  have hp := aq_in H.2.1.2.2.2.1 A
  have hi : i < 12 := H.2.1.1
  have hg := H.1.2.2.2.2.2.1
  have hin : vp_in (nI i) 12 := vp_in_nI hi (by omega)
  have hc : (nI i).toNatClampNeg = i := nI_clamp (by omega)
  have gw : g ≤ 1 ∧ g ≤ w := by have := H.2; omega
  obtain ⟨ρ, h1, hX, hY⟩ := nu_l (cn := cn) (xpa := xpa) (xop := xop) (pl := pl) (ck := ck) (pf := pf) (pc := pc) (st := st) (ix := ix) (xst := xst) (tl := tl) (ds := ds) (sto := sto) (op := op) (opX := opX) (opY := opY) (opZ := opZ) (tgt := tgt) (sta := sta) (ins := ins) (opn := opn) (pE := pE) (pL := pL) (pI := pI) (pB := pB) (out := out) (pw := pw) (wk := wk) (ypf := ypf) (yat := yat) (yen := yen) (yju := yju) (ych := bk ych 0 (w - g) (fun k => sto (p + g + k))) (yot := yot) (ylo := ylo) (yba := yba) (yfr := yfr) (yva := yva) H hp (fun k hk => bk_in (Nat.zero_le k) hk) (w - g) 0 (by omega)
  refine ⟨ρ, bk ych 0 (w - g) (fun k => sto (p + g + k)), h1, fun post hP => ?_, fun post hP => ?_⟩
  · unfold wpX_numeric
    refine xa_at H A ⟨hin, ?_⟩
    rw [hc, hg]
    rcases (by omega : g = 0 ∨ g = 1) with rfl | rfl
    · exact br_t rfl ⟨_, hX post (w + 1) (by omega) hP⟩
    · exact br_f (by decide) ⟨_, hX post (w + 1) (by omega) hP⟩
  · unfold wpY_numeric
    exact ya_take0 H A ⟨_, hY post (w + 1) (by omega) hP⟩
/-! characters against each other -/
def q_yr (c : Nat) : Int32 := if c = 0 then -1 else if c = 1 then 0 else 1
theorem ch_y {M N : Nat} (hM : M ≤ 12) (hN : N ≤ 12) : ∀ r m : Nat, m + r = 12 → M ≤ m → N ≤ m → ∀ (post : Int32 → SY → Prop) n, r < n → post 0 (cn, pl, ck, ypf, yat, st, ix, ds, yen, tl, yju, sto, srt, bas, yle, dcm, tim, sig, ysg, op, opX, opY, opZ, out, ych, yot, ylo, pE, pL, yba, yfr, yva) → wY_compareTexts_47 post (nI M) (nI N) cn pl ck ypf yat st ix ds yen tl yju sto srt bas yle dcm tim sig ysg op opX opY opZ out ych yot ylo pE pL yba yfr yva n (nI m) := by
  intro r
  induction r with
  | zero =>
    intro m hm h1 h2 post n hn hP
    obtain ⟨n, rfl⟩ : ∃ q, n = q + 1 := ⟨n - 1, by omega⟩
    exact br_t (nI_le (a := 12) (by omega) (by omega)) hP
  | succ r ih =>
    intro m hm h1 h2 post n hn hP
    obtain ⟨n, rfl⟩ : ∃ q, n = q + 1 := ⟨n - 1, by omega⟩
    refine br_f (nI_ge (b := 12) (by omega) (by omega)) (br_t (nI_le h1 (by omega)) ?_)
    unfold wY_compareTexts_72
    refine br_t (nI_le h2 (by omega)) ?_
    unfold wY_compareTexts_93
    exact br_t rfl (nm_r (nI_1 _) (ih (m + 1) (by omega) (by omega) (by omega) post n (by omega) hP))
theorem ch_l {a q M N : Nat} (ha : a + M ≤ 96) (hq : q + N ≤ 96) (hM : M ≤ 12) (hN : N ≤ 12) (ho : ∀ k, k < M → yot k = sto (a + k)) (hc : ∀ k, k < N → ych k = sto (q + k)) : ∀ r m : Nat, m + r = 12 → ∃ c : Nat, c ≤ 2 ∧ (∀ (post : Int32 → Prop) n, r < n → post (nI c) → wX_characters_87 post (nI (a + M)) (nI (q + N)) cn xpa xop pl ck pf pc st ix xst tl ds sto srt bas len dig dcm sgn tim sig op opX opY opZ tgt sta ins opn pE pL pI pB out pw wk n (nI (a + m)) (nI (q + m))) ∧ (∀ (post : Int32 → SY → Prop) n, r < n → post (q_yr c) (cn, pl, ck, ypf, yat, st, ix, ds, yen, tl, yju, sto, srt, bas, yle, dcm, tim, sig, ysg, op, opX, opY, opZ, out, ych, yot, ylo, pE, pL, yba, yfr, yva) → wY_compareTexts_47 post (nI M) (nI N) cn pl ck ypf yat st ix ds yen tl yju sto srt bas yle dcm tim sig ysg op opX opY opZ out ych yot ylo pE pL yba yfr yva n (nI m)) := by
  intro r
  induction r with
  | zero =>
    intro m hm
    refine ⟨1, by omega, fun post n hn hP => ?_, fun post n hn hP => ch_y hM hN 0 m hm (by omega) (by omega) post n hn hP⟩
    obtain ⟨n, rfl⟩ : ∃ q, n = q + 1 := ⟨n - 1, by omega⟩
    exact br_f (nI_nlt (by omega) (by omega)) (br_t (nI_le (by omega) (by omega)) hP)
  | succ r ih =>
    intro m hm
    by_cases hend : M ≤ m ∧ N ≤ m
    · refine ⟨1, by omega, fun post n hn hP => ?_, fun post n hn hP => ch_y hM hN (r + 1) m hm hend.1 hend.2 post n hn hP⟩
      obtain ⟨n, rfl⟩ : ∃ q, n = q + 1 := ⟨n - 1, by omega⟩
      exact br_f (nI_nlt (by omega) (by omega)) (br_t (nI_le (by omega) (by omega)) hP)
    · obtain ⟨P, hPd⟩ : ∃ P : Int32, P = if m < M then sto (a + m) else 10 := ⟨_, rfl⟩
      obtain ⟨Q, hQd⟩ : ∃ Q : Int32, Q = if m < N then sto (q + m) else 10 := ⟨_, rfl⟩
      have X1 : ∀ (post : Int32 → Prop) n, wX_characters_138 post (wX_characters_87 post (nI (a + M)) (nI (q + N)) cn xpa xop pl ck pf pc st ix xst tl ds sto srt bas len dig dcm sgn tim sig op opX opY opZ tgt sta ins opn pE pL pI pB out pw wk n) (nI (a + m)) (nI (q + m)) (nI (a + M)) (nI (q + N)) P Q cn xpa xop pl ck pf pc st ix xst tl ds sto srt bas len dig dcm sgn tim sig op opX opY opZ tgt sta ins opn pE pL pI pB out pw wk → wX_characters_87 post (nI (a + M)) (nI (q + N)) cn xpa xop pl ck pf pc st ix xst tl ds sto srt bas len dig dcm sgn tim sig op opX opY opZ tgt sta ins opn pE pL pI pB out pw wk (n + 1) (nI (a + m)) (nI (q + m)) := by
        intro post n K
        have K2 : wX_characters_117 post (wX_characters_87 post (nI (a + M)) (nI (q + N)) cn xpa xop pl ck pf pc st ix xst tl ds sto srt bas len dig dcm sgn tim sig op opX opY opZ tgt sta ins opn pE pL pI pB out pw wk n) (nI (a + m)) (nI (q + m)) (nI (a + M)) (nI (q + N)) P cn xpa xop pl ck pf pc st ix xst tl ds sto srt bas len dig dcm sgn tim sig op opX opY opZ tgt sta ins opn pE pL pI pB out pw wk := by
          unfold wX_characters_117
          refine pk_le (q + N) (q + m) (fun z => ?_) (fun z => ⟨vp_in_nI (by omega) (by omega), ?_⟩)
          · rw [hQd, if_neg (by omega)] at K; exact K
          · rw [nI_clamp (n := q + m) (by omega)]
            rw [hQd, if_pos (by omega)] at K; exact K
        have K3 : wX_characters_100 post (wX_characters_87 post (nI (a + M)) (nI (q + N)) cn xpa xop pl ck pf pc st ix xst tl ds sto srt bas len dig dcm sgn tim sig op opX opY opZ tgt sta ins opn pE pL pI pB out pw wk n) (nI (a + m)) (nI (q + m)) (nI (a + M)) (nI (q + N)) cn xpa xop pl ck pf pc st ix xst tl ds sto srt bas len dig dcm sgn tim sig op opX opY opZ tgt sta ins opn pE pL pI pB out pw wk := by
          unfold wX_characters_100
          refine pk_le (a + M) (a + m) (fun z => ?_) (fun z => ⟨vp_in_nI (by omega) (by omega), ?_⟩)
          · rw [hPd, if_neg (by omega)] at K2; exact K2
          · rw [nI_clamp (n := a + m) (by omega)]
            rw [hPd, if_pos (by omega)] at K2; exact K2
        exact pk_lt (a + m) (a + M) (fun z => K3) (fun z => br_f (nI_ge (by omega) (by omega)) K3)
      have Y1 : ∀ (post : Int32 → SY → Prop) n, wY_compareTexts_93 post (wY_compareTexts_47 post (nI M) (nI N) cn pl ck ypf yat st ix ds yen tl yju sto srt bas yle dcm tim sig ysg op opX opY opZ out ych yot ylo pE pL yba yfr yva n) (nI M) (nI N) (nI m) P Q cn pl ck ypf yat st ix ds yen tl yju sto srt bas yle dcm tim sig ysg op opX opY opZ out ych yot ylo pE pL yba yfr yva → wY_compareTexts_47 post (nI M) (nI N) cn pl ck ypf yat st ix ds yen tl yju sto srt bas yle dcm tim sig ysg op opX opY opZ out ych yot ylo pE pL yba yfr yva (n + 1) (nI m) := by
        intro post n K
        have K2 : wY_compareTexts_72 post (wY_compareTexts_47 post (nI M) (nI N) cn pl ck ypf yat st ix ds yen tl yju sto srt bas yle dcm tim sig ysg op opX opY opZ out ych yot ylo pE pL yba yfr yva n) (nI M) (nI N) (nI m) P cn pl ck ypf yat st ix ds yen tl yju sto srt bas yle dcm tim sig ysg op opX opY opZ out ych yot ylo pE pL yba yfr yva := by
          unfold wY_compareTexts_72
          refine pk_le N m (fun z => ?_) (fun z => ⟨vp_in_nI (by omega) (by omega), ?_⟩)
          · rw [hQd, if_neg (by omega)] at K; exact K
          · rw [nI_clamp (n := m) (by omega), hc m z]
            rw [hQd, if_pos (by omega)] at K; exact K
        refine br_f (nI_ge (b := 12) (by omega) (by omega)) (pk_le M m (fun z => ?_) (fun z => ⟨vp_in_nI (by omega) (by omega), ?_⟩))
        · rw [hPd, if_neg (by omega)] at K2; exact K2
        · rw [nI_clamp (n := m) (by omega), ho m z]
          rw [hPd, if_pos (by omega)] at K2; exact K2
      by_cases ePQ : P = Q
      · obtain ⟨c, c2, hX, hY⟩ := ih (m + 1) (by omega)
        refine ⟨c, c2, fun post n hn hP => ?_, fun post n hn hP => ?_⟩
        · obtain ⟨n, rfl⟩ : ∃ q, n = q + 1 := ⟨n - 1, by omega⟩
          refine X1 post n ?_
          unfold wX_characters_138
          exact br_t ePQ (nm_r (nI_1 _) (nm_r (nI_1 _) (hX post n (by omega) hP)))
        · obtain ⟨n, rfl⟩ : ∃ q, n = q + 1 := ⟨n - 1, by omega⟩
          refine Y1 post n ?_
          unfold wY_compareTexts_93
          exact br_t ePQ (nm_r (nI_1 _) (hY post n (by omega) hP))
      · by_cases lPQ : Q ≤ P
        · refine ⟨2, by omega, fun post n hn hP => ?_, fun post n hn hP => ?_⟩
          · obtain ⟨n, rfl⟩ : ∃ q, n = q + 1 := ⟨n - 1, by omega⟩
            refine X1 post n ?_
            unfold wX_characters_138
            exact br_f ePQ (br_t lPQ hP)
          · obtain ⟨n, rfl⟩ : ∃ q, n = q + 1 := ⟨n - 1, by omega⟩
            refine Y1 post n ?_
            unfold wY_compareTexts_93
            exact br_f ePQ (br_t lPQ hP)
        · refine ⟨0, by omega, fun post n hn hP => ?_, fun post n hn hP => ?_⟩
          · obtain ⟨n, rfl⟩ : ∃ q, n = q + 1 := ⟨n - 1, by omega⟩
            refine X1 post n ?_
            unfold wX_characters_138
            exact br_f ePQ (br_f lPQ hP)
          · obtain ⟨n, rfl⟩ : ∃ q, n = q + 1 := ⟨n - 1, by omega⟩
            refine Y1 post n ?_
            unfold wY_compareTexts_93
            exact br_f ePQ (br_f lPQ hP)
theorem ch_10 {post : Int32 → SY → Prop} {N : Nat} {y : Int32} (hN : N ≤ 12) (hK : ∀ n, wY_compareTexts_10 post y (nI N) cn pl ck ypf yat st ix ds yen tl yju (n + 1) (nI N) sto srt bas yle dcm tim sig ysg op opX opY opZ out ych (bk yot 0 N ych) ylo pE pL yba yfr yva) : ∀ r m n : Nat, m + r = N → r < n → wY_compareTexts_10 post y (nI N) cn pl ck ypf yat st ix ds yen tl yju n (nI m) sto srt bas yle dcm tim sig ysg op opX opY opZ out ych (bk yot 0 m ych) ylo pE pL yba yfr yva := by
  intro r
  induction r with
  | zero =>
    intro m n hm hn
    obtain ⟨n, rfl⟩ : ∃ q, n = q + 1 := ⟨n - 1, by omega⟩
    obtain rfl : m = N := by omega
    exact hK n
  | succ r ih =>
    intro m n hm hn
    obtain ⟨n, rfl⟩ : ∃ q, n = q + 1 := ⟨n - 1, by omega⟩
    refine br_f (nI_ge (by omega) (by omega)) ⟨vp_in_nI (by omega) (by omega), ?_⟩
    rw [nI_clamp (n := m) (by omega)]
    exact ⟨vp_in_nI (by omega) (by omega), nm_r (bk_s (by omega) rfl) (nm_r (nI_1 _) (ih (m + 1) n (by omega) (by omega)))⟩
theorem ch_sim {x y : Int32} (hx : q_Use srt bas len dig dcm sgn tim sig yle ysg ix x (fun k => k = 1 ∨ k = 2)) (hy : q_Use srt bas len dig dcm sgn tim sig yle ysg ix y (fun k => k = 1 ∨ k = 2)) :
    ∃ c ych' yot', c ≤ 2 ∧ (∀ post : Int32 → Prop, post (nI c) → wpX_characters post (cn, xpa, xop, pl, ck, pf, pc, st, ix, xst, tl, ds, sto, srt, bas, len, dig, dcm, sgn, tim, sig, op, opX, opY, opZ, tgt, sta, ins, opn, pE, pL, pI, pB, out, pw, wk) x y) ∧ (∀ post : Int32 → SY → Prop, post (q_yr c) (cn, pl, ck, ypf, yat, st, ix, ds, yen, tl, yju, sto, srt, bas, yle, dcm, tim, sig, ysg, op, opX, opY, opZ, out, ych', yot', ylo, pE, pL, yba, yfr, yva) → wpY_compareTexts post (cn, pl, ck, ypf, yat, st, ix, ds, yen, tl, yju, sto, srt, bas, yle, dcm, tim, sig, ysg, op, opX, opY, opZ, out, ych, yot, ylo, pE, pL, yba, yfr, yva) x y) := by
  obtain ⟨i, k, b, w, d, e, g, t, l, h, el, p, rfl, H, A, -⟩ := hx
  obtain ⟨i', k', b', w', d', e', g', t', l', h', el', p', rfl, H', A', -⟩ := hy
  have hp := aq_in H.2.1.2.2.2.1 A
  have hi : i < 12 := H.2.1.1
  have hg := H.1.2.2.2.2.2.1
  have hl := H.1.2.2.1
  have hin : vp_in (nI i) 12 := vp_in_nI hi (by omega)
  have hc : (nI i).toNatClampNeg = i := nI_clamp (by omega)
  have gw : g ≤ 1 ∧ g ≤ w ∧ w ≤ 12 := by have := H.2; omega
  have hp' := aq_in H'.2.1.2.2.2.1 A'
  have hi' : i' < 12 := H'.2.1.1
  have hg' := H'.1.2.2.2.2.2.1
  have hl' := H'.1.2.2.1
  have hin' : vp_in (nI i') 12 := vp_in_nI hi' (by omega)
  have hc' : (nI i').toNatClampNeg = i' := nI_clamp (by omega)
  have gw' : g' ≤ 1 ∧ g' ≤ w' ∧ w' ≤ 12 := by have := H'.2; omega
  obtain ⟨c, c2, hX, hY⟩ := ch_l (a := p + g) (q := p' + g') (M := w - g) (N := w' - g') (cn := cn) (xpa := xpa) (xop := xop) (pl := pl) (ck := ck) (pf := pf) (pc := pc) (st := st) (ix := ix) (xst := xst) (tl := tl) (ds := ds) (sto := sto) (srt := srt) (bas := bas) (len := len) (dig := dig) (dcm := dcm) (sgn := sgn) (tim := tim) (sig := sig) (op := op) (opX := opX) (opY := opY) (opZ := opZ) (tgt := tgt) (sta := sta) (ins := ins) (opn := opn) (pE := pE) (pL := pL) (pI := pI) (pB := pB) (out := out) (pw := pw) (wk := wk) (ypf := ypf) (yat := yat) (yen := yen) (yju := yju) (yle := yle) (ysg := ysg) (ych := bk (bk ych 0 (w - g) (fun k => sto (p + g + k))) 0 (w' - g') (fun k => sto (p' + g' + k))) (yot := bk yot 0 (w - g) (bk ych 0 (w - g) (fun k => sto (p + g + k)))) (ylo := ylo) (yba := yba) (yfr := yfr) (yva := yva) (by omega) (by omega) (by omega) (by omega) (fun k hk => by rw [bk_in (Nat.zero_le k) hk, bk_in (Nat.zero_le k) hk]) (fun k hk => bk_in (Nat.zero_le k) hk) 12 0 (by omega)
  refine ⟨c, bk (bk ych 0 (w - g) (fun k => sto (p + g + k))) 0 (w' - g') (fun k => sto (p' + g' + k)), bk yot 0 (w - g) (bk ych 0 (w - g) (fun k => sto (p + g + k))), c2, fun post hP => ?_, fun post hP => ?_⟩
  · have K := hX post 13 (by omega) hP
    rw [show p + g + (w - g) = p + w by omega, show p' + g' + (w' - g') = p' + w' by omega] at K
    have K1 : wX_characters_48 post (nI i) (nI i') (nI (p + g)) (nI g') (nI p') cn xpa xop pl ck pf pc st ix xst tl ds sto srt bas len dig dcm sgn tim sig op opX opY opZ tgt sta ins opn pE pL pI pB out pw wk := by
      unfold wX_characters_48
      refine nm_r (nI_add _ _) (xa_at H A ⟨hin, ?_⟩)
      rw [hc, hl]
      refine nm_r (nI_add _ _) (xa_at H' A' ⟨hin', ?_⟩)
      rw [hc', hl']
      exact nm_r (nI_add _ _) ⟨_, K⟩
    have K2 : wX_characters_23 post (nI i) (nI i') (nI g) (nI p) cn xpa xop pl ck pf pc st ix xst tl ds sto srt bas len dig dcm sgn tim sig op opX opY opZ tgt sta ins opn pE pL pI pB out pw wk := by
      unfold wX_characters_23
      refine nm_r (nI_add _ _) (xa_at H' A' ⟨hin', ?_⟩)
      rw [hc', hg']
      rcases (by omega : g' = 0 ∨ g' = 1) with rfl | rfl
      · exact br_t rfl K1
      · exact br_f (by decide) K1
    unfold wpX_characters
    refine xa_at H A ⟨hin, ?_⟩
    rw [hc, hg]
    rcases (by omega : g = 0 ∨ g = 1) with rfl | rfl
    · exact br_t rfl K2
    · exact br_f (by decide) K2
  · unfold wpY_compareTexts
    refine ya_take0 H A ⟨w - g + 1, ?_⟩
    have K := ch_10 (post := post) (y := nI i') (N := w - g) (cn := cn) (pl := pl) (ck := ck) (ypf := ypf) (yat := yat) (st := st) (ix := ix) (ds := ds) (yen := yen) (tl := tl) (yju := yju) (sto := sto) (srt := srt) (bas := bas) (yle := yle) (dcm := dcm) (tim := tim) (sig := sig) (ysg := ysg) (op := op) (opX := opX) (opY := opY) (opZ := opZ) (out := out) (ych := bk ych 0 (w - g) (fun k => sto (p + g + k))) (yot := yot) (ylo := ylo) (pE := pE) (pL := pL) (yba := yba) (yfr := yfr) (yva := yva) (by omega) (fun n => br_t (nI_le (by omega) (by omega)) (ya_take0 H' A' ⟨13, hY post 13 (by omega) hP⟩)) (w - g) 0 (w - g + 1) (by omega) (by omega)
    rw [bk_0] at K
    exact K
end
end
section
/-- whether a comparison's result is what is asked -/
def q_rl (how c : Nat) : Nat := if how < 3 then (if c = how then 1 else 0) else (if c = 5 - how then 0 else 1)
theorem rl_1 (how c : Nat) : q_rl how c ≤ 1 := by
  unfold q_rl
  by_cases a : how < 3
  · rw [if_pos a]; by_cases b : c = how
    · rw [if_pos b]; omega
    · rw [if_neg b]; omega
  · rw [if_neg a]; by_cases b : c = 5 - how
    · rw [if_pos b]; omega
    · rw [if_neg b]; omega
section
variable {cn : Int32} {xpa : Int32} {xop : Int32} {pl : Int32} {ck : Int32} {pf : Int32} {pc : Int32} {st : Int32} {ix : Int32} {xst : Int32} {tl : Int32} {ds : Int32} {sto : Nat → Int32} {srt : Nat → Int32} {bas : Nat → Int32} {len : Nat → Int32} {dig : Nat → Int32} {dcm : Nat → Int32} {sgn : Nat → Int32} {tim : Nat → Int32} {sig : Nat → Int32} {op : Nat → Int32} {opX : Nat → Int32} {opY : Nat → Int32} {opZ : Nat → Int32} {tgt : Nat → Int32} {sta : Nat → Int32} {ins : Nat → Int32} {opn : Nat → Int32} {pE : Nat → Int32} {pL : Nat → Int32} {pI : Nat → Int32} {pB : Nat → Int32} {out : Nat → Int32} {pw : Nat → Int64} {wk : Nat → Int32} {ypf : Int32} {yat : Int32} {yen : Int32} {yju : Int32} {yle : Nat → Int32} {ysg : Nat → Int32} {ych : Nat → Int32} {yot : Nat → Int32} {ylo : Nat → Int32} {yba : Nat → Int32} {yfr : Nat → Int32} {yva : Nat → Int32}
theorem rl_x {post : Int32 → Prop} : ∀ {how c : Nat}, how < 6 → c ≤ 2 → post (nI (q_rl how c)) → wX_related_138 post (nI how) (nI c) cn xpa xop pl ck pf pc st ix xst tl ds sto srt bas len dig dcm sgn tim sig op opX opY opZ tgt sta ins opn pE pL pI pB out pw wk := by
  intro how c h1 h2 hP
  unfold wX_related_138
  rcases (by omega : how = 0 ∨ how = 1 ∨ how = 2 ∨ how = 3 ∨ how = 4 ∨ how = 5) with rfl | rfl | rfl | rfl | rfl | rfl <;>
  rcases (by omega : c = 0 ∨ c = 1 ∨ c = 2) with rfl | rfl | rfl <;>
  first
  | exact br_t (by decide) (br_t (by decide) hP)
  | exact br_t (by decide) (br_f (by decide) hP)
  | exact br_f (by decide) (br_t (by decide) hP)
  | exact br_f (by decide) (br_f (by decide) hP)
theorem rl_y86 {post : Int32 → SY → Prop} {how c ρ : Nat} (h1 : how < 6) (h2 : c ≤ 2) (hr : how < 3 → ρ = q_rl how c) (h01 : ρ ≤ 1) (hP : post (nI (q_rl how c)) (cn, pl, ck, ypf, yat, st, ix, ds, yen, tl, yju, sto, srt, bas, yle, dcm, tim, sig, ysg, op, opX, opY, opZ, out, ych, yot, ylo, pE, pL, yba, yfr, yva)) : wY_relates_86 post (nI how) (q_yr c) (nI ρ) cn pl ck ypf yat st ix ds yen tl yju sto srt bas yle dcm tim sig ysg op opX opY opZ out ych yot ylo pE pL yba yfr yva := by
  unfold wY_relates_86
  by_cases h3 : how < 3
  · rw [hr h3] at h01 ⊢
    have e3 : ¬ nI how = 3 := fun z => by have := (nI_eq (b := 3) (by omega) (by omega)).mp z; omega
    refine br_f e3 (br_f (nI_ge (b := 3) h3 (by omega)) ⟨?_, hP⟩)
    rcases (by omega : q_rl how c = 0 ∨ q_rl how c = 1) with z | z <;> rw [z] <;> rfl
  · rcases (by omega : how = 3 ∨ how = 4 ∨ how = 5) with rfl | rfl | rfl <;>
    rcases (by omega : c = 0 ∨ c = 1 ∨ c = 2) with rfl | rfl | rfl <;>
    first
    | exact br_t (by decide) (br_t (by decide) hP)
    | exact br_t (by decide) (br_f (by decide) hP)
    | exact br_f (by decide) (br_t (by decide) (br_t (by decide) (br_t (by decide) hP)))
    | exact br_f (by decide) (br_t (by decide) (br_t (by decide) (br_f (by decide) hP)))
    | exact br_f (by decide) (br_t (by decide) (br_f (by decide) (br_t (by decide) hP)))
    | exact br_f (by decide) (br_t (by decide) (br_f (by decide) (br_f (by decide) hP)))
theorem rl_y {post : Int32 → SY → Prop} {how c : Nat} (h1 : how < 6) (h2 : c ≤ 2) (hP : post (nI (q_rl how c)) (cn, pl, ck, ypf, yat, st, ix, ds, yen, tl, yju, sto, srt, bas, yle, dcm, tim, sig, ysg, op, opX, opY, opZ, out, ych, yot, ylo, pE, pL, yba, yfr, yva)) : wY_relates_35 post (nI how) (q_yr c) cn pl ck ypf yat st ix ds yen tl yju sto srt bas yle dcm tim sig ysg op opX opY opZ out ych yot ylo pE pL yba yfr yva := by
  have K : ∀ ρ : Nat, ρ ≤ 1 → (how < 3 → ρ = q_rl how c) → wY_relates_86 post (nI how) (q_yr c) (nI ρ) cn pl ck ypf yat st ix ds yen tl yju sto srt bas yle dcm tim sig ysg op opX opY opZ out ych yot ylo pE pL yba yfr yva := fun ρ a b => rl_y86 h1 h2 b a hP
  unfold wY_relates_35
  refine ⟨by decide, ?_⟩
  rcases (by omega : how = 0 ∨ how = 1 ∨ how = 2 ∨ how = 3 ∨ how = 4 ∨ how = 5) with rfl | rfl | rfl | rfl | rfl | rfl <;>
  rcases (by omega : c = 0 ∨ c = 1 ∨ c = 2) with rfl | rfl | rfl <;>
  first
  | exact br_t (by decide) (br_t (by decide) (K 0 (by omega) (by decide)))
  | exact br_t (by decide) (br_f (by decide) (K 1 (by omega) (by decide)))
  | exact br_f (by decide) ⟨by decide, br_t (by decide) (br_t (by decide) (K 1 (by omega) (by decide)))⟩
  | exact br_f (by decide) ⟨by decide, br_t (by decide) (br_f (by decide) (K 0 (by omega) (by decide)))⟩
  | exact br_f (by decide) ⟨by decide, br_f (by decide) (br_t (by decide) (K 0 (by omega) (by decide)))⟩
  | exact br_f (by decide) ⟨by decide, br_f (by decide) (br_f (by decide) (K 1 (by omega) (by decide)))⟩
theorem sc_up {v : Int} {a s : Nat} (h : a ≤ s) (h9 : s ≤ 9) : v * (pTen (9 - a) : Nat) = q_sc v a s * (pTen (9 - s) : Nat) := by
  unfold q_sc
  rw [if_neg (by omega), Int.mul_assoc, ← Int.natCast_mul, ← pt_add, show s - a + (9 - s) = 9 - a by omega]
theorem sc_ord {x y : Int} {T : Nat} (hT : 0 < T) : (x * T ≤ y * T ↔ x ≤ y) := by
  have hT' : (0 : Int) < T := by omega
  exact ⟨fun h => Int.le_of_mul_le_mul_right h hT', fun h => Int.mul_le_mul_of_nonneg_right h (by omega)⟩
theorem sc_9 {v : Int} {a : Nat} (hv : v.natAbs < 1000000000) : (v * (pTen (9 - a) : Nat)).natAbs < 9223372036854775808 := by
  rw [Int.natAbs_mul, Int.natAbs_natCast]
  have h1 := pt_9 (a := 9 - a) (by omega)
  have h2 : v.natAbs * pTen (9 - a) ≤ 1000000000 * 1000000000 := Nat.mul_le_mul (by omega) h1
  omega
theorem cv_sim {x y : Int32} {how : Nat} (hh : how < 6) (hx : q_Use srt bas len dig dcm sgn tim sig yle ysg ix x (fun k => k = 1)) (hy : q_Use srt bas len dig dcm sgn tim sig yle ysg ix y (fun k => k = 1)) (hs : StOK sto) (hw : PwOK pw) :
    ∃ ρ, ρ ≤ 1 ∧ (∀ post : Int32 → Prop, post (nI ρ) → wpX_related post (cn, xpa, xop, pl, ck, pf, pc, st, ix, xst, tl, ds, sto, srt, bas, len, dig, dcm, sgn, tim, sig, op, opX, opY, opZ, tgt, sta, ins, opn, pE, pL, pI, pB, out, pw, wk) x y (nI how)) ∧ (∀ post : Int32 → SY → Prop, post (nI ρ) (cn, pl, ck, ypf, yat, st, ix, ds, yen, tl, yju, sto, srt, bas, yle, dcm, tim, sig, ysg, op, opX, opY, opZ, out, ych, yot, ylo, pE, pL, yba, yfr, yva) → wpY_relates post (cn, pl, ck, ypf, yat, st, ix, ds, yen, tl, yju, sto, srt, bas, yle, dcm, tim, sig, ysg, op, opX, opY, opZ, out, ych, yot, ylo, pE, pL, yba, yfr, yva) x y (nI how)) := by
  obtain ⟨i, k, b, w, d, e, g, t, l, h, el, p, rfl, H, A, rfl⟩ := hx
  obtain ⟨i', k', b', w', d', e', g', t', l', h', el', p', rfl, H', A', rfl⟩ := hy
  have hp := aq_in H.2.1.2.2.2.1 A
  have hi : i < 12 := H.2.1.1
  have hk := H.1.1
  have he := H.1.2.2.2.2.1
  have he9 : e ≤ 9 := by have := H.2.1; omega
  have hin : vp_in (nI i) 12 := vp_in_nI hi (by omega)
  have hc : (nI i).toNatClampNeg = i := nI_clamp (by omega)
  have hp' := aq_in H'.2.1.2.2.2.1 A'
  have hi' : i' < 12 := H'.2.1.1
  have hk' := H'.1.1
  have he' := H'.1.2.2.2.2.1
  have he9' : e' ≤ 9 := by have := H'.2.1; omega
  have hin' : vp_in (nI i') 12 := vp_in_nI hi' (by omega)
  have hc' : (nI i').toNatClampNeg = i' := nI_clamp (by omega)
  have vb := it_vb (s := sto) (p := p) H
  have vb' := it_vb (s := sto) (p := p') H'
  have va : b + (el - 1) * w = p := A.2.2.1.symm
  have va' : b' + (el' - 1) * w' = p' := A'.2.2.1.symm
  obtain ⟨V, hV⟩ : ∃ V, V = q_val sto 1 g w p := ⟨_, rfl⟩
  obtain ⟨V', hV'⟩ : ∃ V, V = q_val sto 1 g' w' p' := ⟨_, rfl⟩
  rw [← hV] at vb
  rw [← hV'] at vb'
  obtain ⟨s, s1, s2, s3, s4⟩ : ∃ s, e ≤ s ∧ e' ≤ s ∧ s ≤ 9 ∧ s = (if e ≤ e' then e' else e) := by
    by_cases z : e ≤ e'
    · exact ⟨e', z, by omega, he9', by rw [if_pos z]⟩
    · exact ⟨e, by omega, by omega, he9, by rw [if_neg z]⟩
  have b1 := sc_b (v := V) (a := e) (e := s) (by omega) (by omega)
  have b2 := sc_b (v := V') (a := e') (e := s) (by omega) (by omega)
  have b3 := sc_9 (a := e) vb
  have b4 := sc_9 (a := e') vb'
  have T := pt_pos (9 - s)
  obtain ⟨c, hc2, hcd⟩ : ∃ c : Nat, c ≤ 2 ∧ c = (if q_sc V' e' s ≤ q_sc V e s then (if q_sc V e s ≤ q_sc V' e' s then 1 else 2) else 0) := by
    refine ⟨_, ?_, rfl⟩
    split
    · split <;> omega
    · omega
  refine ⟨q_rl how c, rl_1 how c, fun post hP => ?_, fun post hP => ?_⟩
  · have K : wX_related_77 post (nI i) (nI i') (nI how) (zL V) (zL V') (nI s) cn xpa xop pl ck pf pc st ix xst tl ds sto srt bas len dig dcm sgn tim sig op opX opY opZ tgt sta ins opn pE pL pI pB out pw wk := by
      unfold wX_related_77
      refine ⟨hin, ?_⟩
      rw [hc, he]
      refine xa_sc hw (by omega) (by omega) (by omega) ⟨hin', ?_⟩
      rw [hc', he']
      refine xa_sc hw (by omega) (by omega) (by omega) (zb_le (q_sc V' e' s) (q_sc V e s) (fun z => ?_) (fun z => ?_) b2 b1)
      · rw [if_pos z] at hcd
        refine zb_eq (q_sc V e s) (q_sc V' e' s) (fun y => ?_) (fun y => ?_) b1 b2
        · rw [if_pos (by omega)] at hcd
          unfold wX_related_136
          rw [hcd] at hP
          exact rl_x (c := 1) hh (by omega) hP
        · rw [if_neg (by omega)] at hcd
          unfold wX_related_136
          rw [hcd] at hP
          exact rl_x (c := 2) hh (by omega) hP
      · rw [if_neg (by omega)] at hcd
        unfold wX_related_136
        rw [hcd] at hP
        exact rl_x (c := 0) hh (by omega) hP
    unfold wpX_related
    refine ⟨hin, ?_⟩
    rw [hc, hk, hc', hk', he, he']
    refine br_f (by decide) ⟨hin', br_f (by decide) (xa_opnd H hs A (xa_opnd H' hs A' ⟨hin, hin', ?_⟩))⟩
    rw [← hV, ← hV']
    refine pk_le e e' (fun z => ⟨hin', ?_⟩) (fun z => ⟨hin, ?_⟩)
    · rw [if_pos z] at s4; rw [s4] at K; exact K
    · rw [if_neg (by omega)] at s4; rw [s4] at K; exact K
  · have K : ∀ r : Int32, r = q_yr c → wY_relates_35 post (nI how) r cn pl ck ypf yat st ix ds yen tl yju sto srt bas yle dcm tim sig ysg op opX opY opZ out ych yot ylo pE pL yba yfr yva := by
      intro r er
      rw [er]
      exact rl_y hh hc2 hP
    have o1 : V' * (pTen (9 - e') : Nat) ≤ V * (pTen (9 - e) : Nat) ↔ q_sc V' e' s ≤ q_sc V e s := by
      rw [sc_up s1 s3, sc_up s2 s3, sc_ord T]
    have o2 : V * (pTen (9 - e) : Nat) ≤ V' * (pTen (9 - e') : Nat) ↔ q_sc V e s ≤ q_sc V' e' s := by
      rw [sc_up s1 s3, sc_up s2 s3, sc_ord T]
    unfold wpY_relates
    refine ⟨hin, ?_⟩
    rw [hc, hk, hc', hk']
    refine br_f (by decide) ⟨hin', br_f (by decide) ?_⟩
    unfold wpY_compareValues
    refine ya_el H A (ya_val H hs A.1 (by rw [va]; exact hp) ⟨hin, ?_⟩)
    rw [va, ← hV, hc, he, show (9 : Int32) - nI e = nI (9 - e) from pk_sub (a := 9) he9]
    refine yt_ten (by omega) (nm_r (zl_mul _ _) (ya_el H' A' (ya_val H' hs A'.1 (by rw [va']; exact hp') ⟨hin', ?_⟩)))
    rw [va', ← hV', hc', he', show (9 : Int32) - nI e' = nI (9 - e') from pk_sub (a := 9) he9']
    refine yt_ten (by omega) (nm_r (zl_mul _ _) ?_)
    refine zb_le (V' * (pTen (9 - e') : Nat)) (V * (pTen (9 - e) : Nat)) (fun z => ?_) (fun z => ?_) b4 b3
    · rw [o1] at z
      rw [if_pos z] at hcd
      refine zb_le (V * (pTen (9 - e) : Nat)) (V' * (pTen (9 - e') : Nat)) (fun y => ?_) (fun y => ?_) b3 b4
      · rw [o2] at y
        rw [if_pos y] at hcd
        exact K 0 (by rw [hcd]; rfl)
      · have y' : ¬ (q_sc V e s ≤ q_sc V' e' s) := fun q => by have := o2.mpr q; omega
        rw [if_neg y'] at hcd
        exact K 1 (by rw [hcd]; rfl)
    · have z' : ¬ (q_sc V' e' s ≤ q_sc V e s) := fun q => by have := o1.mpr q; omega
      rw [if_neg z'] at hcd
      exact K (-1) (by rw [hcd]; rfl)
theorem re_sim {x y : Int32} {how : Nat} (hh : how < 6) (hx : q_Use srt bas len dig dcm sgn tim sig yle ysg ix x (fun k => k = 1 ∨ k = 2)) (hy : q_Use srt bas len dig dcm sgn tim sig yle ysg ix y (fun k => k = 1 ∨ k = 2)) (hs : StOK sto) (hw : PwOK pw) :
    ∃ ρ ych' yot', ρ ≤ 1 ∧ (∀ post : Int32 → Prop, post (nI ρ) → wpX_related post (cn, xpa, xop, pl, ck, pf, pc, st, ix, xst, tl, ds, sto, srt, bas, len, dig, dcm, sgn, tim, sig, op, opX, opY, opZ, tgt, sta, ins, opn, pE, pL, pI, pB, out, pw, wk) x y (nI how)) ∧ (∀ post : Int32 → SY → Prop, post (nI ρ) (cn, pl, ck, ypf, yat, st, ix, ds, yen, tl, yju, sto, srt, bas, yle, dcm, tim, sig, ysg, op, opX, opY, opZ, out, ych', yot', ylo, pE, pL, yba, yfr, yva) → wpY_relates post (cn, pl, ck, ypf, yat, st, ix, ds, yen, tl, yju, sto, srt, bas, yle, dcm, tim, sig, ysg, op, opX, opY, opZ, out, ych, yot, ylo, pE, pL, yba, yfr, yva) x y (nI how)) := by
  have hx0 := hx
  have hy0 := hy
  obtain ⟨i, k, b, w, d, e, g, t, l, h, el, p, rfl, H, A, kk⟩ := hx
  obtain ⟨i', k', b', w', d', e', g', t', l', h', el', p', rfl, H', A', kk'⟩ := hy
  have hi : i < 12 := H.2.1.1
  have hk := H.1.1
  have hin : vp_in (nI i) 12 := vp_in_nI hi (by omega)
  have hc : (nI i).toNatClampNeg = i := nI_clamp (by omega)
  have hi' : i' < 12 := H'.2.1.1
  have hk' := H'.1.1
  have hin' : vp_in (nI i') 12 := vp_in_nI hi' (by omega)
  have hc' : (nI i').toNatClampNeg = i' := nI_clamp (by omega)
  by_cases tx : k = 2 ∨ k' = 2
  · obtain ⟨c, ych', yot', c2, hX, hY⟩ := ch_sim (cn := cn) (xpa := xpa) (xop := xop) (pl := pl) (ck := ck) (pf := pf) (pc := pc) (st := st) (ix := ix) (xst := xst) (tl := tl) (ds := ds) (sto := sto) (srt := srt) (bas := bas) (len := len) (dig := dig) (dcm := dcm) (sgn := sgn) (tim := tim) (sig := sig) (op := op) (opX := opX) (opY := opY) (opZ := opZ) (tgt := tgt) (sta := sta) (ins := ins) (opn := opn) (pE := pE) (pL := pL) (pI := pI) (pB := pB) (out := out) (pw := pw) (wk := wk) (ypf := ypf) (yat := yat) (yen := yen) (yju := yju) (yle := yle) (ysg := ysg) (ych := ych) (yot := yot) (ylo := ylo) (yba := yba) (yfr := yfr) (yva := yva) hx0 hy0
    refine ⟨q_rl how c, ych', yot', rl_1 how c, fun post hP => ?_, fun post hP => ?_⟩
    · have K : wX_related_20 post (nI i) (nI i') (nI how) cn xpa xop pl ck pf pc st ix xst tl ds sto srt bas len dig dcm sgn tim sig op opX opY opZ tgt sta ins opn pE pL pI pB out pw wk := by
        unfold wX_related_20
        exact hX _ (rl_x hh c2 hP)
      unfold wpX_related
      refine ⟨hin, ?_⟩
      rw [hc, hk, hc', hk']
      by_cases k2 : k = 2
      · exact br_t (by rw [k2]; rfl) K
      · exact br_f (fun z => k2 ((nI_eq (b := 2) (by omega) (by omega)).mp z)) ⟨hin', br_t (by rw [show k' = 2 by omega]; rfl) K⟩
    · have K : wY_relates_20 post (nI i) (nI i') (nI how) cn pl ck ypf yat st ix ds yen tl yju sto srt bas yle dcm tim sig ysg op opX opY opZ out ych yot ylo pE pL yba yfr yva := by
        unfold wY_relates_20
        exact hY _ (rl_y hh c2 hP)
      unfold wpY_relates
      refine ⟨hin, ?_⟩
      rw [hc, hk, hc', hk']
      by_cases k2 : k = 2
      · exact br_t (by rw [k2]; rfl) K
      · exact br_f (fun z => k2 ((nI_eq (b := 2) (by omega) (by omega)).mp z)) ⟨hin', br_t (by rw [show k' = 2 by omega]; rfl) K⟩
  · obtain rfl : k = 1 := by omega
    obtain rfl : k' = 1 := by omega
    obtain ⟨ρ, h1, hX, hY⟩ := cv_sim (cn := cn) (xpa := xpa) (xop := xop) (pl := pl) (ck := ck) (pf := pf) (pc := pc) (st := st) (ix := ix) (xst := xst) (tl := tl) (ds := ds) (sto := sto) (srt := srt) (bas := bas) (len := len) (dig := dig) (dcm := dcm) (sgn := sgn) (tim := tim) (sig := sig) (op := op) (opX := opX) (opY := opY) (opZ := opZ) (tgt := tgt) (sta := sta) (ins := ins) (opn := opn) (pE := pE) (pL := pL) (pI := pI) (pB := pB) (out := out) (pw := pw) (wk := wk) (ypf := ypf) (yat := yat) (yen := yen) (yju := yju) (yle := yle) (ysg := ysg) (ych := ych) (yot := yot) (ylo := ylo) (yba := yba) (yfr := yfr) (yva := yva) hh ⟨i, 1, b, w, d, e, g, t, l, h, el, p, rfl, H, A, rfl⟩ ⟨i', 1, b', w', d', e', g', t', l', h', el', p', rfl, H', A', rfl⟩ hs hw
    exact ⟨ρ, ych, yot, h1, hX, hY⟩
end
end
section
section
variable {cn : Int32} {xpa : Int32} {xop : Int32} {pl : Int32} {ck : Int32} {pf : Int32} {pc : Int32} {st : Int32} {ix : Int32} {xst : Int32} {tl : Int32} {ds : Int32} {sto : Nat → Int32} {srt : Nat → Int32} {bas : Nat → Int32} {len : Nat → Int32} {dig : Nat → Int32} {dcm : Nat → Int32} {sgn : Nat → Int32} {tim : Nat → Int32} {sig : Nat → Int32} {op : Nat → Int32} {opX : Nat → Int32} {opY : Nat → Int32} {opZ : Nat → Int32} {tgt : Nat → Int32} {sta : Nat → Int32} {ins : Nat → Int32} {opn : Nat → Int32} {pE : Nat → Int32} {pL : Nat → Int32} {pI : Nat → Int32} {pB : Nat → Int32} {out : Nat → Int32} {pw : Nat → Int64} {wk : Nat → Int32} {ypf : Int32} {yat : Int32} {yen : Int32} {yju : Int32} {yle : Nat → Int32} {ysg : Nat → Int32} {ych : Nat → Int32} {yot : Nat → Int32} {ylo : Nat → Int32} {yba : Nat → Int32} {yfr : Nat → Int32} {yva : Nat → Int32}
theorem dp_l {i k b w d e g t l h p : Nat} (H : q_It srt bas len dig dcm sgn tim sig yle ysg i k b w d e g t l h) (hs : StOK sto) (hp : p + w ≤ 96) (hch : ∀ k, k < w → ych k = sto (p + k)) : ∀ (r m D : Nat) (o : Nat → Int32), m + r = w → D + r < 100000 → ∃ o', (∀ (post : SX → Prop) n, r < n → post (cn, xpa, xop, pl, ck, pf, pc, st, ix, xst, tl, nI (D + r), sto, srt, bas, len, dig, dcm, sgn, tim, sig, op, opX, opY, opZ, tgt, sta, ins, opn, pE, pL, pI, pB, o', pw, wk) → wX_display_19 post (nI i) (nI p) cn xpa xop pl ck pf pc st ix xst tl n (nI m) (nI D) sto srt bas len dig dcm sgn tim sig op opX opY opZ tgt sta ins opn pE pL pI pB o pw wk) ∧ (∀ (post : SY → Prop) n, r < n → post (cn, pl, ck, ypf, yat, st, ix, nI (D + r), yen, tl, yju, sto, srt, bas, yle, dcm, tim, sig, ysg, op, opX, opY, opZ, o', ych, yot, ylo, pE, pL, yba, yfr, yva) → wY_display_9 post (nI w) cn pl ck ypf yat st ix yen tl yju n (nI m) (nI D) sto srt bas yle dcm tim sig ysg op opX opY opZ o ych yot ylo pE pL yba yfr yva) := by
  obtain ⟨⟨-, -, hw, -⟩, ⟨hi, -, -, -, hw1, hw12, -⟩, -⟩ := H
  have hin : vp_in (nI i) 12 := vp_in_nI hi (by omega)
  have hc : (nI i).toNatClampNeg = i := nI_clamp (by omega)
  intro r
  induction r with
  | zero =>
    intro m D o hm hD
    refine ⟨o, fun post n hn hP => ?_, fun post n hn hP => ?_⟩
    · obtain ⟨n, rfl⟩ : ∃ q, n = q + 1 := ⟨n - 1, by omega⟩
      refine ⟨hin, ?_⟩
      rw [hc, hw]
      exact br_t (nI_le (by omega) (by omega)) hP
    · obtain ⟨n, rfl⟩ : ∃ q, n = q + 1 := ⟨n - 1, by omega⟩
      exact br_t (nI_le (by omega) (by omega)) hP
  | succ r ih =>
    intro m D o hm hD
    have hc2 := hch m (by omega)
    have eD : D + (r + 1) = D + 1 + r := by omega
    rw [eD]
    by_cases d96 : 96 ≤ D
    · obtain ⟨o', hX, hY⟩ := ih (m + 1) (D + 1) o (by omega) (by omega)
      refine ⟨o', fun post n hn hP => ?_, fun post n hn hP => ?_⟩
      · obtain ⟨n, rfl⟩ : ∃ q, n = q + 1 := ⟨n - 1, by omega⟩
        refine ⟨hin, ?_⟩
        rw [hc, hw]
        refine br_f (nI_ge (by omega) (by omega)) (br_t (nI_le (a := 96) d96 (by omega)) ?_)
        unfold wX_display_55
        exact nm_r (nI_1 _) (nm_r (nI_1 _) (hX post n (by omega) hP))
      · obtain ⟨n, rfl⟩ : ∃ q, n = q + 1 := ⟨n - 1, by omega⟩
        refine br_f (nI_ge (by omega) (by omega)) (br_t (nI_le (a := 96) d96 (by omega)) ?_)
        unfold wY_display_38
        exact nm_r (nI_1 _) (nm_r (nI_1 _) (hY post n (by omega) hP))
    · obtain ⟨o', hX, hY⟩ := ih (m + 1) (D + 1) (upd o D (sto (p + m))) (by omega) (by omega)
      refine ⟨o', fun post n hn hP => ?_, fun post n hn hP => ?_⟩
      · obtain ⟨n, rfl⟩ : ∃ q, n = q + 1 := ⟨n - 1, by omega⟩
        refine ⟨hin, ?_⟩
        rw [hc, hw]
        refine br_f (nI_ge (by omega) (by omega)) (br_f (nI_ge (b := 96) (by omega) (by omega)) ?_)
        rw [nI_add, nI_clamp (n := p + m) (by omega), nI_clamp (n := D) (by omega), so_v hs]
        refine ⟨vp_in_nI (by omega) (by omega), vp_in_nI (by omega) (by omega), nm_e ?_⟩
        unfold wX_display_55
        exact nm_r (nI_1 _) (nm_r (nI_1 _) (hX post n (by omega) hP))
      · obtain ⟨n, rfl⟩ : ∃ q, n = q + 1 := ⟨n - 1, by omega⟩
        refine br_f (nI_ge (by omega) (by omega)) (br_f (nI_ge (b := 96) (by omega) (by omega)) ?_)
        rw [nI_clamp (n := m) (by omega), nI_clamp (n := D) (by omega), hc2]
        refine ⟨vp_in_nI (by omega) (by omega), vp_in_nI (by omega) (by omega), nm_e ?_⟩
        unfold wY_display_38
        exact nm_r (nI_1 _) (nm_r (nI_1 _) (hY post n (by omega) hP))
theorem dp_sim {x : Int32} {D : Nat} (hx : q_Use srt bas len dig dcm sgn tim sig yle ysg ix x (fun _ => True)) (hs : StOK sto) (hd : ds = nI D) (hD : D < 50000) :
    ∃ o' D' ych', D' ≤ D + 12 ∧ (∀ post : SX → Prop, post (cn, xpa, xop, pl, ck, pf, pc, st, ix, xst, tl, nI D', sto, srt, bas, len, dig, dcm, sgn, tim, sig, op, opX, opY, opZ, tgt, sta, ins, opn, pE, pL, pI, pB, o', pw, wk) → wpX_display post (cn, xpa, xop, pl, ck, pf, pc, st, ix, xst, tl, ds, sto, srt, bas, len, dig, dcm, sgn, tim, sig, op, opX, opY, opZ, tgt, sta, ins, opn, pE, pL, pI, pB, out, pw, wk) x) ∧ (∀ post : SY → Prop, post (cn, pl, ck, ypf, yat, st, ix, nI D', yen, tl, yju, sto, srt, bas, yle, dcm, tim, sig, ysg, op, opX, opY, opZ, o', ych', yot, ylo, pE, pL, yba, yfr, yva) → wpY_display post (cn, pl, ck, ypf, yat, st, ix, ds, yen, tl, yju, sto, srt, bas, yle, dcm, tim, sig, ysg, op, opX, opY, opZ, out, ych, yot, ylo, pE, pL, yba, yfr, yva) x) := by
  obtain ⟨i, k, b, w, d, e, g, t, l, h, el, p, rfl, H, A, -⟩ := hx
  subst hd
  have hp := aq_in H.2.1.2.2.2.1 A
  have hi : i < 12 := H.2.1.1
  have hw12 : w ≤ 12 := H.2.1.2.2.2.2.2.1
  obtain ⟨o', hX, hY⟩ := dp_l (cn := cn) (xpa := xpa) (xop := xop) (pl := pl) (ck := ck) (pf := pf) (pc := pc) (st := st) (ix := ix) (xst := xst) (tl := tl) (sto := sto) (srt := srt) (bas := bas) (len := len) (dig := dig) (dcm := dcm) (sgn := sgn) (tim := tim) (sig := sig) (op := op) (opX := opX) (opY := opY) (opZ := opZ) (tgt := tgt) (sta := sta) (ins := ins) (opn := opn) (pE := pE) (pL := pL) (pI := pI) (pB := pB) (pw := pw) (wk := wk) (ypf := ypf) (yat := yat) (yen := yen) (yju := yju) (yle := yle) (ysg := ysg) (ych := bk ych 0 w (fun k => sto (p + k))) (yot := yot) (ylo := ylo) (yba := yba) (yfr := yfr) (yva := yva) H hs hp (fun k hk => bk_in (Nat.zero_le k) hk) w 0 D out (by omega) (by omega)
  refine ⟨o', D + w, bk ych 0 w (fun k => sto (p + k)), by omega, fun post hP => ?_, fun post hP => ?_⟩
  · unfold wpX_display
    exact br_f (us_16 hi) (xa_at H A ⟨w + 1, hX post (w + 1) (by omega) hP⟩)
  · unfold wpY_display
    exact ya_take1 H A ⟨w + 1, hY post (w + 1) (by omega) hP⟩
def q_tc (s : Nat → Int32) (q : Nat) (z : Int32) : Nat → Nat
  | 0 => 0
  | m + 1 => if s (q + m) = z then q_tc s q z m + 1 else q_tc s q z m
theorem tc_le (s : Nat → Int32) (q : Nat) (z : Int32) : ∀ m, q_tc s q z m ≤ m
  | 0 => Nat.le_refl 0
  | m + 1 => by
    have := tc_le s q z m
    show (if s (q + m) = z then q_tc s q z m + 1 else q_tc s q z m) ≤ m + 1
    by_cases h : s (q + m) = z
    · rw [if_pos h]; omega
    · rw [if_neg h]; omega
theorem xt_17 {post : SX → Prop} {i k b w d e g t l h p : Nat} {y z : Int32} (H : q_It srt bas len dig dcm sgn tim sig yle ysg i k b w d e g t l h) (hp : p + w ≤ 96) (hK : ∀ n, wX_tally_17 post (nI i) y z (nI p) cn xpa xop pl ck pf pc st ix xst tl ds sto srt bas len dig dcm sgn tim sig op opX opY opZ tgt sta ins opn pE pL pI pB out pw wk (n + 1) (nI (q_tc sto p z w)) (nI w)) : ∀ r m n : Nat, m + r = w → r < n → wX_tally_17 post (nI i) y z (nI p) cn xpa xop pl ck pf pc st ix xst tl ds sto srt bas len dig dcm sgn tim sig op opX opY opZ tgt sta ins opn pE pL pI pB out pw wk n (nI (q_tc sto p z m)) (nI m) := by
  obtain ⟨⟨-, -, hw, -⟩, ⟨hi, -, -, -, hw1, hw12, -⟩, -⟩ := H
  have hin : vp_in (nI i) 12 := vp_in_nI hi (by omega)
  have hc : (nI i).toNatClampNeg = i := nI_clamp (by omega)
  intro r
  induction r with
  | zero =>
    intro m n hm hn
    obtain ⟨n, rfl⟩ : ∃ q, n = q + 1 := ⟨n - 1, by omega⟩
    obtain rfl : m = w := by omega
    exact hK n
  | succ r ih =>
    intro m n hm hn
    obtain ⟨n, rfl⟩ : ∃ q, n = q + 1 := ⟨n - 1, by omega⟩
    have K := ih (m + 1) n (by omega) (by omega)
    have es : q_tc sto p z (m + 1) = if sto (p + m) = z then q_tc sto p z m + 1 else q_tc sto p z m := rfl
    refine ⟨hin, ?_⟩
    rw [hc, hw]
    refine br_f (nI_ge (by omega) (by omega)) ?_
    rw [nI_add, nI_clamp (n := p + m) (by omega)]
    refine ⟨vp_in_nI (by omega) (by omega), br_c (fun c => ?_) (fun c => ?_)⟩
    · rw [es, if_pos c] at K
      exact nm_r (nI_1 _) (nm_r (nI_1 _) K)
    · rw [es, if_neg c] at K
      exact nm_r (nI_1 _) K
theorem yt_14 {post : SY → Prop} {w p : Nat} {y z : Int32} (hw12 : w ≤ 12) (hch : ∀ k, k < w → ych k = sto (p + k)) (hK : ∀ n, wY_tally_14 post y z (nI w) cn pl ck ypf yat st ix ds yen tl yju sto srt bas yle dcm tim sig ysg op opX opY opZ out ych yot ylo pE pL yba yfr yva (n + 1) (nI (q_tc sto p z w)) (nI w)) : ∀ r m n : Nat, m + r = w → r < n → wY_tally_14 post y z (nI w) cn pl ck ypf yat st ix ds yen tl yju sto srt bas yle dcm tim sig ysg op opX opY opZ out ych yot ylo pE pL yba yfr yva n (nI (q_tc sto p z m)) (nI m) := by
  intro r
  induction r with
  | zero =>
    intro m n hm hn
    obtain ⟨n, rfl⟩ : ∃ q, n = q + 1 := ⟨n - 1, by omega⟩
    obtain rfl : m = w := by omega
    exact hK n
  | succ r ih =>
    intro m n hm hn
    obtain ⟨n, rfl⟩ : ∃ q, n = q + 1 := ⟨n - 1, by omega⟩
    have K := ih (m + 1) n (by omega) (by omega)
    have es : q_tc sto p z (m + 1) = if sto (p + m) = z then q_tc sto p z m + 1 else q_tc sto p z m := rfl
    refine br_f (nI_ge (by omega) (by omega)) ⟨vp_in_nI (by omega) (by omega), ?_⟩
    rw [nI_clamp (n := m) (by omega), hch m (by omega)]
    refine br_c (fun c => ?_) (fun c => ?_)
    · rw [es, if_pos c] at K
      exact nm_r (nI_1 _) (nm_r (nI_1 _) K)
    · rw [es, if_neg c] at K
      exact nm_r (nI_1 _) K
theorem ta_sim {x y z : Int32} (hx : q_Use srt bas len dig dcm sgn tim sig yle ysg ix x (fun _ => True)) (hy : q_Use srt bas len dig dcm sgn tim sig yle ysg ix y (fun k => k = 1)) (hs : StOK sto) (hw : PwOK pw) :
    ∃ s' wk' ych' yot', StOK s' ∧ (∀ post : SX → Prop, post (cn, xpa, xop, pl, ck, pf, pc, st, ix, xst, tl, ds, s', srt, bas, len, dig, dcm, sgn, tim, sig, op, opX, opY, opZ, tgt, sta, ins, opn, pE, pL, pI, pB, out, pw, wk') → wpX_tally post (cn, xpa, xop, pl, ck, pf, pc, st, ix, xst, tl, ds, sto, srt, bas, len, dig, dcm, sgn, tim, sig, op, opX, opY, opZ, tgt, sta, ins, opn, pE, pL, pI, pB, out, pw, wk) x y z) ∧ (∀ post : SY → Prop, post (cn, pl, ck, ypf, yat, st, ix, ds, yen, tl, yju, s', srt, bas, yle, dcm, tim, sig, ysg, op, opX, opY, opZ, out, ych', yot', ylo, pE, pL, yba, yfr, yva) → wpY_tally post (cn, pl, ck, ypf, yat, st, ix, ds, yen, tl, yju, sto, srt, bas, yle, dcm, tim, sig, ysg, op, opX, opY, opZ, out, ych, yot, ylo, pE, pL, yba, yfr, yva) x y z) := by
  obtain ⟨i, k, b, w, d, e, g, t, l, h, el, p, rfl, H, A, -⟩ := hx
  obtain ⟨i', k', b', w', d', e', g', t', l', h', el', p', rfl, H', A', rfl⟩ := hy
  have hp := aq_in H.2.1.2.2.2.1 A
  have hi : i < 12 := H.2.1.1
  have hl := H.1.2.2.1
  have hin : vp_in (nI i) 12 := vp_in_nI hi (by omega)
  have hc : (nI i).toNatClampNeg = i := nI_clamp (by omega)
  have hw12 : w ≤ 12 := H.2.1.2.2.2.2.2.1
  have hi' : i' < 12 := H'.2.1.1
  have he' := H'.1.2.2.2.2.1
  have he9' : e' ≤ 9 := by have := H'.2.1; omega
  have hin' : vp_in (nI i') 12 := vp_in_nI hi' (by omega)
  have hc' : (nI i').toNatClampNeg = i' := nI_clamp (by omega)
  have tl12 := tc_le sto p z w
  obtain ⟨s', wk', yot', a1, a2, a3⟩ := sr_sim (a := 0) (v := ((q_tc sto p z w : Nat) : Int)) (cn := cn) (xpa := xpa) (xop := xop) (pl := pl) (ck := ck) (pf := pf) (pc := pc) (st := st) (ix := ix) (xst := xst) (tl := tl) (ds := ds) (sto := sto) (srt := srt) (bas := bas) (len := len) (dig := dig) (dcm := dcm) (sgn := sgn) (tim := tim) (sig := sig) (op := op) (opX := opX) (opY := opY) (opZ := opZ) (tgt := tgt) (sta := sta) (ins := ins) (opn := opn) (pE := pE) (pL := pL) (pI := pI) (pB := pB) (out := out) (pw := pw) (wk := wk) (ypf := ypf) (yat := yat) (yen := yen) (yju := yju) (yle := yle) (ysg := ysg) (ych := bk ych 0 w (fun k => sto (p + k))) (yot := yot) (ylo := ylo) (yba := yba) (yfr := yfr) (yva := yva) H' (by omega) A' hs hw (by omega) (by omega)
  refine ⟨s', wk', bk ych 0 w (fun k => sto (p + k)), yot', a1, fun post hP => ?_, fun post hP => ?_⟩
  · unfold wpX_tally
    refine xa_at H A ⟨w + 1, xt_17 H hp (fun n => ⟨hin, ?_⟩) w 0 (w + 1) (by omega) (by omega)⟩
    rw [hc, hl]
    refine br_t (nI_le (by omega) (by omega)) ⟨hin', ?_⟩
    rw [hc', he', nI_l (by omega), ← zl_n]
    exact xa_sc (f := 0) hw (by omega) (by omega) (by omega) (a2 _ hP)
  · unfold wpY_tally
    refine ya_take1 H A ⟨w + 1, yt_14 (p := p) (sto := sto) (ych := bk ych 0 w (fun k => sto (p + k))) hw12 (fun k hk => bk_in (Nat.zero_le k) hk) (fun n => br_t (nI_le (by omega) (by omega)) (ya_el H' A' ?_)) w 0 (w + 1) (by omega) (by omega)⟩
    rw [nI_l (by omega), ← zl_n]
    exact a3 _ hP
end
end
section
/-! quotients -/
theorem td_e (a b : Int) : a.tdiv b = if (0 ≤ a ↔ 0 ≤ b) then ((a.natAbs / b.natAbs : Nat) : Int) else -((a.natAbs / b.natAbs : Nat) : Int) := by
  by_cases ha : 0 ≤ a
  · obtain ⟨m, rfl⟩ : ∃ m : Nat, a = m := ⟨a.natAbs, by omega⟩
    by_cases hb : 0 ≤ b
    · obtain ⟨n, rfl⟩ : ∃ n : Nat, b = n := ⟨b.natAbs, by omega⟩
      rw [if_pos ⟨fun _ => hb, fun _ => ha⟩, Int.natAbs_natCast, Int.natAbs_natCast, Int.ofNat_tdiv]
    · obtain ⟨n, rfl⟩ : ∃ n : Nat, b = -(n : Int) := ⟨b.natAbs, by omega⟩
      rw [if_neg (fun z => hb (z.mp ha)), Int.natAbs_neg, Int.natAbs_natCast, Int.natAbs_natCast, Int.ofNat_tdiv, Int.tdiv_neg]
  · obtain ⟨m, rfl⟩ : ∃ m : Nat, a = -(m : Int) := ⟨a.natAbs, by omega⟩
    by_cases hb : 0 ≤ b
    · obtain ⟨n, rfl⟩ : ∃ n : Nat, b = n := ⟨b.natAbs, by omega⟩
      rw [if_neg (fun z => ha (z.mpr hb)), Int.natAbs_neg, Int.natAbs_natCast, Int.natAbs_natCast, Int.ofNat_tdiv, Int.neg_tdiv]
    · obtain ⟨n, rfl⟩ : ∃ n : Nat, b = -(n : Int) := ⟨b.natAbs, by omega⟩
      rw [if_pos ⟨fun z => absurd z ha, fun z => absurd z hb⟩, Int.natAbs_neg, Int.natAbs_neg, Int.natAbs_natCast, Int.natAbs_natCast, Int.ofNat_tdiv, Int.neg_tdiv_neg]
def q_Q (T B rd : Nat) : Nat := T / B + (if rd = 1 ∧ B ≤ 2 * (T % B) then 1 else 0)
def q_U (top dv : Int) (rd : Nat) : Int := if (0 ≤ top ↔ 0 ≤ dv) then ((q_Q top.natAbs dv.natAbs rd : Nat) : Int) else -((q_Q top.natAbs dv.natAbs rd : Nat) : Int)
theorem U_abs (top dv : Int) (rd : Nat) : (q_U top dv rd).natAbs = q_Q top.natAbs dv.natAbs rd := by
  unfold q_U
  by_cases h : (0 ≤ top ↔ 0 ≤ dv)
  · rw [if_pos h]; omega
  · rw [if_neg h]; omega
theorem Q_le (T B rd : Nat) : q_Q T B rd ≤ T + 1 := by
  unfold q_Q
  have := Nat.div_le_self T B
  by_cases h : rd = 1 ∧ B ≤ 2 * (T % B)
  · rw [if_pos h]; omega
  · rw [if_neg h]; omega
theorem xd_div {post : Int64 → Prop} {top dv : Int} {rd : Nat} (hr : rd ≤ 1) (h0 : dv ≠ 0) (ht : top.natAbs < 9000000000000000000) (hd : dv.natAbs ≤ 2147483648) (hP : post (zL (q_U top dv rd))) : wpX_divided post (zL top) (zL dv) (nI rd) := by
  have hn : ¬ zL dv = 0 := by rw [zl_0]; exact zl_ne (by omega) (by omega) h0
  have hR1 : (top.tmod dv).natAbs = top.natAbs % dv.natAbs := Int.natAbs_tmod top dv
  have hR2 : top.natAbs % dv.natAbs < dv.natAbs := Nat.mod_lt _ (by omega)
  have hq := td_e top dv
  have hqa : (top.tdiv dv).natAbs ≤ top.natAbs := by rw [Int.natAbs_tdiv]; exact Nat.div_le_self _ _
  have plain : (¬ (rd = 1 ∧ dv.natAbs ≤ 2 * (top.natAbs % dv.natAbs))) → post (zL (top.tdiv dv)) := by
    intro z
    unfold q_U q_Q at hP
    rw [if_neg z, Nat.add_zero] at hP
    rw [hq]; exact hP
  unfold wpX_divided
  refine br_f hn ⟨hn, nm_r (zl_div (by omega) (by omega)) ⟨hn, nm_r (zl_rem (by omega) (by omega)) ?_⟩⟩
  rcases (by omega : rd = 0 ∨ rd = 1) with rfl | rfl
  · exact br_t rfl (plain (by omega))
  · refine br_f (by decide) (zb_eq (top.tmod dv) 0 (fun z => plain (by omega)) (fun z => ?_) (by omega) (by omega))
    have K62 : wX_divided_62 post (zL top) (zL dv) (zL (top.tdiv dv)) (zL ((top.natAbs % dv.natAbs : Nat) : Int)) (zL ((dv.natAbs : Nat) : Int)) := by
      unfold wX_divided_62
      rw [zl_sub]
      refine zb_le (((dv.natAbs : Nat) : Int) - ((top.natAbs % dv.natAbs : Nat) : Int)) ((top.natAbs % dv.natAbs : Nat) : Int) (fun y => ?_) (fun y => plain (by omega)) (by omega) (by omega)
      have hq1 : q_Q top.natAbs dv.natAbs 1 = top.natAbs / dv.natAbs + 1 := by
        unfold q_Q
        rw [if_pos ⟨rfl, by omega⟩]
      unfold q_U at hP
      rw [hq1] at hP
      have F : ∀ f1 f2 : Int32, (f2 = f1 ↔ (0 ≤ top ↔ 0 ≤ dv)) → wX_divided_100 post (zL (top.tdiv dv)) f1 f2 := by
        intro f1 f2 hf
        unfold wX_divided_100
        refine br_c (fun s => ?_) (fun s => ?_)
        · rw [hf] at s
          rw [if_pos s] at hP hq
          rw [zl_1, zl_add, hq]
          exact hP
        · rw [hf] at s
          rw [if_neg s] at hP hq
          rw [zl_1, zl_sub, hq]
          have e : -((top.natAbs / dv.natAbs : Nat) : Int) - 1 = -((top.natAbs / dv.natAbs + 1 : Nat) : Int) := by omega
          rw [e]
          exact hP
      refine zb_le 0 top (fun c1 => ?_) (fun c1 => ?_) (by omega) (by omega)
      · unfold wX_divided_89
        refine zb_le 0 dv (fun c2 => F 0 0 ?_) (fun c2 => F 1 0 ?_) (by omega) (by omega)
        · exact ⟨fun _ => ⟨fun _ => c2, fun _ => c1⟩, fun _ => rfl⟩
        · exact ⟨fun q => absurd q (by decide), fun q => by have := q.mp c1; omega⟩
      · unfold wX_divided_89
        refine zb_le 0 dv (fun c2 => F 0 1 ?_) (fun c2 => F 1 1 ?_) (by omega) (by omega)
        · exact ⟨fun q => absurd q (by decide), fun q => by have := q.mpr c2; omega⟩
        · exact ⟨fun _ => ⟨fun q => by omega, fun q => by omega⟩, fun _ => rfl⟩
    have K48 : wX_divided_48 post (zL top) (zL dv) (zL (top.tdiv dv)) (zL ((top.natAbs % dv.natAbs : Nat) : Int)) := by
      unfold wX_divided_48
      refine zb_le 0 dv (fun c => ?_) (fun c => ?_) (by omega) (by omega)
      · have e : zL dv = zL ((dv.natAbs : Nat) : Int) := congrArg zL (by omega)
        have := K62
        rw [← e] at this
        exact this
      · have e : -zL dv = zL ((dv.natAbs : Nat) : Int) := by rw [zl_neg]; exact congrArg zL (by omega)
        rw [e]
        exact K62
    refine zb_le 0 (top.tmod dv) (fun c => ?_) (fun c => ?_) (by omega) (by omega)
    · have e : zL (top.tmod dv) = zL ((top.natAbs % dv.natAbs : Nat) : Int) := congrArg zL (by omega)
      rw [e]; exact K48
    · have e : -zL (top.tmod dv) = zL ((top.natAbs % dv.natAbs : Nat) : Int) := by rw [zl_neg]; exact congrArg zL (by omega)
      rw [e]; exact K48
theorem sc_self (v : Int) (e : Nat) : q_sc v e e = v := by
  unfold q_sc
  rw [if_neg (Nat.lt_irrefl e), Nat.sub_self, pt_0]
  exact Int.mul_one v
section
variable {cn : Int32} {xpa : Int32} {xop : Int32} {pl : Int32} {ck : Int32} {pf : Int32} {pc : Int32} {st : Int32} {ix : Int32} {xst : Int32} {tl : Int32} {ds : Int32} {sto : Nat → Int32} {srt : Nat → Int32} {bas : Nat → Int32} {len : Nat → Int32} {dig : Nat → Int32} {dcm : Nat → Int32} {sgn : Nat → Int32} {tim : Nat → Int32} {sig : Nat → Int32} {op : Nat → Int32} {opX : Nat → Int32} {opY : Nat → Int32} {opZ : Nat → Int32} {tgt : Nat → Int32} {sta : Nat → Int32} {ins : Nat → Int32} {opn : Nat → Int32} {pE : Nat → Int32} {pL : Nat → Int32} {pI : Nat → Int32} {pB : Nat → Int32} {out : Nat → Int32} {pw : Nat → Int64} {wk : Nat → Int32} {ypf : Int32} {yat : Int32} {yen : Int32} {yju : Int32} {yle : Nat → Int32} {ysg : Nat → Int32} {ych : Nat → Int32} {yot : Nat → Int32} {ylo : Nat → Int32} {yba : Nat → Int32} {yfr : Nat → Int32} {yva : Nat → Int32} {xtl : Int32}
theorem yr_176 {post : SY → Prop} {i : Nat} {x11 : Int32} {top dv : Int} {rd : Nat} (hr : rd ≤ 1) (h0 : dv ≠ 0) (ht : top.natAbs < 9000000000000000000) (hd : dv.natAbs ≤ 2147483648) (hK : wY_reckon_259 post (nI i) x11 (zL top) (zL dv) (lN (q_Q top.natAbs dv.natAbs rd)) cn pl ck ypf yat st ix ds yen tl yju sto srt bas yle dcm tim sig ysg op opX opY opZ out ych yot ylo pE pL yba yfr yva) : wY_reckon_176 post (nI rd) (nI i) x11 (zL top) (zL dv) cn pl ck ypf yat st ix ds yen tl yju sto srt bas yle dcm tim sig ysg op opX opY opZ out ych yot ylo pE pL yba yfr yva := by
  have hn : ¬ zL dv = 0 := by rw [zl_0]; exact zl_ne (by omega) (by omega) h0
  have hR2 : top.natAbs % dv.natAbs < dv.natAbs := Nat.mod_lt _ (by omega)
  have hB : ¬ lN dv.natAbs = 0 := by rw [show (0 : Int64) = lN 0 from rfl, pk_lEQ (by omega) (by omega)]; omega
  have K221 : wY_reckon_221 post (nI rd) (nI i) x11 (zL top) (zL dv) (lN top.natAbs) (lN dv.natAbs) cn pl ck ypf yat st ix ds yen tl yju sto srt bas yle dcm tim sig ysg op opX opY opZ out ych yot ylo pE pL yba yfr yva := by
    unfold wY_reckon_221
    refine ⟨hB, nm_r (pk_lDiv (by omega) (by omega) (by omega)) ⟨hB, nm_r (pk_lRem (by omega) (by omega) (by omega)) ?_⟩⟩
    unfold q_Q at hK
    rcases (by omega : rd = 0 ∨ rd = 1) with rfl | rfl
    · rw [if_neg (by omega), Nat.add_zero] at hK
      exact br_t rfl hK
    · refine br_f (by decide) ?_
      rw [show (2 : Int64) = lN 2 from rfl, lN_mul]
      refine br_c (fun z => ?_) (fun z => ?_)
      · rw [pk_lLT (by omega) (by omega)] at z
        rw [if_neg (by omega), Nat.add_zero] at hK
        exact hK
      · rw [pk_lLT (by omega) (by omega)] at z
        rw [if_pos (by omega)] at hK
        exact nm_r (lN_1 _) hK
  have K204 : wY_reckon_204 post (nI rd) (nI i) x11 (zL top) (zL dv) (lN top.natAbs) cn pl ck ypf yat st ix ds yen tl yju sto srt bas yle dcm tim sig ysg op opX opY opZ out ych yot ylo pE pL yba yfr yva := by
    unfold wY_reckon_204
    refine zb_le 0 dv (fun c => ?_) (fun c => ?_) (by omega) (by omega)
    · have e : zL dv = lN dv.natAbs := by rw [← zl_n]; exact congrArg zL (by omega)
      have := K221
      rw [← e] at this
      exact this
    · have e : -zL dv = lN dv.natAbs := by rw [zl_neg, ← zl_n]; exact congrArg zL (by omega)
      rw [e]; exact K221
  unfold wY_reckon_176
  refine br_f hn (zb_le 0 top (fun c => ?_) (fun c => ?_) (by omega) (by omega))
  · have e : zL top = lN top.natAbs := by rw [← zl_n]; exact congrArg zL (by omega)
    have := K204
    rw [← e] at this
    exact this
  · have e : -zL top = lN top.natAbs := by rw [zl_neg, ← zl_n]; exact congrArg zL (by omega)
    rw [e]; exact K204
theorem cd_sim {i b w d e g t l h el p : Nat} {top dv : Int} {rd : Nat} (H : q_It srt bas len dig dcm sgn tim sig yle ysg i 1 b w d e g t l h) (A : q_At b w t ix el p) (hs : StOK sto) (hw : PwOK pw) (hr : rd ≤ 1) (h0 : dv ≠ 0) (ht : top.natAbs < 9000000000000000000) (hd : dv.natAbs ≤ 2147483648) :
    ∃ (f : Nat) (s' wk' yot' : Nat → Int32), f ≤ 1 ∧ StOK s' ∧ (∀ post : SX → Prop, post (cn, xpa, xop, pl, ck, pf, pc, st, ix, xst, nI f, ds, s', srt, bas, len, dig, dcm, sgn, tim, sig, op, opX, opY, opZ, tgt, sta, ins, opn, pE, pL, pI, pB, out, pw, wk') → wX_calculate_215 post (nI i) (nI rd) (zL top) (zL dv) cn xpa xop pl ck pf pc st ix xst xtl ds sto srt bas len dig dcm sgn tim sig op opX opY opZ tgt sta ins opn pE pL pI pB out pw wk) ∧ (∀ post : SY → Prop, post (cn, pl, ck, ypf, yat, st, ix, ds, yen, nI f, yju, s', srt, bas, yle, dcm, tim, sig, ysg, op, opX, opY, opZ, out, ych, yot', ylo, pE, pL, yba, yfr, yva) → wY_reckon_176 post (nI rd) (nI i) (nI e) (zL top) (zL dv) cn pl ck ypf yat st ix ds yen tl yju sto srt bas yle dcm tim sig ysg op opX opY opZ out ych yot ylo pE pL yba yfr yva) := by
  have hi : i < 12 := H.2.1.1
  have hdg := H.1.2.2.2.1
  have hl := H.1.2.2.2.2.2.2.2.1
  have he9 : e ≤ 9 ∧ d ≤ 9 ∧ l = d := by have := H.2; omega
  have hin : vp_in (nI i) 12 := vp_in_nI hi (by omega)
  have hc : (nI i).toNatClampNeg = i := nI_clamp (by omega)
  have hin19 : vp_in (nI d) 19 := vp_in_nI (by omega) (by omega)
  have p9 := pt_9 he9.2.1
  have pp := pt_pos d
  have Ua := U_abs top dv rd
  have Ql := Q_le top.natAbs dv.natAbs rd
  by_cases big : pTen d ≤ q_Q top.natAbs dv.natAbs rd
  · refine ⟨1, sto, wk, yot, by omega, hs, fun post hP => ?_, fun post hP => ?_⟩
    · have K : wX_calculate_262 post (nI i) (zL (q_U top dv rd)) cn xpa xop pl ck pf pc st ix xst xtl ds sto srt bas len dig dcm sgn tim sig op opX opY opZ tgt sta ins opn pE pL pI pB out pw wk := by
        unfold wX_calculate_262 wX_calculate_267
        exact ⟨rfl, rfl, br_f (by decide) hP⟩
      unfold wX_calculate_215
      refine xd_div hr h0 ht hd ⟨hin, ?_⟩
      rw [hc, hdg, nI_clamp (n := d) (by omega), hw d (by omega), zl_neg]
      refine ⟨hin19, zb_le (pTen d : Nat) (q_U top dv rd) (fun z => K) (fun z => ⟨hin, hin19, zb_lt (-((pTen d : Nat) : Int)) (q_U top dv rd) (fun y => ?_) (fun y => K) (by omega) (by omega)⟩) (by omega) (by omega)⟩
      omega
    · refine yr_176 hr h0 ht hd ?_
      unfold wY_reckon_259
      refine ⟨hin, ?_⟩
      rw [hc, hl, he9.2.2]
      refine yt_ten (by omega) ?_
      rw [zl_n]
      refine br_f (fun z => by have := (pk_lLT (by omega) (by omega)).mp z; omega) ?_
      unfold wY_reckon_281
      exact ⟨rfl, rfl, br_f (by decide) hP⟩
  · obtain ⟨s', wk', yot', a1, a2, a3⟩ := sr_sim (a := e) (v := q_U top dv rd) (cn := cn) (xpa := xpa) (xop := xop) (pl := pl) (ck := ck) (pf := pf) (pc := pc) (st := st) (ix := ix) (xst := xst) (tl := 0) (ds := ds) (sto := sto) (srt := srt) (bas := bas) (len := len) (dig := dig) (dcm := dcm) (sgn := sgn) (tim := tim) (sig := sig) (op := op) (opX := opX) (opY := opY) (opZ := opZ) (tgt := tgt) (sta := sta) (ins := ins) (opn := opn) (pE := pE) (pL := pL) (pI := pI) (pB := pB) (out := out) (pw := pw) (wk := wk) (ypf := ypf) (yat := yat) (yen := yen) (yju := yju) (yle := yle) (ysg := ysg) (ych := ych) (yot := yot) (ylo := ylo) (yba := yba) (yfr := yfr) (yva := yva) H (by omega) A hs hw (by omega) he9.1
    rw [sc_self] at a2
    refine ⟨0, s', wk', yot', by omega, a1, fun post hP => ?_, fun post hP => ?_⟩
    · have K : wX_calculate_267 post (nI i) (zL (q_U top dv rd)) 0 cn xpa xop pl ck pf pc st ix xst xtl ds sto srt bas len dig dcm sgn tim sig op opX opY opZ tgt sta ins opn pE pL pI pB out pw wk := by
        unfold wX_calculate_267
        exact ⟨rfl, rfl, br_t rfl (a2 _ hP)⟩
      unfold wX_calculate_215
      refine xd_div hr h0 ht hd ⟨hin, ?_⟩
      rw [hc, hdg, nI_clamp (n := d) (by omega), hw d (by omega), zl_neg]
      refine ⟨hin19, zb_le (pTen d : Nat) (q_U top dv rd) (fun z => ?_) (fun z => ⟨hin, hin19, zb_lt (-((pTen d : Nat) : Int)) (q_U top dv rd) (fun y => K) (fun y => ?_) (by omega) (by omega)⟩) (by omega) (by omega)⟩
      · omega
      · omega
    · refine yr_176 hr h0 ht hd ?_
      unfold wY_reckon_259
      refine ⟨hin, ?_⟩
      rw [hc, hl, he9.2.2]
      refine yt_ten (by omega) ?_
      rw [zl_n]
      refine br_t ((pk_lLT (by omega) (by omega)).mpr (by omega)) ?_
      have S : ∀ f1 f2 : Int32, (f2 = f1 ↔ (0 ≤ top ↔ 0 ≤ dv)) → wY_reckon_324 post (nI e) (lN (q_Q top.natAbs dv.natAbs rd)) f1 f2 (nI el) (nI i) cn pl ck ypf yat st ix ds yen 0 yju sto srt bas yle dcm tim sig ysg op opX opY opZ out ych yot ylo pE pL yba yfr yva := by
        intro f1 f2 hf
        have U := a3 _ hP
        unfold q_U at U
        unfold wY_reckon_324
        refine br_c (fun s => ?_) (fun s => ?_)
        · rw [hf] at s
          rw [if_pos s, zl_n] at U
          exact U
        · rw [hf] at s
          rw [if_neg s, ← zl_neg, zl_n] at U
          exact U
      unfold wY_reckon_281
      refine ⟨rfl, rfl, br_t rfl (ya_el H A (zb_le 0 top (fun c1 => ?_) (fun c1 => ?_) (by omega) (by omega)))⟩
      · unfold wY_reckon_312
        refine zb_le 0 dv (fun c2 => S 0 0 ?_) (fun c2 => S 1 0 ?_) (by omega) (by omega)
        · exact ⟨fun _ => ⟨fun _ => c2, fun _ => c1⟩, fun _ => rfl⟩
        · exact ⟨fun q => absurd q (by decide), fun q => by have := q.mp c1; omega⟩
      · unfold wY_reckon_312
        refine zb_le 0 dv (fun c2 => S 0 1 ?_) (fun c2 => S 1 1 ?_) (by omega) (by omega)
        · exact ⟨fun q => absurd q (by decide), fun q => by have := q.mpr c2; omega⟩
        · exact ⟨fun _ => ⟨fun q => by omega, fun q => by omega⟩, fun _ => rfl⟩
end
end
section
theorem mul_b {a b : Int} {A B : Nat} (ha : a.natAbs ≤ A) (hb : b.natAbs ≤ B) : (a * b).natAbs ≤ A * B := by
  rw [Int.natAbs_mul]
  exact Nat.mul_le_mul ha hb
section
variable {cn : Int32} {xpa : Int32} {xop : Int32} {pl : Int32} {ck : Int32} {pf : Int32} {pc : Int32} {st : Int32} {ix : Int32} {xst : Int32} {tl : Int32} {ds : Int32} {sto : Nat → Int32} {srt : Nat → Int32} {bas : Nat → Int32} {len : Nat → Int32} {dig : Nat → Int32} {dcm : Nat → Int32} {sgn : Nat → Int32} {tim : Nat → Int32} {sig : Nat → Int32} {op : Nat → Int32} {opX : Nat → Int32} {opY : Nat → Int32} {opZ : Nat → Int32} {tgt : Nat → Int32} {sta : Nat → Int32} {ins : Nat → Int32} {opn : Nat → Int32} {pE : Nat → Int32} {pL : Nat → Int32} {pI : Nat → Int32} {pB : Nat → Int32} {out : Nat → Int32} {pw : Nat → Int64} {wk : Nat → Int32} {ypf : Int32} {yat : Int32} {yen : Int32} {yju : Int32} {yle : Nat → Int32} {ysg : Nat → Int32} {ych : Nat → Int32} {yot : Nat → Int32} {ylo : Nat → Int32} {yba : Nat → Int32} {yfr : Nat → Int32} {yva : Nat → Int32}
theorem cm_sim {i b w d e g t l h el p : Nat} {a bv : Int} {hw' rd D : Nat} (H : q_It srt bas len dig dcm sgn tim sig yle ysg i 1 b w d e g t l h) (A : q_At b w t ix el p) (hs : StOK sto) (hw : PwOK pw) (hh : hw' < 4) (hr : rd ≤ 1) (ha : a.natAbs ≤ 2147483648) (hb : bv.natAbs < 1000000000) (hD : D ≤ 9) :
    ∃ (f : Nat) (s' wk' yot' : Nat → Int32), f ≤ 1 ∧ StOK s' ∧ (∀ post : SX → Prop, post (cn, xpa, xop, pl, ck, pf, pc, st, ix, xst, nI f, ds, s', srt, bas, len, dig, dcm, sgn, tim, sig, op, opX, opY, opZ, tgt, sta, ins, opn, pE, pL, pI, pB, out, pw, wk') → ((nI (hw' + 2) = 5 → ((zL a = 0 → wX_calculate_78 post (nI i) (nI rd) (nI (hw' + 2)) (zL a) (zL bv) (nI D) (nI e) 1 cn xpa xop pl ck pf pc st ix xst tl ds sto srt bas len dig dcm sgn tim sig op opX opY opZ tgt sta ins opn pE pL pI pB out pw wk) ∧ (¬ zL a = 0 → wX_calculate_77 post (nI i) (nI rd) (nI (hw' + 2)) (zL a) (zL bv) (nI D) (nI e) cn xpa xop pl ck pf pc st ix xst tl ds sto srt bas len dig dcm sgn tim sig op opX opY opZ tgt sta ins opn pE pL pI pB out pw wk))) ∧ (¬ nI (hw' + 2) = 5 → wX_calculate_77 post (nI i) (nI rd) (nI (hw' + 2)) (zL a) (zL bv) (nI D) (nI e) cn xpa xop pl ck pf pc st ix xst tl ds sto srt bas len dig dcm sgn tim sig op opX opY opZ tgt sta ins opn pE pL pI pB out pw wk))) ∧ (∀ post : SY → Prop, post (cn, pl, ck, ypf, yat, st, ix, ds, yen, nI f, yju, s', srt, bas, yle, dcm, tim, sig, ysg, op, opX, opY, opZ, out, ych, yot', ylo, pE, pL, yba, yfr, yva) → wY_reckon_54 post (nI hw') (nI rd) (nI i) (zL a) (zL bv) (nI D) cn pl ck ypf yat st ix ds yen tl yju sto srt bas yle dcm tim sig ysg op opX opY opZ out ych yot ylo pE pL yba yfr yva) := by
  have hi : i < 12 := H.2.1.1
  have he := H.1.2.2.2.2.1
  have he9 : e ≤ 9 := by have := H.2; omega
  have hin : vp_in (nI i) 12 := vp_in_nI hi (by omega)
  have hc : (nI i).toNatClampNeg = i := nI_clamp (by omega)
  have pD := pt_9 hD
  have ppD := pt_pos D
  have hinD : vp_in (nI D) 19 := vp_in_nI (by omega) (by omega)
  have e10 : ∀ k, k ≤ 9 → ((pTen k : Nat) : Int).natAbs ≤ 1000000000 := fun k hk => by have := pt_9 hk; omega
  have Y54 : ∀ post : SY → Prop, (∀ z0 : Nat, z0 = (if D ≤ e then e else D) → wY_reckon_79 post (nI hw') (nI rd) (nI i) (zL a) (zL bv) (nI D) (nI e) (nI z0) cn pl ck ypf yat st ix ds yen tl yju sto srt bas yle dcm tim sig ysg op opX opY opZ out ych yot ylo pE pL yba yfr yva) → wY_reckon_54 post (nI hw') (nI rd) (nI i) (zL a) (zL bv) (nI D) cn pl ck ypf yat st ix ds yen tl yju sto srt bas yle dcm tim sig ysg op opX opY opZ out ych yot ylo pE pL yba yfr yva := by
    intro post K
    unfold wY_reckon_54
    refine ⟨hin, ?_⟩
    rw [hc, he]
    exact nm_e (pk_le D e (fun z => K e (by rw [if_pos z])) (fun z => K D (by rw [if_neg (by omega)])))
  rcases (by omega : hw' = 0 ∨ hw' = 1 ∨ hw' = 2 ∨ hw' = 3) with h4 | h4 | rfl | rfl
  rotate_left 2
  · -- a product
    have hm := mul_b (A := 2147483648) (B := 1000000000) ha (by omega : bv.natAbs ≤ 1000000000)
    obtain ⟨f, s', wk', yot', f1, so, hX, hY⟩ := cd_sim (top := a * bv) (dv := ((pTen D : Nat) : Int)) (rd := rd) (xtl := 0) (cn := cn) (xpa := xpa) (xop := xop) (pl := pl) (ck := ck) (pf := pf) (pc := pc) (st := st) (ix := ix) (xst := xst) (tl := tl) (ds := ds) (sto := sto) (srt := srt) (bas := bas) (len := len) (dig := dig) (dcm := dcm) (sgn := sgn) (tim := tim) (sig := sig) (op := op) (opX := opX) (opY := opY) (opZ := opZ) (tgt := tgt) (sta := sta) (ins := ins) (opn := opn) (pE := pE) (pL := pL) (pI := pI) (pB := pB) (out := out) (pw := pw) (wk := wk) (ypf := ypf) (yat := yat) (yen := yen) (yju := yju) (yle := yle) (ysg := ysg) (ych := ych) (yot := yot) (ylo := ylo) (yba := yba) (yfr := yfr) (yva := yva) H A hs hw hr (by omega) (by omega) (by omega)
    refine ⟨f, s', wk', yot', f1, so, fun post hP => ?_, fun post hP => Y54 post (fun z0 _ => ?_)⟩
    · refine br_f (by decide) ?_
      unfold wX_calculate_77 wX_calculate_78
      refine ⟨rfl, rfl, br_t rfl (br_t rfl (nm_r (zl_mul _ _) ⟨hinD, ?_⟩))⟩
      rw [nI_clamp (n := D) (by omega), hw D (by omega)]
      exact nm_e (hX post hP)
    · unfold wY_reckon_79
      have K := hY post hP
      rw [Int.mul_comm] at K
      exact br_t (by decide) (br_t rfl (nm_r (zl_mul _ _) (yt_ten (by omega) K)))
  · -- a quotient
    by_cases a0 : a = 0
    · subst a0
      refine ⟨1, sto, wk, yot, by omega, hs, fun post hP => ?_, fun post hP => Y54 post (fun z0 _ => ?_)⟩
      · refine br_t rfl (br_t zl_0.symm ?_)
        unfold wX_calculate_78
        exact ⟨rfl, rfl, br_f (by decide) hP⟩
      · unfold wY_reckon_79
        refine br_t (by decide) (br_f (by decide) (yt_ten (by omega) (nm_r (zl_mul _ _) ?_)))
        unfold wY_reckon_176
        exact br_t zl_0.symm hP
    · have hm := mul_b (A := 1000000000) (B := 1000000000) (by omega : bv.natAbs ≤ 1000000000) (e10 D hD)
      obtain ⟨f, s', wk', yot', f1, so, hX, hY⟩ := cd_sim (top := bv * ((pTen D : Nat) : Int)) (dv := a) (rd := rd) (xtl := 0) (cn := cn) (xpa := xpa) (xop := xop) (pl := pl) (ck := ck) (pf := pf) (pc := pc) (st := st) (ix := ix) (xst := xst) (tl := tl) (ds := ds) (sto := sto) (srt := srt) (bas := bas) (len := len) (dig := dig) (dcm := dcm) (sgn := sgn) (tim := tim) (sig := sig) (op := op) (opX := opX) (opY := opY) (opZ := opZ) (tgt := tgt) (sta := sta) (ins := ins) (opn := opn) (pE := pE) (pL := pL) (pI := pI) (pB := pB) (out := out) (pw := pw) (wk := wk) (ypf := ypf) (yat := yat) (yen := yen) (yju := yju) (yle := yle) (ysg := ysg) (ych := ych) (yot := yot) (ylo := ylo) (yba := yba) (yfr := yfr) (yva := yva) H A hs hw hr a0 (by omega) (by omega)
      refine ⟨f, s', wk', yot', f1, so, fun post hP => ?_, fun post hP => Y54 post (fun z0 _ => ?_)⟩
      · refine br_t rfl (br_f (by rw [zl_0]; exact zl_ne (by omega) (by omega) a0) ?_)
        unfold wX_calculate_77 wX_calculate_78
        refine ⟨rfl, rfl, br_t rfl (br_f (by decide) (br_t rfl ⟨hinD, ?_⟩))⟩
        rw [nI_clamp (n := D) (by omega), hw D (by omega)]
        exact nm_r (zl_mul _ _) (hX post hP)
      · unfold wY_reckon_79
        exact br_t (by decide) (br_f (by decide) (yt_ten (by omega) (nm_r (zl_mul _ _) (hY post hP))))
  all_goals
    obtain ⟨s, s1, s2, s3, s4⟩ : ∃ s, D ≤ s ∧ e ≤ s ∧ s ≤ 9 ∧ s = (if D ≤ e then e else D) := by
      by_cases z : D ≤ e
      · exact ⟨e, z, by omega, he9, by rw [if_pos z]⟩
      · exact ⟨D, by omega, by omega, hD, by rw [if_neg z]⟩
    have qa : q_sc a D s = a * ((pTen (s - D) : Nat) : Int) := by unfold q_sc; rw [if_neg (by omega)]
    have qb : q_sc bv e s = bv * ((pTen (s - e) : Nat) : Int) := by unfold q_sc; rw [if_neg (by omega)]
    have m1 := mul_b (A := 2147483648) (B := 1000000000) ha (e10 (s - D) (by omega))
    have m2 := mul_b (A := 1000000000) (B := 1000000000) (by omega : bv.natAbs ≤ 1000000000) (e10 (s - e) (by omega))
    have ps := pt_9 (a := s - e) (by omega)
    have pps := pt_pos (s - e)
  · subst h4
    obtain ⟨f, s', wk', yot', f1, so, hX, hY⟩ := cd_sim (top := bv * ((pTen (s - e) : Nat) : Int) + a * ((pTen (s - D) : Nat) : Int)) (dv := ((pTen (s - e) : Nat) : Int)) (rd := rd) (xtl := 0) (cn := cn) (xpa := xpa) (xop := xop) (pl := pl) (ck := ck) (pf := pf) (pc := pc) (st := st) (ix := ix) (xst := xst) (tl := tl) (ds := ds) (sto := sto) (srt := srt) (bas := bas) (len := len) (dig := dig) (dcm := dcm) (sgn := sgn) (tim := tim) (sig := sig) (op := op) (opX := opX) (opY := opY) (opZ := opZ) (tgt := tgt) (sta := sta) (ins := ins) (opn := opn) (pE := pE) (pL := pL) (pI := pI) (pB := pB) (out := out) (pw := pw) (wk := wk) (ypf := ypf) (yat := yat) (yen := yen) (yju := yju) (yle := yle) (ysg := ysg) (ych := ych) (yot := yot) (ylo := ylo) (yba := yba) (yfr := yfr) (yva := yva) H A hs hw hr (by omega) (by omega) (by omega)
    refine ⟨f, s', wk', yot', f1, so, fun post hP => ?_, fun post hP => Y54 post (fun z0 ez => ?_)⟩
    · have K : wX_calculate_156 post (nI i) (nI rd) (nI (0 + 2)) (zL a) (zL bv) (nI D) (nI e) (nI s) cn xpa xop pl ck pf pc st ix xst 0 ds sto srt bas len dig dcm sgn tim sig op opX opY opZ tgt sta ins opn pE pL pI pB out pw wk := by
        unfold wX_calculate_156
        refine xa_sc hw (by omega) (by omega) (by omega) (xa_sc hw (by omega) (by omega) (by omega) (br_t rfl ?_))
        rw [qa, qb, zl_add]
        unfold wX_calculate_201
        rw [pk_sub s2, nI_clamp (n := s - e) (by omega), hw _ (by omega)]
        exact ⟨vp_in_nI (by omega) (by omega), nm_e (hX post hP)⟩
      refine br_f (by decide) ?_
      unfold wX_calculate_77 wX_calculate_78
      refine ⟨rfl, rfl, br_t rfl (br_f (by decide) (br_f (by decide) (pk_le D e (fun z => ?_) (fun z => ?_))))⟩
      · rw [s4, if_pos z] at K; exact K
      · rw [s4, if_neg (by omega)] at K; exact K
    · have ezs : z0 = s := by rw [ez, s4]
      subst ezs
      unfold wY_reckon_79
      refine br_f (by decide) ?_
      rw [pk_sub s2]
      refine yt_ten (by omega) (br_t rfl ?_)
      rw [zl_mul]
      unfold wY_reckon_115
      rw [pk_sub s1, pk_sub s2]
      refine yt_ten (by omega) (nm_r ?_ (yt_ten (by omega) (hY post hP)))
      rw [zl_mul, zl_add]
  · subst h4
    obtain ⟨f, s', wk', yot', f1, so, hX, hY⟩ := cd_sim (top := bv * ((pTen (s - e) : Nat) : Int) - a * ((pTen (s - D) : Nat) : Int)) (dv := ((pTen (s - e) : Nat) : Int)) (rd := rd) (xtl := 0) (cn := cn) (xpa := xpa) (xop := xop) (pl := pl) (ck := ck) (pf := pf) (pc := pc) (st := st) (ix := ix) (xst := xst) (tl := tl) (ds := ds) (sto := sto) (srt := srt) (bas := bas) (len := len) (dig := dig) (dcm := dcm) (sgn := sgn) (tim := tim) (sig := sig) (op := op) (opX := opX) (opY := opY) (opZ := opZ) (tgt := tgt) (sta := sta) (ins := ins) (opn := opn) (pE := pE) (pL := pL) (pI := pI) (pB := pB) (out := out) (pw := pw) (wk := wk) (ypf := ypf) (yat := yat) (yen := yen) (yju := yju) (yle := yle) (ysg := ysg) (ych := ych) (yot := yot) (ylo := ylo) (yba := yba) (yfr := yfr) (yva := yva) H A hs hw hr (by omega) (by omega) (by omega)
    refine ⟨f, s', wk', yot', f1, so, fun post hP => ?_, fun post hP => Y54 post (fun z0 ez => ?_)⟩
    · have K : wX_calculate_156 post (nI i) (nI rd) (nI (1 + 2)) (zL a) (zL bv) (nI D) (nI e) (nI s) cn xpa xop pl ck pf pc st ix xst 0 ds sto srt bas len dig dcm sgn tim sig op opX opY opZ tgt sta ins opn pE pL pI pB out pw wk := by
        unfold wX_calculate_156
        refine xa_sc hw (by omega) (by omega) (by omega) (xa_sc hw (by omega) (by omega) (by omega) (br_f (by decide) ?_))
        rw [qa, qb, zl_sub]
        unfold wX_calculate_201
        rw [pk_sub s2, nI_clamp (n := s - e) (by omega), hw _ (by omega)]
        exact ⟨vp_in_nI (by omega) (by omega), nm_e (hX post hP)⟩
      refine br_f (by decide) ?_
      unfold wX_calculate_77 wX_calculate_78
      refine ⟨rfl, rfl, br_t rfl (br_f (by decide) (br_f (by decide) (pk_le D e (fun z => ?_) (fun z => ?_))))⟩
      · rw [s4, if_pos z] at K; exact K
      · rw [s4, if_neg (by omega)] at K; exact K
    · have ezs : z0 = s := by rw [ez, s4]
      subst ezs
      unfold wY_reckon_79
      refine br_f (by decide) ?_
      rw [pk_sub s2]
      refine yt_ten (by omega) (br_f (by decide) ?_)
      rw [zl_mul, zl_neg]
      unfold wY_reckon_115
      rw [pk_sub s1, pk_sub s2]
      refine yt_ten (by omega) (nm_r ?_ (yt_ten (by omega) (hY post hP)))
      rw [zl_mul, zl_add, Int.neg_mul]
      rfl
theorem ca_sim {x y z : Int32} {hw' rd : Nat} (hh : hw' < 4) (hr : rd ≤ 1) (hx : x = 16 ∨ q_Use srt bas len dig dcm sgn tim sig yle ysg ix x (fun k => k = 1)) (hy : q_Use srt bas len dig dcm sgn tim sig yle ysg ix y (fun k => k = 1)) (hs : StOK sto) (hw : PwOK pw) :
    ∃ (f : Nat) (s' wk' yot' : Nat → Int32), f ≤ 1 ∧ StOK s' ∧ (∀ post : SX → Prop, post (cn, xpa, xop, pl, ck, pf, pc, st, ix, xst, nI f, ds, s', srt, bas, len, dig, dcm, sgn, tim, sig, op, opX, opY, opZ, tgt, sta, ins, opn, pE, pL, pI, pB, out, pw, wk') → wpX_calculate post (cn, xpa, xop, pl, ck, pf, pc, st, ix, xst, tl, ds, sto, srt, bas, len, dig, dcm, sgn, tim, sig, op, opX, opY, opZ, tgt, sta, ins, opn, pE, pL, pI, pB, out, pw, wk) (nI (hw' + 2 + 4 * rd)) x y z) ∧ (∀ post : SY → Prop, post (cn, pl, ck, ypf, yat, st, ix, ds, yen, nI f, yju, s', srt, bas, yle, dcm, tim, sig, ysg, op, opX, opY, opZ, out, ych, yot', ylo, pE, pL, yba, yfr, yva) → wpY_reckon post (cn, pl, ck, ypf, yat, st, ix, ds, yen, tl, yju, sto, srt, bas, yle, dcm, tim, sig, ysg, op, opX, opY, opZ, out, ych, yot, ylo, pE, pL, yba, yfr, yva) (nI hw') (nI rd) x y z) := by
  obtain ⟨i, k, b, w, d, e, g, t, l, h, el, p, rfl, H, A, rfl⟩ := hy
  have hp := aq_in H.2.1.2.2.2.1 A
  have hi : i < 12 := H.2.1.1
  have he := H.1.2.2.2.2.1
  have hin : vp_in (nI i) 12 := vp_in_nI hi (by omega)
  have hc : (nI i).toNatClampNeg = i := nI_clamp (by omega)
  have vb := it_vb (s := sto) (p := p) H
  have va : b + (el - 1) * w = p := A.2.2.1.symm
  obtain ⟨a, D, a1, D1, Xo, Xp, Yo⟩ : ∃ (a : Int) (D : Nat), a.natAbs ≤ 2147483648 ∧ D ≤ 9 ∧ (∀ post : Int64 → Prop, post (zL a) → wpX_operand post (cn, xpa, xop, pl, ck, pf, pc, st, ix, xst, tl, ds, sto, srt, bas, len, dig, dcm, sgn, tim, sig, op, opX, opY, opZ, tgt, sta, ins, opn, pE, pL, pI, pB, out, pw, wk) x z) ∧ (∀ post : Int32 → Prop, post (nI D) → wpX_pointOf post (cn, xpa, xop, pl, ck, pf, pc, st, ix, xst, tl, ds, sto, srt, bas, len, dig, dcm, sgn, tim, sig, op, opX, opY, opZ, tgt, sta, ins, opn, pE, pL, pI, pB, out, pw, wk) x) ∧ (∀ post : SY → Prop, wY_reckon_54 post (nI hw') (nI rd) (nI i) (zL a) (zL (q_val sto 1 g w p)) (nI D) cn pl ck ypf yat st ix ds yen tl yju sto srt bas yle dcm tim sig ysg op opX opY opZ out ych yot ylo pE pL yba yfr yva → wpY_reckon post (cn, pl, ck, ypf, yat, st, ix, ds, yen, tl, yju, sto, srt, bas, yle, dcm, tim, sig, ysg, op, opX, opY, opZ, out, ych, yot, ylo, pE, pL, yba, yfr, yva) (nI hw') (nI rd) x (nI i) z) := by
    have Y22 : ∀ (post : SY → Prop) (a : Int), ((x = 16 → (wY_reckon_54 post (nI hw') (nI rd) (nI i) (zL a) (zL (q_val sto 1 g w p)) 0 cn pl ck ypf yat st ix ds yen tl yju sto srt bas yle dcm tim sig ysg op opX opY opZ out ych yot ylo pE pL yba yfr yva)) ∧ (¬ x = 16 → (vp_in x 12 ∧ (wY_reckon_54 post (nI hw') (nI rd) (nI i) (zL a) (zL (q_val sto 1 g w p)) (dcm x.toNatClampNeg) cn pl ck ypf yat st ix ds yen tl yju sto srt bas yle dcm tim sig ysg op opX opY opZ out ych yot ylo pE pL yba yfr yva)))) → wY_reckon_22 post (nI hw') (nI rd) x (nI i) (zL a) cn pl ck ypf yat st ix ds yen tl yju sto srt bas yle dcm tim sig ysg op opX opY opZ out ych yot ylo pE pL yba yfr yva := by
      intro post a K
      unfold wY_reckon_22
      refine ya_el H A (ya_val H hs A.1 (by rw [va]; exact hp) ?_)
      rw [va]
      exact K
    rcases hx with rfl | ⟨i', k', b', w', d', e', g', t', l', h', el', p', rfl, H', A', rfl⟩
    · refine ⟨z.toInt, 0, zl_abs z, by omega, fun post hP => xa_op16 hP, fun post hP => xa_pt16 hP, fun post K => ?_⟩
      unfold wpY_reckon
      exact br_t rfl (Y22 post z.toInt (br_t rfl K))
    · have hi' : i' < 12 := H'.2.1.1
      have he' := H'.1.2.2.2.2.1
      have he9' : e' ≤ 9 := by have := H'.2.1; omega
      have hc' : (nI i').toNatClampNeg = i' := nI_clamp (by omega)
      have hp' := aq_in H'.2.1.2.2.2.1 A'
      have va' : b' + (el' - 1) * w' = p' := A'.2.2.1.symm
      have vb' := it_vb (s := sto) (p := p') H'
      refine ⟨q_val sto 1 g' w' p', e', by omega, he9', fun post hP => xa_opnd H' hs A' hP, fun post hP => xa_pt H' hP, fun post K => ?_⟩
      unfold wpY_reckon
      refine br_f (us_16 hi') (ya_el H' A' (ya_val H' hs A'.1 (by rw [va']; exact hp') ?_))
      rw [va']
      refine Y22 post _ (br_f (us_16 hi') ⟨vp_in_nI hi' (by omega), ?_⟩)
      rw [hc', he']
      exact K
  obtain ⟨f, s', wk', yot', f1, so, hX, hY⟩ := cm_sim (a := a) (bv := q_val sto 1 g w p) (hw' := hw') (rd := rd) (D := D) (cn := cn) (xpa := xpa) (xop := xop) (pl := pl) (ck := ck) (pf := pf) (pc := pc) (st := st) (ix := ix) (xst := xst) (tl := tl) (ds := ds) (sto := sto) (srt := srt) (bas := bas) (len := len) (dig := dig) (dcm := dcm) (sgn := sgn) (tim := tim) (sig := sig) (op := op) (opX := opX) (opY := opY) (opZ := opZ) (tgt := tgt) (sta := sta) (ins := ins) (opn := opn) (pE := pE) (pL := pL) (pI := pI) (pB := pB) (out := out) (pw := pw) (wk := wk) (ypf := ypf) (yat := yat) (yen := yen) (yju := yju) (yle := yle) (ysg := ysg) (ych := ych) (yot := yot) (ylo := ylo) (yba := yba) (yfr := yfr) (yva := yva) H A hs hw hh hr a1 (by omega) D1
  refine ⟨f, s', wk', yot', f1, so, fun post hP => ?_, fun post hP => Yo post (hY post hP)⟩
  have K24 : wX_calculate_24 post x (nI i) z (nI rd) (nI (hw' + 2)) cn xpa xop pl ck pf pc st ix xst tl ds sto srt bas len dig dcm sgn tim sig op opX opY opZ tgt sta ins opn pE pL pI pB out pw wk := by
    unfold wX_calculate_24
    refine Xo _ (xa_opnd H hs A (Xp _ ⟨hin, ?_⟩))
    rw [hc, he]
    exact nm_e (hX post hP)
  unfold wpX_calculate
  rcases (by omega : rd = 0 ∨ rd = 1) with rfl | rfl
  · refine br_t (nI_le (b := 5) (by omega) (by omega)) ?_
    unfold wX_calculate_10
    exact br_t rfl K24
  · refine br_f (nI_ge (a := 5) (by omega) (by omega)) ?_
    unfold wX_calculate_10
    refine br_f (by decide) ?_
    rw [show nI (hw' + 2 + 4 * 1) - 4 = nI (hw' + 2) from pk_sub (a := hw' + 2 + 4 * 1) (b := 4) (by omega)]
    exact K24
end
end
section
/-! the program's structure: paragraphs counted, ends, partners -/
def OpOK (op : Nat → Int32) : Prop := ∀ j, ∃ o, o ≤ 22 ∧ op j = nI o
theorem oc_e {op : Nat → Int32} (h : OpOK op) (j : Nat) : op j = nI (cd op j) := by
  obtain ⟨c, hc, e⟩ := h j
  unfold cd; rw [e, nI_clamp (by omega)]
theorem oc_l {op : Nat → Int32} (h : OpOK op) (j : Nat) : cd op j ≤ 22 := by
  obtain ⟨c, hc, e⟩ := h j
  unfold cd; rw [e, nI_clamp (by omega)]; exact hc
def q_pc (op : Nat → Int32) : Nat → Nat
  | 0 => 0
  | k + 1 => q_pc op k + (if cd op k = 0 then 1 else 0)
theorem pc_s0 {op : Nat → Int32} {k : Nat} (h : cd op k = 0) : q_pc op (k + 1) = q_pc op k + 1 := by
  show q_pc op k + (if cd op k = 0 then 1 else 0) = _
  rw [if_pos h]
theorem pc_s1 {op : Nat → Int32} {k : Nat} (h : ¬ cd op k = 0) : q_pc op (k + 1) = q_pc op k := by
  show q_pc op k + (if cd op k = 0 then 1 else 0) = _
  rw [if_neg h]; rfl
theorem pc_a (op : Nat → Int32) (a : Nat) : ∀ r, q_pc op a ≤ q_pc op (a + r)
  | 0 => Nat.le_refl _
  | r + 1 => Nat.le_trans (pc_a op a r) (Nat.le_add_right _ _)
theorem pc_m (op : Nat → Int32) {a b : Nat} (h : a ≤ b) : q_pc op a ≤ q_pc op b := by
  have := pc_a op a (b - a)
  rw [show a + (b - a) = b by omega] at this
  exact this
theorem pc_le (op : Nat → Int32) : ∀ k, q_pc op k ≤ k
  | 0 => Nat.le_refl 0
  | k + 1 => by
    have := pc_le op k
    show q_pc op k + (if cd op k = 0 then 1 else 0) ≤ k + 1
    by_cases h : cd op k = 0
    · rw [if_pos h]; omega
    · rw [if_neg h]; omega
theorem pc_eqa {op : Nat → Int32} {a : Nat} : ∀ r, (∀ m, a ≤ m → m < a + r → ¬ cd op m = 0) → q_pc op (a + r) = q_pc op a
  | 0, _ => rfl
  | r + 1, h => (pc_s1 (h (a + r) (by omega) (by omega))).trans (pc_eqa r (fun m h1 h2 => h m h1 (by omega)))
theorem pc_eq {op : Nat → Int32} {a b : Nat} (hab : a ≤ b) (h : ∀ m, a ≤ m → m < b → ¬ cd op m = 0) : q_pc op b = q_pc op a := by
  have := pc_eqa (op := op) (a := a) (b - a) (fun m h1 h2 => h m h1 (by omega))
  rw [show a + (b - a) = b by omega] at this
  exact this
theorem pc_ex {op : Nat → Int32} {q : Nat} : ∀ N, q < q_pc op N → ∃ j, j < N ∧ cd op j = 0 ∧ q_pc op j = q
  | 0, h => by
    have : q < 0 := h
    omega
  | N + 1, h => by
    by_cases c : q < q_pc op N
    · obtain ⟨j, h1, h2⟩ := pc_ex N c
      exact ⟨j, by omega, h2⟩
    · by_cases z : cd op N = 0
      · rw [pc_s0 z] at h
        exact ⟨N, by omega, z, by omega⟩
      · rw [pc_s1 z] at h
        exact absurd h c
def q_En (op : Nat → Int32) (N q E : Nat) : Prop := E ≤ N ∧ (E = N ∨ cd op E = 0) ∧ q_pc op E = q + 1
theorem en_u {op : Nat → Int32} {N q E p : Nat} (h : q_En op N q E) (hp : p ≤ N) (h1 : p = N ∨ cd op p = 0) (h2 : q_pc op p = q + 1) : p = E := by
  obtain ⟨e1, e2, e3⟩ := h
  rcases Nat.lt_trichotomy p E with c | c | c
  · have z : cd op p = 0 := by omega
    have m := pc_m op (a := p + 1) (b := E) (by omega)
    rw [pc_s0 z] at m
    omega
  · exact c
  · have z : cd op E = 0 := by omega
    have m := pc_m op (a := E + 1) (b := p) (by omega)
    rw [pc_s0 z] at m
    omega
theorem en_ex {op : Nat → Int32} {N q j : Nat} (hj : j < N) (h0 : cd op j = 0) (hq : q_pc op j = q) : ∃ E, j < E ∧ q_En op N q E ∧ ∀ m, j < m → m < E → ¬ cd op m = 0 := by
  obtain ⟨E, ⟨h1, h2⟩, h3⟩ := pk_least (fun m => j < m ∧ (m = N ∨ cd op m = 0)) ⟨N, hj, Or.inl rfl⟩
  have hE : E ≤ N := Nat.not_lt.mp (fun z => h3 N z ⟨hj, Or.inl rfl⟩)
  have hn : ∀ m, j < m → m < E → ¬ cd op m = 0 := fun m a b z => h3 m b ⟨a, Or.inr z⟩
  refine ⟨E, h1, ⟨hE, h2, ?_⟩, hn⟩
  rw [pc_eq (a := j + 1) (b := E) (by omega) (fun m a b => hn m (by omega) b), pc_s0 h0, hq]
def q_dp (op : Nat → Int32) (a : Nat) : Nat → Nat
  | 0 => 0
  | m + 1 => if 10 ≤ cd op (a + m) ∧ cd op (a + m) ≤ 12 then q_dp op a m + 1 else if cd op (a + m) = 14 then q_dp op a m - 1 else q_dp op a m
theorem dp_s (op : Nat → Int32) (a m : Nat) : q_dp op a (m + 1) = if 10 ≤ cd op (a + m) ∧ cd op (a + m) ≤ 12 then q_dp op a m + 1 else if cd op (a + m) = 14 then q_dp op a m - 1 else q_dp op a m := rfl
def q_rn (op : Nat → Int32) (a m : Nat) : Prop := ∀ j, j < m → ¬ (q_dp op a j = 0 ∧ (cd op (a + j) = 13 ∨ cd op (a + j) = 14))
def q_Pt (op : Nat → Int32) (k P : Nat) : Prop := k < P ∧ q_rn op (k + 1) (P - (k + 1)) ∧ q_dp op (k + 1) (P - (k + 1)) = 0 ∧ (cd op P = 13 ∨ cd op P = 14)
theorem yi_t {post : Int32 → Prop} {v lo hi : Nat} (h1 : lo ≤ v) (h2 : v ≤ hi) (hh : hi < 1000000) (hP : post 1) : wpY_in post (nI v) (nI lo) (nI hi) := by
  unfold wpY_in
  exact br_f (nI_nlt h1 (by omega)) (br_f (nI_nlt h2 (by omega)) hP)
theorem yi_f {post : Int32 → Prop} {v lo hi : Nat} (h1 : v < lo ∨ hi < v) (hv : v < 1000000) (hl : lo < 1000000) (hh : hi < 1000000) (hP : post 0) : wpY_in post (nI v) (nI lo) (nI hi) := by
  unfold wpY_in
  refine pk_lt v lo (fun _ => hP) (fun h => ?_)
  exact br_t (nI_lt (by omega) (by omega)) hP
section
variable {cn : Int32} {xpa : Int32} {xop : Int32} {pl : Int32} {ck : Int32} {pf : Int32} {pc : Int32} {st : Int32} {ix : Int32} {xst : Int32} {tl : Int32} {ds : Int32} {sto : Nat → Int32} {srt : Nat → Int32} {bas : Nat → Int32} {len : Nat → Int32} {dig : Nat → Int32} {dcm : Nat → Int32} {sgn : Nat → Int32} {tim : Nat → Int32} {sig : Nat → Int32} {op : Nat → Int32} {opX : Nat → Int32} {opY : Nat → Int32} {opZ : Nat → Int32} {tgt : Nat → Int32} {sta : Nat → Int32} {ins : Nat → Int32} {opn : Nat → Int32} {pE : Nat → Int32} {pL : Nat → Int32} {pI : Nat → Int32} {pB : Nat → Int32} {out : Nat → Int32} {pw : Nat → Int64} {wk : Nat → Int32} {ypf : Int32} {yat : Int32} {yen : Int32} {yju : Int32} {yle : Nat → Int32} {ysg : Nat → Int32} {ych : Nat → Int32} {yot : Nat → Int32} {ylo : Nat → Int32} {yba : Nat → Int32} {yfr : Nat → Int32} {yva : Nat → Int32}
theorem yb_4 {post : Int32 → Prop} {q j : Nat} (ho : OpOK op) (hj : j < 48) (h0 : cd op j = 0) (hq : q_pc op j = q) (hP : post (nI j)) : ∀ r m n : Nat, m + r = j → r < n → wY_beginOf_4 post cn pl ck ypf yat st ix ds yen tl yju sto srt bas yle dcm tim sig ysg op opX opY opZ out ych yot ylo pE pL yba yfr yva n (nI m) (nI (q - q_pc op m)) := by
  intro r
  induction r with
  | zero =>
    intro m n hm hn
    obtain ⟨n, rfl⟩ : ∃ q, n = q + 1 := ⟨n - 1, by omega⟩
    obtain rfl : m = j := by omega
    rw [show q - q_pc op m = 0 by omega]
    refine br_f (by decide) ⟨vp_in_nI hj (by omega), ?_⟩
    rw [nI_clamp (n := m) (by omega), oc_e ho, h0]
    exact br_t rfl hP
  | succ r ih =>
    intro m n hm hn
    obtain ⟨n, rfl⟩ : ∃ q, n = q + 1 := ⟨n - 1, by omega⟩
    have K := ih (m + 1) n (by omega) (by omega)
    have pm := pc_m op (a := m + 1) (b := j) (by omega)
    have l48 := pc_le op j
    have hin : vp_in (nI m) 48 := vp_in_nI (by omega) (by omega)
    have ol := oc_l ho m
    have K17 : wY_beginOf_17 post (wY_beginOf_4 post cn pl ck ypf yat st ix ds yen tl yju sto srt bas yle dcm tim sig ysg op opX opY opZ out ych yot ylo pE pL yba yfr yva n) (nI m) (nI (q - q_pc op m)) cn pl ck ypf yat st ix ds yen tl yju sto srt bas yle dcm tim sig ysg op opX opY opZ out ych yot ylo pE pL yba yfr yva := by
      unfold wY_beginOf_17
      refine ⟨hin, ?_⟩
      rw [nI_clamp (n := m) (by omega), oc_e ho]
      refine pk_eq (cd op m) 0 (fun z => nm_r ?_ (nm_r (nI_1 _) K)) (fun z => nm_r (nI_1 _) ?_)
      · rw [pc_s0 z] at pm ⊢
        rw [show q - q_pc op m = q - (q_pc op m + 1) + 1 by omega, pk_m1]
      · rw [pc_s1 z] at K
        exact K
    refine pk_lt 0 (q - q_pc op m) (fun z => K17) (fun z => ⟨hin, ?_⟩)
    rw [nI_clamp (n := m) (by omega), oc_e ho]
    refine pk_eq (cd op m) 0 (fun y => ?_) (fun y => K17)
    rw [pc_s0 y] at pm
    omega
theorem yb_beg {post : Int32 → Prop} {q j : Nat} (ho : OpOK op) (hj : j < 48) (h0 : cd op j = 0) (hq : q_pc op j = q) (hP : post (nI j)) : wpY_beginOf post (cn, pl, ck, ypf, yat, st, ix, ds, yen, tl, yju, sto, srt, bas, yle, dcm, tim, sig, ysg, op, opX, opY, opZ, out, ych, yot, ylo, pE, pL, yba, yfr, yva) (nI q) := by
  have K := yb_4 (cn := cn) (pl := pl) (ck := ck) (ypf := ypf) (yat := yat) (st := st) (ix := ix) (ds := ds) (yen := yen) (tl := tl) (yju := yju) (sto := sto) (srt := srt) (bas := bas) (yle := yle) (dcm := dcm) (tim := tim) (sig := sig) (ysg := ysg) (op := op) (opX := opX) (opY := opY) (opZ := opZ) (out := out) (ych := ych) (yot := yot) (ylo := ylo) (pE := pE) (pL := pL) (yba := yba) (yfr := yfr) (yva := yva) ho hj h0 hq hP j 0 (j + 1) (by omega) (by omega)
  rw [show q - q_pc op 0 = q from Nat.sub_zero q] at K
  unfold wpY_beginOf
  exact ⟨_, K⟩
theorem ye_8 {post : Int32 → Prop} {N j E : Nat} (ho : OpOK op) (hN : N ≤ 48) (hE : E ≤ N) (h2 : E = N ∨ cd op E = 0) (hn : ∀ m, j < m → m < E → ¬ cd op m = 0) (hP : post (nI E)) : ∀ r m n : Nat, m + r = E → j < m → r < n → wY_endOf_8 post (nI N) pl ck ypf yat st ix ds yen tl yju sto srt bas yle dcm tim sig ysg op opX opY opZ out ych yot ylo pE pL yba yfr yva n (nI m) := by
  intro r
  induction r with
  | zero =>
    intro m n hm hj hn'
    obtain ⟨n, rfl⟩ : ∃ q, n = q + 1 := ⟨n - 1, by omega⟩
    obtain rfl : m = E := by omega
    refine pk_le N m (fun z => hP) (fun z => ⟨vp_in_nI (by omega) (by omega), ?_⟩)
    rw [nI_clamp (n := m) (by omega), oc_e ho, show cd op m = 0 by omega]
    exact br_t rfl hP
  | succ r ih =>
    intro m n hm hj hn'
    obtain ⟨n, rfl⟩ : ∃ q, n = q + 1 := ⟨n - 1, by omega⟩
    have ol := oc_l ho m
    refine br_f (nI_ge (by omega) (by omega)) ⟨vp_in_nI (by omega) (by omega), ?_⟩
    rw [nI_clamp (n := m) (by omega), oc_e ho]
    exact pk_eq (cd op m) 0 (fun z => absurd z (hn m hj (by omega))) (fun z => nm_r (nI_1 _) (ih (m + 1) n (by omega) (by omega) (by omega)))
theorem ye_end {N q : Nat} (ho : OpOK op) (hN : N ≤ 48) (hq : q < q_pc op N) : ∃ E, q_En op N q E ∧ ∀ post : Int32 → Prop, post (nI E) → wpY_endOf post (nI N, pl, ck, ypf, yat, st, ix, ds, yen, tl, yju, sto, srt, bas, yle, dcm, tim, sig, ysg, op, opX, opY, opZ, out, ych, yot, ylo, pE, pL, yba, yfr, yva) (nI q) := by
  obtain ⟨j, j1, j2, j3⟩ := pc_ex N hq
  obtain ⟨E, E1, E2, E3⟩ := en_ex j1 j2 j3
  refine ⟨E, E2, fun post hP => ?_⟩
  unfold wpY_endOf
  refine yb_beg ho (by omega) j2 j3 (nm_r (nI_1 _) ⟨E + 1, ?_⟩)
  exact ye_8 ho hN E2.1 E2.2.1 E3 hP (E - (j + 1)) (j + 1) (E + 1) (by omega) (by omega) (by omega)
theorem yp_6 {post : Int32 → Prop} {k P : Nat} (ho : OpOK op) (hP48 : P < 48) (hp : q_Pt op k P) (hP : post (nI P)) : ∀ r m n : Nat, m + r = P - (k + 1) → r < n → wY_partner_6 post cn pl ck ypf yat st ix ds yen tl yju sto srt bas yle dcm tim sig ysg op opX opY opZ out ych yot ylo pE pL yba yfr yva n (nI (q_dp op (k + 1) m)) (nI (k + 1 + m)) := by
  obtain ⟨p1, p2, p3, p4⟩ := hp
  intro r
  induction r with
  | zero =>
    intro m n hm hn
    obtain ⟨n, rfl⟩ : ∃ q, n = q + 1 := ⟨n - 1, by omega⟩
    obtain rfl : P - (k + 1) = m := by omega
    have e : k + 1 + (P - (k + 1)) = P := by omega
    have hin : vp_in (nI P) 48 := vp_in_nI (by omega) (by omega)
    have ol := oc_l ho P
    rw [p3, e]
    refine br_f (by decide) ⟨hin, ?_⟩
    rw [nI_clamp (n := P) (by omega), oc_e ho]
    exact pk_eq (cd op P) 14 (fun z => hP) (fun z => ⟨hin, pk_eq (cd op P) 13 (fun _ => hP) (fun y => by omega)⟩)
  | succ r ih =>
    intro m n hm hn
    obtain ⟨n, rfl⟩ : ∃ q, n = q + 1 := ⟨n - 1, by omega⟩
    have K := ih (m + 1) n (by omega) (by omega)
    have ns := p2 m (by omega)
    have hin : vp_in (nI (k + 1 + m)) 48 := vp_in_nI (by omega) (by omega)
    have ol := oc_l ho (k + 1 + m)
    have dl : ∀ m, q_dp op (k + 1) m ≤ m := by
      intro m
      induction m with
      | zero => exact Nat.le_refl 0
      | succ m ih2 =>
        rw [dp_s]
        split
        · omega
        · split <;> omega
    have dm := dl m
    rw [dp_s] at K
    generalize hd : q_dp op (k + 1) m = d at *
    have K51 : ∀ d' : Nat, (cd op (k + 1 + m) = 14 → 1 ≤ d') → wY_partner_6 post cn pl ck ypf yat st ix ds yen tl yju sto srt bas yle dcm tim sig ysg op opX opY opZ out ych yot ylo pE pL yba yfr yva n (nI (if cd op (k + 1 + m) = 14 then d' - 1 else d')) (nI (k + 1 + (m + 1))) → wY_partner_51 post (wY_partner_6 post cn pl ck ypf yat st ix ds yen tl yju sto srt bas yle dcm tim sig ysg op opX opY opZ out ych yot ylo pE pL yba yfr yva n) (nI d') (nI (k + 1 + m)) cn pl ck ypf yat st ix ds yen tl yju sto srt bas yle dcm tim sig ysg op opX opY opZ out ych yot ylo pE pL yba yfr yva := by
      intro d' hd' K
      unfold wY_partner_51
      refine ⟨hin, ?_⟩
      rw [nI_clamp (n := k + 1 + m) (by omega), oc_e ho]
      refine pk_eq (cd op (k + 1 + m)) 14 (fun z => ?_) (fun z => ?_)
      · rw [if_pos z] at K
        have := hd' z
        refine nm_r (e' := nI (d' - 1)) ?_ (nm_r (nI_1 _) K)
        obtain ⟨c, rfl⟩ : ∃ c, d' = c + 1 := ⟨d' - 1, by omega⟩
        exact pk_m1 c
      · rw [if_neg z] at K
        exact nm_r (nI_1 _) K
    have K32 : wY_partner_32 post (wY_partner_6 post cn pl ck ypf yat st ix ds yen tl yju sto srt bas yle dcm tim sig ysg op opX opY opZ out ych yot ylo pE pL yba yfr yva n) (nI d) (nI (k + 1 + m)) cn pl ck ypf yat st ix ds yen tl yju sto srt bas yle dcm tim sig ysg op opX opY opZ out ych yot ylo pE pL yba yfr yva := by
      unfold wY_partner_32
      refine ⟨hin, ?_⟩
      rw [nI_clamp (n := k + 1 + m) (by omega), oc_e ho]
      by_cases c : 10 ≤ cd op (k + 1 + m) ∧ cd op (k + 1 + m) ≤ 12
      · rw [if_pos c] at K
        refine yi_t (lo := 10) (hi := 12) c.1 c.2 (by omega) (br_f (by decide) (nm_r (nI_1 _) (K51 (d + 1) (by omega) ?_)))
        rw [if_neg (by omega)]
        exact K
      · rw [if_neg c] at K
        exact yi_f (lo := 10) (hi := 12) (by omega) (by omega) (by omega) (by omega) (br_t rfl (K51 d (by omega) K))
    refine pk_lt 0 d (fun z => K32) (fun z => ⟨hin, ?_⟩)
    rw [nI_clamp (n := k + 1 + m) (by omega), oc_e ho]
    exact pk_eq (cd op (k + 1 + m)) 14 (fun y => by omega) (fun y => ⟨hin, pk_eq (cd op (k + 1 + m)) 13 (fun y2 => by omega) (fun y2 => K32)⟩)
theorem yp_par {post : Int32 → Prop} {k P : Nat} (ho : OpOK op) (hP48 : P < 48) (hp : q_Pt op k P) (hP : post (nI P)) : wpY_partner post (cn, pl, ck, ypf, yat, st, ix, ds, yen, tl, yju, sto, srt, bas, yle, dcm, tim, sig, ysg, op, opX, opY, opZ, out, ych, yot, ylo, pE, pL, yba, yfr, yva) (nI k) := by
  have K := yp_6 (cn := cn) (pl := pl) (ck := ck) (ypf := ypf) (yat := yat) (st := st) (ix := ix) (ds := ds) (yen := yen) (tl := tl) (yju := yju) (sto := sto) (srt := srt) (bas := bas) (yle := yle) (dcm := dcm) (tim := tim) (sig := sig) (ysg := ysg) (op := op) (opX := opX) (opY := opY) (opZ := opZ) (out := out) (ych := ych) (yot := yot) (ylo := ylo) (pE := pE) (pL := pL) (yba := yba) (yfr := yfr) (yva := yva) ho hP48 hp hP (P - (k + 1)) 0 (P + 1) (by omega) (by omega)
  unfold wpY_partner
  exact nm_r (nI_1 _) ⟨_, K⟩
end
end
section
/-! operands against fits -/
def SrtOK (srt : Nat → Int32) : Prop := ∀ j, ∃ k, k ≤ 3 ∧ srt j = nI k
def q_kx (srt : Nat → Int32) (x : Int32) : Nat := if ¬ x < 0 ∧ ¬ 12 ≤ x then cd srt x.toNatClampNeg else 0
theorem so_e {srt : Nat → Int32} (h : SrtOK srt) (j : Nat) : srt j = nI (cd srt j) ∧ cd srt j ≤ 3 := by
  obtain ⟨c, hc, e⟩ := h j
  unfold cd; rw [e, nI_clamp (by omega)]; exact ⟨rfl, hc⟩
theorem kx_c {srt : Nat → Int32} (h : SrtOK srt) (x : Int32) : (q_kx srt x = 0 ∧ (x < 0 ∨ (¬ x < 0 ∧ 12 ≤ x ∧ 11 < x))) ∨ ∃ j, j < 12 ∧ x = nI j ∧ srt j = nI (q_kx srt x) ∧ q_kx srt x ≤ 3 := by
  rcases pk_ix x (n := 12) (by omega) with a | a | ⟨j, j1, rfl⟩
  · left
    unfold q_kx
    rw [if_neg (fun z => z.1 a)]
    exact ⟨rfl, Or.inl a⟩
  · left
    have a' : (12 : Int32) ≤ x := a
    unfold q_kx
    rw [if_neg (fun z => z.2 a')]
    have h12 : (12 : Int32).toInt = 12 := by decide
    have h11 : (11 : Int32).toInt = 11 := by decide
    have h0 : (0 : Int32).toInt = 0 := by decide
    have a2 := Int32.le_iff_toInt_le.mp a'
    refine ⟨rfl, Or.inr ⟨?_, a', ?_⟩⟩
    · rw [Int32.lt_iff_toInt_lt]; omega
    · rw [Int32.lt_iff_toInt_lt]; omega
  · right
    have e : q_kx srt (nI j) = cd srt j := by
      unfold q_kx
      rw [if_pos ⟨nI_pos (by omega), nI_ge (b := 12) j1 (by omega)⟩, nI_clamp (by omega)]
    refine ⟨j, j1, rfl, ?_⟩
    rw [e]
    exact so_e h j
section
variable {cn : Int32} {xpa : Int32} {xop : Int32} {pl : Int32} {ck : Int32} {pf : Int32} {pc : Int32} {st : Int32} {ix : Int32} {xst : Int32} {tl : Int32} {ds : Int32} {sto : Nat → Int32} {srt : Nat → Int32} {bas : Nat → Int32} {len : Nat → Int32} {dig : Nat → Int32} {dcm : Nat → Int32} {sgn : Nat → Int32} {tim : Nat → Int32} {sig : Nat → Int32} {op : Nat → Int32} {opX : Nat → Int32} {opY : Nat → Int32} {opZ : Nat → Int32} {tgt : Nat → Int32} {sta : Nat → Int32} {ins : Nat → Int32} {opn : Nat → Int32} {pE : Nat → Int32} {pL : Nat → Int32} {pI : Nat → Int32} {pB : Nat → Int32} {out : Nat → Int32} {pw : Nat → Int64} {wk : Nat → Int32} {ypf : Int32} {yat : Int32} {yen : Int32} {yju : Int32} {yle : Nat → Int32} {ysg : Nat → Int32} {ych : Nat → Int32} {yot : Nat → Int32} {ylo : Nat → Int32} {yba : Nat → Int32} {yfr : Nat → Int32} {yva : Nat → Int32}
theorem xi_it0 {post : Int32 → Prop} {x : Int32} (hs : SrtOK srt) (h : q_kx srt x = 0) (hP : post 0) : wpX_isItem post (cn, xpa, xop, pl, ck, pf, pc, st, ix, xst, tl, ds, sto, srt, bas, len, dig, dcm, sgn, tim, sig, op, opX, opY, opZ, tgt, sta, ins, opn, pE, pL, pI, pB, out, pw, wk) x := by
  unfold wpX_isItem
  rcases kx_c hs x with ⟨-, a | a⟩ | ⟨j, j1, rfl, e, -⟩
  · exact br_t a hP
  · exact br_f a.1 (br_t a.2.1 hP)
  · refine br_f (nI_pos (by omega)) (br_f (nI_ge (b := 12) j1 (by omega)) ⟨vp_in_nI j1 (by omega), ?_⟩)
    rw [nI_clamp (n := j) (by omega), e, h]
    exact br_t rfl hP
theorem xi_it1 {post : Int32 → Prop} {x : Int32} (hs : SrtOK srt) (h : ¬ q_kx srt x = 0) (hP : post 1) : wpX_isItem post (cn, xpa, xop, pl, ck, pf, pc, st, ix, xst, tl, ds, sto, srt, bas, len, dig, dcm, sgn, tim, sig, op, opX, opY, opZ, tgt, sta, ins, opn, pE, pL, pI, pB, out, pw, wk) x := by
  unfold wpX_isItem
  rcases kx_c hs x with ⟨z, -⟩ | ⟨j, j1, rfl, e, k3⟩
  · exact absurd z h
  · refine br_f (nI_pos (by omega)) (br_f (nI_ge (b := 12) j1 (by omega)) ⟨vp_in_nI j1 (by omega), ?_⟩)
    rw [nI_clamp (n := j) (by omega), e]
    exact br_f (nI_ne0 (by omega) (by omega)) hP
theorem yi_it0 {post : Int32 → Prop} {x : Int32} (hs : SrtOK srt) (h : q_kx srt x = 0) (hP : post 0) : wpY_isItem post (cn, pl, ck, ypf, yat, st, ix, ds, yen, tl, yju, sto, srt, bas, yle, dcm, tim, sig, ysg, op, opX, opY, opZ, out, ych, yot, ylo, pE, pL, yba, yfr, yva) x := by
  unfold wpY_isItem
  rcases kx_c hs x with ⟨-, a | a⟩ | ⟨j, j1, rfl, e, -⟩
  · unfold wpY_in
    exact br_t a (br_t rfl hP)
  · unfold wpY_in
    exact br_f a.1 (br_t a.2.2 (br_t rfl hP))
  · refine yi_t (lo := 0) (hi := 11) (by omega) (by omega) (by omega) (br_f (by decide) ⟨vp_in_nI j1 (by omega), ?_⟩)
    rw [nI_clamp (n := j) (by omega), e, h]
    exact br_t rfl hP
theorem yi_it1 {post : Int32 → Prop} {x : Int32} (hs : SrtOK srt) (h : ¬ q_kx srt x = 0) (hP : post 1) : wpY_isItem post (cn, pl, ck, ypf, yat, st, ix, ds, yen, tl, yju, sto, srt, bas, yle, dcm, tim, sig, ysg, op, opX, opY, opZ, out, ych, yot, ylo, pE, pL, yba, yfr, yva) x := by
  unfold wpY_isItem
  rcases kx_c hs x with ⟨z, -⟩ | ⟨j, j1, rfl, e, k3⟩
  · exact absurd z h
  · refine yi_t (lo := 0) (hi := 11) (by omega) (by omega) (by omega) (br_f (by decide) ⟨vp_in_nI j1 (by omega), ?_⟩)
    rw [nI_clamp (n := j) (by omega), e]
    exact br_f (nI_ne0 (by omega) (by omega)) hP
theorem xi_nu0 {post : Int32 → Prop} {x : Int32} (hs : SrtOK srt) (h : ¬ q_kx srt x = 1) (hP : post 0) : wpX_isNumber post (cn, xpa, xop, pl, ck, pf, pc, st, ix, xst, tl, ds, sto, srt, bas, len, dig, dcm, sgn, tim, sig, op, opX, opY, opZ, tgt, sta, ins, opn, pE, pL, pI, pB, out, pw, wk) x := by
  unfold wpX_isNumber
  by_cases z : q_kx srt x = 0
  · exact xi_it0 hs z (br_t rfl hP)
  · refine xi_it1 hs z (br_f (by decide) ?_)
    rcases kx_c hs x with ⟨y, -⟩ | ⟨j, j1, rfl, e, k3⟩
    · exact absurd y z
    · refine ⟨vp_in_nI j1 (by omega), ?_⟩
      rw [nI_clamp (n := j) (by omega), e]
      exact br_f (fun y => h ((nI_eq (b := 1) (by omega) (by omega)).mp y)) hP
theorem xi_nu1 {post : Int32 → Prop} {x : Int32} (hs : SrtOK srt) (h : q_kx srt x = 1) (hP : post 1) : wpX_isNumber post (cn, xpa, xop, pl, ck, pf, pc, st, ix, xst, tl, ds, sto, srt, bas, len, dig, dcm, sgn, tim, sig, op, opX, opY, opZ, tgt, sta, ins, opn, pE, pL, pI, pB, out, pw, wk) x := by
  unfold wpX_isNumber
  refine xi_it1 hs (by omega) (br_f (by decide) ?_)
  rcases kx_c hs x with ⟨y, -⟩ | ⟨j, j1, rfl, e, k3⟩
  · omega
  · refine ⟨vp_in_nI j1 (by omega), ?_⟩
    rw [nI_clamp (n := j) (by omega), e, h]
    exact br_t rfl hP
theorem xi_pl0 {post : Int32 → Prop} {x : Int32} (hs : SrtOK srt) (h : ¬ (q_kx srt x = 1 ∨ q_kx srt x = 2)) (hP : post 0) : wpX_plain post (cn, xpa, xop, pl, ck, pf, pc, st, ix, xst, tl, ds, sto, srt, bas, len, dig, dcm, sgn, tim, sig, op, opX, opY, opZ, tgt, sta, ins, opn, pE, pL, pI, pB, out, pw, wk) x := by
  unfold wpX_plain
  by_cases z : q_kx srt x = 0
  · exact xi_it0 hs z (br_t rfl hP)
  · refine xi_it1 hs z (br_f (by decide) ?_)
    rcases kx_c hs x with ⟨y, -⟩ | ⟨j, j1, rfl, e, k3⟩
    · exact absurd y z
    · refine ⟨vp_in_nI j1 (by omega), ?_⟩
      rw [nI_clamp (n := j) (by omega), e, show q_kx srt (nI j) = 3 by omega]
      exact br_t rfl hP
theorem xi_pl1 {post : Int32 → Prop} {x : Int32} (hs : SrtOK srt) (h : q_kx srt x = 1 ∨ q_kx srt x = 2) (hP : post 1) : wpX_plain post (cn, xpa, xop, pl, ck, pf, pc, st, ix, xst, tl, ds, sto, srt, bas, len, dig, dcm, sgn, tim, sig, op, opX, opY, opZ, tgt, sta, ins, opn, pE, pL, pI, pB, out, pw, wk) x := by
  unfold wpX_plain
  refine xi_it1 hs (by omega) (br_f (by decide) ?_)
  rcases kx_c hs x with ⟨y, -⟩ | ⟨j, j1, rfl, e, k3⟩
  · omega
  · refine ⟨vp_in_nI j1 (by omega), ?_⟩
    rw [nI_clamp (n := j) (by omega), e]
    exact br_f (fun y => by have := (nI_eq (b := 3) (by omega) (by omega)).mp y; omega) hP
theorem yi_so0 {post : Int32 → Prop} {x : Int32} {s : Nat} (s3 : s ≤ 3) (hs : SrtOK srt) (h : ¬ q_kx srt x = s) (hP : post 0) : wpY_isSort post (cn, pl, ck, ypf, yat, st, ix, ds, yen, tl, yju, sto, srt, bas, yle, dcm, tim, sig, ysg, op, opX, opY, opZ, out, ych, yot, ylo, pE, pL, yba, yfr, yva) x (nI s) := by
  unfold wpY_isSort
  by_cases z : q_kx srt x = 0
  · exact yi_it0 hs z (br_t rfl hP)
  · refine yi_it1 hs z (br_f (by decide) ?_)
    rcases kx_c hs x with ⟨y, -⟩ | ⟨j, j1, rfl, e, k3⟩
    · exact absurd y z
    · refine ⟨vp_in_nI j1 (by omega), ?_⟩
      rw [nI_clamp (n := j) (by omega), e]
      exact br_f (fun y => h ((nI_eq (by omega) (by omega)).mp y)) hP
theorem yi_so1 {post : Int32 → Prop} {x : Int32} {s : Nat} (s3 : s ≤ 3) (s0 : 1 ≤ s) (hs : SrtOK srt) (h : q_kx srt x = s) (hP : post 1) : wpY_isSort post (cn, pl, ck, ypf, yat, st, ix, ds, yen, tl, yju, sto, srt, bas, yle, dcm, tim, sig, ysg, op, opX, opY, opZ, out, ych, yot, ylo, pE, pL, yba, yfr, yva) x (nI s) := by
  unfold wpY_isSort
  refine yi_it1 hs (by omega) (br_f (by decide) ?_)
  rcases kx_c hs x with ⟨y, -⟩ | ⟨j, j1, rfl, e, k3⟩
  · omega
  · refine ⟨vp_in_nI j1 (by omega), ?_⟩
    rw [nI_clamp (n := j) (by omega), e, h]
    exact br_t rfl hP
theorem yp_4 {post : Int32 → Prop} {N : Nat} (ho : OpOK op) (hN : N ≤ 48) (hP : post (nI (q_pc op N))) : ∀ r m n : Nat, m + r = N → r < n → wY_paragraphs_4 post (nI N) pl ck ypf yat st ix ds yen tl yju sto srt bas yle dcm tim sig ysg op opX opY opZ out ych yot ylo pE pL yba yfr yva n (nI (q_pc op m)) (nI m) := by
  intro r
  induction r with
  | zero =>
    intro m n hm hn
    obtain ⟨n, rfl⟩ : ∃ q, n = q + 1 := ⟨n - 1, by omega⟩
    obtain rfl : m = N := by omega
    exact br_t (nI_le (by omega) (by omega)) hP
  | succ r ih =>
    intro m n hm hn
    obtain ⟨n, rfl⟩ : ∃ q, n = q + 1 := ⟨n - 1, by omega⟩
    have K := ih (m + 1) n (by omega) (by omega)
    have ol := oc_l ho m
    refine br_f (nI_ge (by omega) (by omega)) ⟨vp_in_nI (by omega) (by omega), ?_⟩
    rw [nI_clamp (n := m) (by omega), oc_e ho]
    refine pk_eq (cd op m) 0 (fun z => ?_) (fun z => ?_)
    · rw [pc_s0 z] at K
      exact nm_r (nI_1 _) (nm_r (nI_1 _) K)
    · rw [pc_s1 z] at K
      exact nm_r (nI_1 _) K
theorem yp_np {post : Int32 → Prop} {N : Nat} (ho : OpOK op) (hN : N ≤ 48) (hP : post (nI (q_pc op N))) : wpY_paragraphs post (nI N, pl, ck, ypf, yat, st, ix, ds, yen, tl, yju, sto, srt, bas, yle, dcm, tim, sig, ysg, op, opX, opY, opZ, out, ych, yot, ylo, pE, pL, yba, yfr, yva) := by
  unfold wpY_paragraphs
  exact ⟨N + 1, yp_4 ho hN hP N 0 (N + 1) (by omega) (by omega)⟩
/-- what a checked instruction's operands are -/
def q_gd (o kx ky np : Nat) (x y z : Int32) : Prop :=
  (o = 1 → ¬ ky = 0 ∧ (x = 16 ∨ ¬ kx = 0)) ∧ (2 ≤ o ∧ o ≤ 9 → ky = 1 ∧ (x = 16 ∨ kx = 1)) ∧ (o = 10 → (kx = 1 ∨ kx = 2) ∧ (ky = 1 ∨ ky = 2) ∧ ∃ h, h < 6 ∧ z = nI h) ∧ (o = 12 → kx = 1 ∨ kx = 2) ∧ (o = 15 ∨ o = 16 → ∃ a b, x = nI a ∧ y = nI b ∧ a ≤ b ∧ b < np) ∧ (o = 17 → ∃ a, x = nI a ∧ a < np) ∧ (o = 19 → x = 16 ∨ ¬ kx = 0) ∧ (o = 20 → x = 16 ∨ kx = 1) ∧ (o = 22 → ¬ kx = 0 ∧ ky = 1)
theorem gd_mk {o kx ky np : Nat} {x y z : Int32} (h1 : o = 1 → ¬ ky = 0 ∧ (x = 16 ∨ ¬ kx = 0)) (h2 : 2 ≤ o ∧ o ≤ 9 → ky = 1 ∧ (x = 16 ∨ kx = 1)) (h10 : o = 10 → (kx = 1 ∨ kx = 2) ∧ (ky = 1 ∨ ky = 2) ∧ ∃ h, h < 6 ∧ z = nI h) (h12 : o = 12 → kx = 1 ∨ kx = 2) (h15 : o = 15 ∨ o = 16 → ∃ a b, x = nI a ∧ y = nI b ∧ a ≤ b ∧ b < np) (h17 : o = 17 → ∃ a, x = nI a ∧ a < np) (h19 : o = 19 → x = 16 ∨ ¬ kx = 0) (h20 : o = 20 → x = 16 ∨ kx = 1) (h22 : o = 22 → ¬ kx = 0 ∧ ky = 1) : q_gd o kx ky np x y z := ⟨h1, h2, h10, h12, h15, h17, h19, h20, h22⟩
end
end
section
theorem ge_c {x : Int32} {n : Nat} (hn : n < 1000000) (h : nI (n + 1) ≤ x) : ¬ x < 0 ∧ nI n < x := by
  have a := Int32.le_iff_toInt_le.mp h
  rw [nI_toInt (by omega)] at a
  have h0 : (0 : Int32).toInt = 0 := by decide
  constructor
  · rw [Int32.lt_iff_toInt_lt]; omega
  · rw [Int32.lt_iff_toInt_lt, nI_toInt (by omega)]; omega
section
variable {cn : Int32} {xpa : Int32} {xop : Int32} {pl : Int32} {ck : Int32} {pf : Int32} {pc : Int32} {st : Int32} {ix : Int32} {xst : Int32} {tl : Int32} {ds : Int32} {sto : Nat → Int32} {srt : Nat → Int32} {bas : Nat → Int32} {len : Nat → Int32} {dig : Nat → Int32} {dcm : Nat → Int32} {sgn : Nat → Int32} {tim : Nat → Int32} {sig : Nat → Int32} {op : Nat → Int32} {opX : Nat → Int32} {opY : Nat → Int32} {opZ : Nat → Int32} {tgt : Nat → Int32} {sta : Nat → Int32} {ins : Nat → Int32} {opn : Nat → Int32} {pE : Nat → Int32} {pL : Nat → Int32} {pI : Nat → Int32} {pB : Nat → Int32} {out : Nat → Int32} {pw : Nat → Int64} {wk : Nat → Int32} {ypf : Int32} {yat : Int32} {yen : Int32} {yju : Int32} {yle : Nat → Int32} {ysg : Nat → Int32} {ych : Nat → Int32} {yot : Nat → Int32} {ylo : Nat → Int32} {yba : Nat → Int32} {yfr : Nat → Int32} {yva : Nat → Int32} {ypl yck : Int32} {k N : Nat} {x y : Int32}
theorem of_1 (hk48 : k < 48) (hs : SrtOK srt) (hx : opX k = x) (hy : opY k = y) (ho : op k = nI 1) : ∃ ρ : Nat, ρ ≤ 1 ∧ (ρ = 1 → ¬ q_kx srt y = 0 ∧ (x = 16 ∨ ¬ q_kx srt x = 0)) ∧ (∀ post : Int32 → Prop, post (nI ρ) → wpX_operands post (cn, xpa, xop, pl, ck, pf, pc, st, ix, xst, tl, ds, sto, srt, bas, len, dig, dcm, sgn, tim, sig, op, opX, opY, opZ, tgt, sta, ins, opn, pE, pL, pI, pB, out, pw, wk) (nI k)) ∧ (∀ post : Int32 → Prop, post (nI ρ) → wpY_fits post (cn, ypl, yck, ypf, yat, st, ix, ds, yen, tl, yju, sto, srt, bas, yle, dcm, tim, sig, ysg, op, opX, opY, opZ, out, ych, yot, ylo, pE, pL, yba, yfr, yva) (nI k)) := by
  have hk : vp_in (nI k) 48 := vp_in_nI hk48 (by omega)
  have hc : (nI k).toNatClampNeg = k := nI_clamp (by omega)
  have F0 : ∀ post : Int32 → Prop, q_kx srt y = 0 → post 0 → wY_fits_41 post y cn ypl yck ypf yat st ix ds yen tl yju sto srt bas yle dcm tim sig ysg op opX opY opZ out ych yot ylo pE pL yba yfr yva := by
    intro post z hP
    unfold wY_fits_41
    exact yi_it0 hs z (br_t rfl hP)
  have F1 : ∀ post : Int32 → Prop, ¬ q_kx srt y = 0 → post 1 → wY_fits_41 post y cn ypl yck ypf yat st ix ds yen tl yju sto srt bas yle dcm tim sig ysg op opX opY opZ out ych yot ylo pE pL yba yfr yva := by
    intro post z hP
    unfold wY_fits_41
    exact yi_it1 hs z (br_f (by decide) hP)
  by_cases ky : q_kx srt y = 0
  · refine ⟨0, by omega, fun z => by omega, fun post hP => ?_, fun post hP => ?_⟩
    · unfold wpX_operands
      refine ⟨hk, ?_⟩
      rw [hc, hx, hy, ho]
      refine nm_e ⟨hk, nm_e ⟨hk, nm_e ?_⟩⟩
      repeat (first | refine br_t (by decide) ?_ | refine br_f (by decide) ?_ | unfold wX_operands_63)
      exact xi_it0 hs ky (br_t rfl hP)
    · unfold wpY_fits
      refine ⟨hk, ?_⟩
      rw [hc, hx, hy, ho]
      refine nm_e ⟨hk, nm_e ⟨hk, nm_e ?_⟩⟩
      refine br_t rfl (br_c (fun _ => F0 post ky hP) (fun _ => ?_))
      by_cases kx : q_kx srt x = 0
      · exact yi_it0 hs kx (br_t rfl hP)
      · exact yi_it1 hs kx (br_f (by decide) (F0 post ky hP))
  · by_cases x16 : x = 16
    · refine ⟨1, by omega, fun _ => ⟨ky, Or.inl x16⟩, fun post hP => ?_, fun post hP => ?_⟩
      · unfold wpX_operands
        refine ⟨hk, ?_⟩
        rw [hc, hx, hy, ho]
        refine nm_e ⟨hk, nm_e ⟨hk, nm_e ?_⟩⟩
        repeat (first | refine br_t (by decide) ?_ | refine br_f (by decide) ?_ | unfold wX_operands_63)
        exact xi_it1 hs ky (br_f (by decide) (br_t x16 hP))
      · unfold wpY_fits
        refine ⟨hk, ?_⟩
        rw [hc, hx, hy, ho]
        refine nm_e ⟨hk, nm_e ⟨hk, nm_e ?_⟩⟩
        exact br_t rfl (br_t x16 (F1 post ky hP))
    · by_cases kx : q_kx srt x = 0
      · refine ⟨0, by omega, fun z => by omega, fun post hP => ?_, fun post hP => ?_⟩
        · unfold wpX_operands
          refine ⟨hk, ?_⟩
          rw [hc, hx, hy, ho]
          refine nm_e ⟨hk, nm_e ⟨hk, nm_e ?_⟩⟩
          repeat (first | refine br_t (by decide) ?_ | refine br_f (by decide) ?_ | unfold wX_operands_63)
          exact xi_it1 hs ky (br_f (by decide) (br_f x16 (xi_it0 hs kx (br_t rfl hP))))
        · unfold wpY_fits
          refine ⟨hk, ?_⟩
          rw [hc, hx, hy, ho]
          refine nm_e ⟨hk, nm_e ⟨hk, nm_e ?_⟩⟩
          exact br_t rfl (br_f x16 (yi_it0 hs kx (br_t rfl hP)))
      · refine ⟨1, by omega, fun _ => ⟨ky, Or.inr kx⟩, fun post hP => ?_, fun post hP => ?_⟩
        · unfold wpX_operands
          refine ⟨hk, ?_⟩
          rw [hc, hx, hy, ho]
          refine nm_e ⟨hk, nm_e ⟨hk, nm_e ?_⟩⟩
          repeat (first | refine br_t (by decide) ?_ | refine br_f (by decide) ?_ | unfold wX_operands_63)
          exact xi_it1 hs ky (br_f (by decide) (br_f x16 (xi_it1 hs kx (br_f (by decide) hP))))
        · unfold wpY_fits
          refine ⟨hk, ?_⟩
          rw [hc, hx, hy, ho]
          refine nm_e ⟨hk, nm_e ⟨hk, nm_e ?_⟩⟩
          exact br_t rfl (br_f x16 (yi_it1 hs kx (br_f (by decide) (F1 post ky hP))))
theorem of_29 {o : Nat} (hk48 : k < 48) (hs : SrtOK srt) (hx : opX k = x) (hy : opY k = y) (o1 : 2 ≤ o) (o2 : o ≤ 9) (ho : op k = nI o) : ∃ ρ : Nat, ρ ≤ 1 ∧ (ρ = 1 → q_kx srt y = 1 ∧ (x = 16 ∨ q_kx srt x = 1)) ∧ (∀ post : Int32 → Prop, post (nI ρ) → wpX_operands post (cn, xpa, xop, pl, ck, pf, pc, st, ix, xst, tl, ds, sto, srt, bas, len, dig, dcm, sgn, tim, sig, op, opX, opY, opZ, tgt, sta, ins, opn, pE, pL, pI, pB, out, pw, wk) (nI k)) ∧ (∀ post : Int32 → Prop, post (nI ρ) → wpY_fits post (cn, ypl, yck, ypf, yat, st, ix, ds, yen, tl, yju, sto, srt, bas, yle, dcm, tim, sig, ysg, op, opX, opY, opZ, out, ych, yot, ylo, pE, pL, yba, yfr, yva) (nI k)) := by
  have hk : vp_in (nI k) 48 := vp_in_nI hk48 (by omega)
  have hc : (nI k).toNatClampNeg = k := nI_clamp (by omega)
  have l1 : ¬ nI o ≤ 1 := nI_ge (a := 1) (by omega) (by omega)
  have l10 : ¬ 10 ≤ nI o := nI_ge (b := 10) (by omega) (by omega)
  have n1 : ¬ nI o = 1 := fun z => by have := (nI_eq (b := 1) (by omega) (by omega)).mp z; omega
  have F0 : ∀ post : Int32 → Prop, ¬ q_kx srt y = 1 → post 0 → wY_fits_81 post y cn ypl yck ypf yat st ix ds yen tl yju sto srt bas yle dcm tim sig ysg op opX opY opZ out ych yot ylo pE pL yba yfr yva := by
    intro post z hP
    unfold wY_fits_81
    exact yi_so0 (s := 1) (by omega) hs z (br_t rfl hP)
  have F1 : ∀ post : Int32 → Prop, q_kx srt y = 1 → post 1 → wY_fits_81 post y cn ypl yck ypf yat st ix ds yen tl yju sto srt bas yle dcm tim sig ysg op opX opY opZ out ych yot ylo pE pL yba yfr yva := by
    intro post z hP
    unfold wY_fits_81
    exact yi_so1 (s := 1) (by omega) (by omega) hs z (br_f (by decide) hP)
  by_cases ky : q_kx srt y = 1
  · by_cases x16 : x = 16
    · refine ⟨1, by omega, fun _ => ⟨ky, Or.inl x16⟩, fun post hP => ?_, fun post hP => ?_⟩
      · unfold wpX_operands
        refine ⟨hk, ?_⟩
        rw [hc, hx, hy, ho]
        refine nm_e ⟨hk, nm_e ⟨hk, nm_e ?_⟩⟩
        exact br_f l1 (br_f l10 (xi_nu1 hs ky (br_f (by decide) (br_t x16 hP))))
      · unfold wpY_fits
        refine ⟨hk, ?_⟩
        rw [hc, hx, hy, ho]
        refine nm_e ⟨hk, nm_e ⟨hk, nm_e ?_⟩⟩
        exact br_f n1 (yi_t (lo := 2) (hi := 9) o1 o2 (by omega) (br_f (by decide) (br_t x16 (F1 post ky hP))))
    · by_cases kx : q_kx srt x = 1
      · refine ⟨1, by omega, fun _ => ⟨ky, Or.inr kx⟩, fun post hP => ?_, fun post hP => ?_⟩
        · unfold wpX_operands
          refine ⟨hk, ?_⟩
          rw [hc, hx, hy, ho]
          refine nm_e ⟨hk, nm_e ⟨hk, nm_e ?_⟩⟩
          exact br_f l1 (br_f l10 (xi_nu1 hs ky (br_f (by decide) (br_f x16 (xi_nu1 hs kx (br_f (by decide) hP))))))
        · unfold wpY_fits
          refine ⟨hk, ?_⟩
          rw [hc, hx, hy, ho]
          refine nm_e ⟨hk, nm_e ⟨hk, nm_e ?_⟩⟩
          exact br_f n1 (yi_t (lo := 2) (hi := 9) o1 o2 (by omega) (br_f (by decide) (br_f x16 (yi_so1 (s := 1) (by omega) (by omega) hs kx (br_f (by decide) (F1 post ky hP))))))
      · refine ⟨0, by omega, fun z => by omega, fun post hP => ?_, fun post hP => ?_⟩
        · unfold wpX_operands
          refine ⟨hk, ?_⟩
          rw [hc, hx, hy, ho]
          refine nm_e ⟨hk, nm_e ⟨hk, nm_e ?_⟩⟩
          exact br_f l1 (br_f l10 (xi_nu1 hs ky (br_f (by decide) (br_f x16 (xi_nu0 hs kx (br_t rfl hP))))))
        · unfold wpY_fits
          refine ⟨hk, ?_⟩
          rw [hc, hx, hy, ho]
          refine nm_e ⟨hk, nm_e ⟨hk, nm_e ?_⟩⟩
          exact br_f n1 (yi_t (lo := 2) (hi := 9) o1 o2 (by omega) (br_f (by decide) (br_f x16 (yi_so0 (s := 1) (by omega) hs kx (br_t rfl hP)))))
  · refine ⟨0, by omega, fun z => by omega, fun post hP => ?_, fun post hP => ?_⟩
    · unfold wpX_operands
      refine ⟨hk, ?_⟩
      rw [hc, hx, hy, ho]
      refine nm_e ⟨hk, nm_e ⟨hk, nm_e ?_⟩⟩
      exact br_f l1 (br_f l10 (xi_nu0 hs ky (br_t rfl hP)))
    · unfold wpY_fits
      refine ⟨hk, ?_⟩
      rw [hc, hx, hy, ho]
      refine nm_e ⟨hk, nm_e ⟨hk, nm_e ?_⟩⟩
      refine br_f n1 (yi_t (lo := 2) (hi := 9) o1 o2 (by omega) (br_f (by decide) (br_c (fun _ => F0 post ky hP) (fun _ => ?_))))
      by_cases kx : q_kx srt x = 1
      · exact yi_so1 (s := 1) (by omega) (by omega) hs kx (br_f (by decide) (F0 post ky hP))
      · exact yi_so0 (s := 1) (by omega) hs kx (br_t rfl hP)
theorem of_10 (hk48 : k < 48) (hs : SrtOK srt) (hx : opX k = x) (hy : opY k = y) {z : Int32} (hz : opZ k = z) (ho : op k = nI 10) : ∃ ρ : Nat, ρ ≤ 1 ∧ (ρ = 1 → (q_kx srt x = 1 ∨ q_kx srt x = 2) ∧ (q_kx srt y = 1 ∨ q_kx srt y = 2) ∧ ∃ h, h < 6 ∧ z = nI h) ∧ (∀ post : Int32 → Prop, post (nI ρ) → wpX_operands post (cn, xpa, xop, pl, ck, pf, pc, st, ix, xst, tl, ds, sto, srt, bas, len, dig, dcm, sgn, tim, sig, op, opX, opY, opZ, tgt, sta, ins, opn, pE, pL, pI, pB, out, pw, wk) (nI k)) ∧ (∀ post : Int32 → Prop, post (nI ρ) → wpY_fits post (cn, ypl, yck, ypf, yat, st, ix, ds, yen, tl, yju, sto, srt, bas, yle, dcm, tim, sig, ysg, op, opX, opY, opZ, out, ych, yot, ylo, pE, pL, yba, yfr, yva) (nI k)) := by
  have hk : vp_in (nI k) 48 := vp_in_nI hk48 (by omega)
  have hc : (nI k).toNatClampNeg = k := nI_clamp (by omega)
  by_cases px : q_kx srt x = 1 ∨ q_kx srt x = 2
  · by_cases py : q_kx srt y = 1 ∨ q_kx srt y = 2
    · rcases pk_ix z (n := 6) (by omega) with a | a | ⟨j, j1, ej⟩
      · refine ⟨0, by omega, fun z => by omega, fun post hP => ?_, fun post hP => ?_⟩
        · unfold wpX_operands
          refine ⟨hk, ?_⟩
          rw [hc, hx, hy, ho]
          refine nm_e ⟨hk, nm_e ⟨hk, nm_e ?_⟩⟩
          repeat (first | refine br_t (by decide) ?_ | refine br_f (by decide) ?_ | unfold wX_operands_63)
          refine xi_pl1 hs px (br_f (by decide) (xi_pl1 hs py (br_f (by decide) ⟨hk, ?_⟩)))
          rw [hc, hz]
          exact br_t a hP
        · unfold wpY_fits
          refine ⟨hk, ?_⟩
          rw [hc, hx, hy, ho]
          refine nm_e ⟨hk, nm_e ⟨hk, nm_e ?_⟩⟩
          refine br_f (by decide) (yi_f (v := 10) (lo := 2) (hi := 9) (by omega) (by omega) (by omega) (by omega) (br_t rfl (br_t rfl ?_)))
          refine yi_it1 hs (by omega) (br_f (by decide) (yi_it1 hs (by omega) (br_f (by decide) (yi_so0 (s := 3) (by omega) hs (by omega) (br_t rfl (yi_so0 (s := 3) (by omega) hs (by omega) (br_t rfl ⟨hk, ?_⟩)))))))
          rw [hz]
          unfold wpY_in
          exact br_t a (br_t rfl hP)
      · have a2 := ge_c (n := 5) (by omega) a
        refine ⟨0, by omega, fun z => by omega, fun post hP => ?_, fun post hP => ?_⟩
        · unfold wpX_operands
          refine ⟨hk, ?_⟩
          rw [hc, hx, hy, ho]
          refine nm_e ⟨hk, nm_e ⟨hk, nm_e ?_⟩⟩
          repeat (first | refine br_t (by decide) ?_ | refine br_f (by decide) ?_ | unfold wX_operands_63)
          refine xi_pl1 hs px (br_f (by decide) (xi_pl1 hs py (br_f (by decide) ⟨hk, ?_⟩)))
          rw [hc, hz]
          exact br_f a2.1 ⟨hk, br_t a hP⟩
        · unfold wpY_fits
          refine ⟨hk, ?_⟩
          rw [hc, hx, hy, ho]
          refine nm_e ⟨hk, nm_e ⟨hk, nm_e ?_⟩⟩
          refine br_f (by decide) (yi_f (v := 10) (lo := 2) (hi := 9) (by omega) (by omega) (by omega) (by omega) (br_t rfl (br_t rfl ?_)))
          refine yi_it1 hs (by omega) (br_f (by decide) (yi_it1 hs (by omega) (br_f (by decide) (yi_so0 (s := 3) (by omega) hs (by omega) (br_t rfl (yi_so0 (s := 3) (by omega) hs (by omega) (br_t rfl ⟨hk, ?_⟩)))))))
          rw [hz]
          unfold wpY_in
          exact br_f a2.1 (br_t a2.2 (br_t rfl hP))
      · refine ⟨1, by omega, fun _ => ⟨px, py, j, j1, ej⟩, fun post hP => ?_, fun post hP => ?_⟩
        · unfold wpX_operands
          refine ⟨hk, ?_⟩
          rw [hc, hx, hy, ho]
          refine nm_e ⟨hk, nm_e ⟨hk, nm_e ?_⟩⟩
          repeat (first | refine br_t (by decide) ?_ | refine br_f (by decide) ?_ | unfold wX_operands_63)
          refine xi_pl1 hs px (br_f (by decide) (xi_pl1 hs py (br_f (by decide) ⟨hk, ?_⟩)))
          rw [hc, hz, ej]
          exact br_f (nI_pos (by omega)) ⟨hk, br_f (nI_ge (b := 6) j1 (by omega)) hP⟩
        · unfold wpY_fits
          refine ⟨hk, ?_⟩
          rw [hc, hx, hy, ho]
          refine nm_e ⟨hk, nm_e ⟨hk, nm_e ?_⟩⟩
          refine br_f (by decide) (yi_f (v := 10) (lo := 2) (hi := 9) (by omega) (by omega) (by omega) (by omega) (br_t rfl (br_t rfl ?_)))
          refine yi_it1 hs (by omega) (br_f (by decide) (yi_it1 hs (by omega) (br_f (by decide) (yi_so0 (s := 3) (by omega) hs (by omega) (br_t rfl (yi_so0 (s := 3) (by omega) hs (by omega) (br_t rfl ⟨hk, ?_⟩)))))))
          rw [hz, ej]
          exact yi_t (lo := 0) (hi := 5) (by omega) (by omega) (by omega) (br_f (by decide) hP)
    · refine ⟨0, by omega, fun z => by omega, fun post hP => ?_, fun post hP => ?_⟩
      · unfold wpX_operands
        refine ⟨hk, ?_⟩
        rw [hc, hx, hy, ho]
        refine nm_e ⟨hk, nm_e ⟨hk, nm_e ?_⟩⟩
        repeat (first | refine br_t (by decide) ?_ | refine br_f (by decide) ?_ | unfold wX_operands_63)
        exact xi_pl1 hs px (br_f (by decide) (xi_pl0 hs py (br_t rfl hP)))
      · unfold wpY_fits
        refine ⟨hk, ?_⟩
        rw [hc, hx, hy, ho]
        refine nm_e ⟨hk, nm_e ⟨hk, nm_e ?_⟩⟩
        refine br_f (by decide) (yi_f (v := 10) (lo := 2) (hi := 9) (by omega) (by omega) (by omega) (by omega) (br_t rfl (br_t rfl ?_)))
        refine yi_it1 hs (by omega) (br_f (by decide) ?_)
        by_cases y0 : q_kx srt y = 0
        · exact yi_it0 hs y0 (br_t rfl hP)
        · have k3 : q_kx srt y = 3 := by
            rcases kx_c hs y with ⟨q, -⟩ | ⟨j, -, -, -, q⟩ <;> omega
          exact yi_it1 hs y0 (br_f (by decide) (yi_so0 (s := 3) (by omega) hs (by omega) (br_t rfl (yi_so1 (s := 3) (by omega) (by omega) hs k3 (br_f (by decide) hP)))))
  · refine ⟨0, by omega, fun z => by omega, fun post hP => ?_, fun post hP => ?_⟩
    · unfold wpX_operands
      refine ⟨hk, ?_⟩
      rw [hc, hx, hy, ho]
      refine nm_e ⟨hk, nm_e ⟨hk, nm_e ?_⟩⟩
      repeat (first | refine br_t (by decide) ?_ | refine br_f (by decide) ?_ | unfold wX_operands_63)
      exact xi_pl0 hs px (br_t rfl hP)
    · unfold wpY_fits
      refine ⟨hk, ?_⟩
      rw [hc, hx, hy, ho]
      refine nm_e ⟨hk, nm_e ⟨hk, nm_e ?_⟩⟩
      refine br_f (by decide) (yi_f (v := 10) (lo := 2) (hi := 9) (by omega) (by omega) (by omega) (by omega) (br_t rfl (br_t rfl ?_)))
      by_cases x0 : q_kx srt x = 0
      · exact yi_it0 hs x0 (br_t rfl hP)
      · have k3 : q_kx srt x = 3 := by
          rcases kx_c hs x with ⟨q, -⟩ | ⟨j, -, -, -, q⟩ <;> omega
        refine yi_it1 hs x0 (br_f (by decide) ?_)
        by_cases y0 : q_kx srt y = 0
        · exact yi_it0 hs y0 (br_t rfl hP)
        · exact yi_it1 hs y0 (br_f (by decide) (yi_so1 (s := 3) (by omega) (by omega) hs k3 (br_f (by decide) hP)))
theorem of_12 (hk48 : k < 48) (hs : SrtOK srt) (hx : opX k = x) (hy : opY k = y) (ho : op k = nI 12) : ∃ ρ : Nat, ρ ≤ 1 ∧ (ρ = 1 → q_kx srt x = 1 ∨ q_kx srt x = 2) ∧ (∀ post : Int32 → Prop, post (nI ρ) → wpX_operands post (cn, xpa, xop, pl, ck, pf, pc, st, ix, xst, tl, ds, sto, srt, bas, len, dig, dcm, sgn, tim, sig, op, opX, opY, opZ, tgt, sta, ins, opn, pE, pL, pI, pB, out, pw, wk) (nI k)) ∧ (∀ post : Int32 → Prop, post (nI ρ) → wpY_fits post (cn, ypl, yck, ypf, yat, st, ix, ds, yen, tl, yju, sto, srt, bas, yle, dcm, tim, sig, ysg, op, opX, opY, opZ, out, ych, yot, ylo, pE, pL, yba, yfr, yva) (nI k)) := by
  have hk : vp_in (nI k) 48 := vp_in_nI hk48 (by omega)
  have hc : (nI k).toNatClampNeg = k := nI_clamp (by omega)
  by_cases px : q_kx srt x = 1 ∨ q_kx srt x = 2
  · refine ⟨1, by omega, fun _ => px, fun post hP => ?_, fun post hP => ?_⟩
    · unfold wpX_operands
      refine ⟨hk, ?_⟩
      rw [hc, hx, hy, ho]
      refine nm_e ⟨hk, nm_e ⟨hk, nm_e ?_⟩⟩
      repeat (first | refine br_t (by decide) ?_ | refine br_f (by decide) ?_ | unfold wX_operands_63)
      exact xi_pl1 hs px ⟨rfl, hP⟩
    · unfold wpY_fits
      refine ⟨hk, ?_⟩
      rw [hc, hx, hy, ho]
      refine nm_e ⟨hk, nm_e ⟨hk, nm_e ?_⟩⟩
      refine br_f (by decide) (yi_f (v := 12) (lo := 2) (hi := 9) (by omega) (by omega) (by omega) (by omega) (br_t rfl ?_))
      repeat (first | refine br_t (by decide) ?_ | refine br_f (by decide) ?_)
      by_cases p1 : q_kx srt x = 1
      · exact yi_so1 (s := 1) (by omega) (by omega) hs p1 (br_f (by decide) hP)
      · exact yi_so0 (s := 1) (by omega) hs p1 (br_t rfl (yi_so1 (s := 2) (by omega) (by omega) hs (by omega) (br_f (by decide) hP)))
  · refine ⟨0, by omega, fun z => by omega, fun post hP => ?_, fun post hP => ?_⟩
    · unfold wpX_operands
      refine ⟨hk, ?_⟩
      rw [hc, hx, hy, ho]
      refine nm_e ⟨hk, nm_e ⟨hk, nm_e ?_⟩⟩
      repeat (first | refine br_t (by decide) ?_ | refine br_f (by decide) ?_ | unfold wX_operands_63)
      exact xi_pl0 hs px ⟨rfl, hP⟩
    · unfold wpY_fits
      refine ⟨hk, ?_⟩
      rw [hc, hx, hy, ho]
      refine nm_e ⟨hk, nm_e ⟨hk, nm_e ?_⟩⟩
      refine br_f (by decide) (yi_f (v := 12) (lo := 2) (hi := 9) (by omega) (by omega) (by omega) (by omega) (br_t rfl ?_))
      repeat (first | refine br_t (by decide) ?_ | refine br_f (by decide) ?_)
      exact yi_so0 (s := 1) (by omega) hs (by omega) (br_t rfl (yi_so0 (s := 2) (by omega) hs (by omega) (br_t rfl hP)))
theorem of_19 (hk48 : k < 48) (hs : SrtOK srt) (hx : opX k = x) (hy : opY k = y) (ho : op k = nI 19) : ∃ ρ : Nat, ρ ≤ 1 ∧ (ρ = 1 → x = 16 ∨ ¬ q_kx srt x = 0) ∧ (∀ post : Int32 → Prop, post (nI ρ) → wpX_operands post (cn, xpa, xop, pl, ck, pf, pc, st, ix, xst, tl, ds, sto, srt, bas, len, dig, dcm, sgn, tim, sig, op, opX, opY, opZ, tgt, sta, ins, opn, pE, pL, pI, pB, out, pw, wk) (nI k)) ∧ (∀ post : Int32 → Prop, post (nI ρ) → wpY_fits post (cn, ypl, yck, ypf, yat, st, ix, ds, yen, tl, yju, sto, srt, bas, yle, dcm, tim, sig, ysg, op, opX, opY, opZ, out, ych, yot, ylo, pE, pL, yba, yfr, yva) (nI k)) := by
  have hk : vp_in (nI k) 48 := vp_in_nI hk48 (by omega)
  have hc : (nI k).toNatClampNeg = k := nI_clamp (by omega)
  by_cases x16 : x = 16
  · refine ⟨1, by omega, fun _ => Or.inl x16, fun post hP => ?_, fun post hP => ?_⟩
    · unfold wpX_operands
      refine ⟨hk, ?_⟩
      rw [hc, hx, hy, ho]
      refine nm_e ⟨hk, nm_e ⟨hk, nm_e ?_⟩⟩
      repeat (first | refine br_t (by decide) ?_ | refine br_f (by decide) ?_ | unfold wX_operands_63)
      exact br_t x16 hP
    · unfold wpY_fits
      refine ⟨hk, ?_⟩
      rw [hc, hx, hy, ho]
      refine nm_e ⟨hk, nm_e ⟨hk, nm_e ?_⟩⟩
      refine br_f (by decide) (yi_f (v := 19) (lo := 2) (hi := 9) (by omega) (by omega) (by omega) (by omega) (br_t rfl ?_))
      repeat (first | refine br_t (by decide) ?_ | refine br_f (by decide) ?_)
      unfold wY_fits_262
      exact br_t x16 hP
  · by_cases kx : q_kx srt x = 0
    · refine ⟨0, by omega, fun z => by omega, fun post hP => ?_, fun post hP => ?_⟩
      · unfold wpX_operands
        refine ⟨hk, ?_⟩
        rw [hc, hx, hy, ho]
        refine nm_e ⟨hk, nm_e ⟨hk, nm_e ?_⟩⟩
        repeat (first | refine br_t (by decide) ?_ | refine br_f (by decide) ?_ | unfold wX_operands_63)
        exact br_f x16 (xi_it0 hs kx (br_t rfl hP))
      · unfold wpY_fits
        refine ⟨hk, ?_⟩
        rw [hc, hx, hy, ho]
        refine nm_e ⟨hk, nm_e ⟨hk, nm_e ?_⟩⟩
        refine br_f (by decide) (yi_f (v := 19) (lo := 2) (hi := 9) (by omega) (by omega) (by omega) (by omega) (br_t rfl ?_))
        repeat (first | refine br_t (by decide) ?_ | refine br_f (by decide) ?_)
        unfold wY_fits_262
        exact br_f x16 (yi_it0 hs kx (br_t rfl hP))
    · refine ⟨1, by omega, fun _ => Or.inr kx, fun post hP => ?_, fun post hP => ?_⟩
      · unfold wpX_operands
        refine ⟨hk, ?_⟩
        rw [hc, hx, hy, ho]
        refine nm_e ⟨hk, nm_e ⟨hk, nm_e ?_⟩⟩
        repeat (first | refine br_t (by decide) ?_ | refine br_f (by decide) ?_ | unfold wX_operands_63)
        exact br_f x16 (xi_it1 hs kx (br_f (by decide) hP))
      · unfold wpY_fits
        refine ⟨hk, ?_⟩
        rw [hc, hx, hy, ho]
        refine nm_e ⟨hk, nm_e ⟨hk, nm_e ?_⟩⟩
        refine br_f (by decide) (yi_f (v := 19) (lo := 2) (hi := 9) (by omega) (by omega) (by omega) (by omega) (br_t rfl ?_))
        repeat (first | refine br_t (by decide) ?_ | refine br_f (by decide) ?_)
        unfold wY_fits_262
        exact br_f x16 (yi_it1 hs kx (br_f (by decide) (br_t rfl hP)))
theorem of_20 (hk48 : k < 48) (hs : SrtOK srt) (hx : opX k = x) (hy : opY k = y) (ho : op k = nI 20) : ∃ ρ : Nat, ρ ≤ 1 ∧ (ρ = 1 → x = 16 ∨ q_kx srt x = 1) ∧ (∀ post : Int32 → Prop, post (nI ρ) → wpX_operands post (cn, xpa, xop, pl, ck, pf, pc, st, ix, xst, tl, ds, sto, srt, bas, len, dig, dcm, sgn, tim, sig, op, opX, opY, opZ, tgt, sta, ins, opn, pE, pL, pI, pB, out, pw, wk) (nI k)) ∧ (∀ post : Int32 → Prop, post (nI ρ) → wpY_fits post (cn, ypl, yck, ypf, yat, st, ix, ds, yen, tl, yju, sto, srt, bas, yle, dcm, tim, sig, ysg, op, opX, opY, opZ, out, ych, yot, ylo, pE, pL, yba, yfr, yva) (nI k)) := by
  have hk : vp_in (nI k) 48 := vp_in_nI hk48 (by omega)
  have hc : (nI k).toNatClampNeg = k := nI_clamp (by omega)
  by_cases x16 : x = 16
  · refine ⟨1, by omega, fun _ => Or.inl x16, fun post hP => ?_, fun post hP => ?_⟩
    · unfold wpX_operands
      refine ⟨hk, ?_⟩
      rw [hc, hx, hy, ho]
      refine nm_e ⟨hk, nm_e ⟨hk, nm_e ?_⟩⟩
      repeat (first | refine br_t (by decide) ?_ | refine br_f (by decide) ?_ | unfold wX_operands_63)
      exact br_t x16 hP
    · unfold wpY_fits
      refine ⟨hk, ?_⟩
      rw [hc, hx, hy, ho]
      refine nm_e ⟨hk, nm_e ⟨hk, nm_e ?_⟩⟩
      refine br_f (by decide) (yi_f (v := 20) (lo := 2) (hi := 9) (by omega) (by omega) (by omega) (by omega) (br_t rfl ?_))
      repeat (first | refine br_t (by decide) ?_ | refine br_f (by decide) ?_)
      unfold wY_fits_262
      exact br_t x16 hP
  · by_cases kx : q_kx srt x = 0
    · refine ⟨0, by omega, fun z => by omega, fun post hP => ?_, fun post hP => ?_⟩
      · unfold wpX_operands
        refine ⟨hk, ?_⟩
        rw [hc, hx, hy, ho]
        refine nm_e ⟨hk, nm_e ⟨hk, nm_e ?_⟩⟩
        repeat (first | refine br_t (by decide) ?_ | refine br_f (by decide) ?_ | unfold wX_operands_63)
        exact br_f x16 (xi_nu0 hs (by omega) (br_t rfl hP))
      · unfold wpY_fits
        refine ⟨hk, ?_⟩
        rw [hc, hx, hy, ho]
        refine nm_e ⟨hk, nm_e ⟨hk, nm_e ?_⟩⟩
        refine br_f (by decide) (yi_f (v := 20) (lo := 2) (hi := 9) (by omega) (by omega) (by omega) (by omega) (br_t rfl ?_))
        repeat (first | refine br_t (by decide) ?_ | refine br_f (by decide) ?_)
        unfold wY_fits_262
        exact br_f x16 (yi_it0 hs kx (br_t rfl hP))
    · rcases kx_c hs x with ⟨q, -⟩ | ⟨j, j1, ej, e, k3⟩
      · exact absurd q kx
      · by_cases k1 : q_kx srt x = 1
        · refine ⟨1, by omega, fun _ => Or.inr k1, fun post hP => ?_, fun post hP => ?_⟩
          · unfold wpX_operands
            refine ⟨hk, ?_⟩
            rw [hc, hx, hy, ho]
            refine nm_e ⟨hk, nm_e ⟨hk, nm_e ?_⟩⟩
            repeat (first | refine br_t (by decide) ?_ | refine br_f (by decide) ?_ | unfold wX_operands_63)
            exact br_f x16 (xi_nu1 hs k1 (br_f (by decide) hP))
          · unfold wpY_fits
            refine ⟨hk, ?_⟩
            rw [hc, hx, hy, ho]
            refine nm_e ⟨hk, nm_e ⟨hk, nm_e ?_⟩⟩
            refine br_f (by decide) (yi_f (v := 20) (lo := 2) (hi := 9) (by omega) (by omega) (by omega) (by omega) (br_t rfl ?_))
            repeat (first | refine br_t (by decide) ?_ | refine br_f (by decide) ?_)
            unfold wY_fits_262
            refine br_f x16 (yi_it1 hs kx (br_f (by decide) (br_f (by decide) ⟨by rw [ej]; exact vp_in_nI j1 (by omega), ?_⟩)))
            rw [show srt x.toNatClampNeg = nI 1 by rw [ej, nI_clamp (n := j) (by omega), e, k1]]
            exact br_t rfl hP
        · refine ⟨0, by omega, fun z => by omega, fun post hP => ?_, fun post hP => ?_⟩
          · unfold wpX_operands
            refine ⟨hk, ?_⟩
            rw [hc, hx, hy, ho]
            refine nm_e ⟨hk, nm_e ⟨hk, nm_e ?_⟩⟩
            repeat (first | refine br_t (by decide) ?_ | refine br_f (by decide) ?_ | unfold wX_operands_63)
            exact br_f x16 (xi_nu0 hs k1 (br_t rfl hP))
          · unfold wpY_fits
            refine ⟨hk, ?_⟩
            rw [hc, hx, hy, ho]
            refine nm_e ⟨hk, nm_e ⟨hk, nm_e ?_⟩⟩
            refine br_f (by decide) (yi_f (v := 20) (lo := 2) (hi := 9) (by omega) (by omega) (by omega) (by omega) (br_t rfl ?_))
            repeat (first | refine br_t (by decide) ?_ | refine br_f (by decide) ?_)
            unfold wY_fits_262
            refine br_f x16 (yi_it1 hs kx (br_f (by decide) (br_f (by decide) ⟨by rw [ej]; exact vp_in_nI j1 (by omega), ?_⟩)))
            rw [show srt x.toNatClampNeg = nI (q_kx srt x) by rw [ej, nI_clamp (n := j) (by omega)]; rw [ej] at e; exact e]
            exact br_f (fun z => k1 ((nI_eq (b := 1) (by omega) (by omega)).mp z)) hP
theorem of_22 (hk48 : k < 48) (hs : SrtOK srt) (hx : opX k = x) (hy : opY k = y) (ho : op k = nI 22) : ∃ ρ : Nat, ρ ≤ 1 ∧ (ρ = 1 → ¬ q_kx srt x = 0 ∧ q_kx srt y = 1) ∧ (∀ post : Int32 → Prop, post (nI ρ) → wpX_operands post (cn, xpa, xop, pl, ck, pf, pc, st, ix, xst, tl, ds, sto, srt, bas, len, dig, dcm, sgn, tim, sig, op, opX, opY, opZ, tgt, sta, ins, opn, pE, pL, pI, pB, out, pw, wk) (nI k)) ∧ (∀ post : Int32 → Prop, post (nI ρ) → wpY_fits post (cn, ypl, yck, ypf, yat, st, ix, ds, yen, tl, yju, sto, srt, bas, yle, dcm, tim, sig, ysg, op, opX, opY, opZ, out, ych, yot, ylo, pE, pL, yba, yfr, yva) (nI k)) := by
  have hk : vp_in (nI k) 48 := vp_in_nI hk48 (by omega)
  have hc : (nI k).toNatClampNeg = k := nI_clamp (by omega)
  by_cases kx : q_kx srt x = 0
  · refine ⟨0, by omega, fun z => by omega, fun post hP => ?_, fun post hP => ?_⟩
    · unfold wpX_operands
      refine ⟨hk, ?_⟩
      rw [hc, hx, hy, ho]
      refine nm_e ⟨hk, nm_e ⟨hk, nm_e ?_⟩⟩
      repeat (first | refine br_t (by decide) ?_ | refine br_f (by decide) ?_ | unfold wX_operands_63)
      exact xi_it0 hs kx (br_t rfl hP)
    · unfold wpY_fits
      refine ⟨hk, ?_⟩
      rw [hc, hx, hy, ho]
      refine nm_e ⟨hk, nm_e ⟨hk, nm_e ?_⟩⟩
      refine br_f (by decide) (yi_f (v := 22) (lo := 2) (hi := 9) (by omega) (by omega) (by omega) (by omega) (br_t rfl ?_))
      repeat (first | refine br_t (by decide) ?_ | refine br_f (by decide) ?_)
      exact yi_it0 hs kx (br_t rfl hP)
  · by_cases ky : q_kx srt y = 1
    · refine ⟨1, by omega, fun _ => ⟨kx, ky⟩, fun post hP => ?_, fun post hP => ?_⟩
      · unfold wpX_operands
        refine ⟨hk, ?_⟩
        rw [hc, hx, hy, ho]
        refine nm_e ⟨hk, nm_e ⟨hk, nm_e ?_⟩⟩
        repeat (first | refine br_t (by decide) ?_ | refine br_f (by decide) ?_ | unfold wX_operands_63)
        exact xi_it1 hs kx (br_f (by decide) (xi_nu1 hs ky (br_f (by decide) hP)))
      · unfold wpY_fits
        refine ⟨hk, ?_⟩
        rw [hc, hx, hy, ho]
        refine nm_e ⟨hk, nm_e ⟨hk, nm_e ?_⟩⟩
        refine br_f (by decide) (yi_f (v := 22) (lo := 2) (hi := 9) (by omega) (by omega) (by omega) (by omega) (br_t rfl ?_))
        repeat (first | refine br_t (by decide) ?_ | refine br_f (by decide) ?_)
        exact yi_it1 hs kx (br_f (by decide) (yi_so1 (s := 1) (by omega) (by omega) hs ky (br_f (by decide) hP)))
    · refine ⟨0, by omega, fun z => by omega, fun post hP => ?_, fun post hP => ?_⟩
      · unfold wpX_operands
        refine ⟨hk, ?_⟩
        rw [hc, hx, hy, ho]
        refine nm_e ⟨hk, nm_e ⟨hk, nm_e ?_⟩⟩
        repeat (first | refine br_t (by decide) ?_ | refine br_f (by decide) ?_ | unfold wX_operands_63)
        exact xi_it1 hs kx (br_f (by decide) (xi_nu0 hs ky (br_t rfl hP)))
      · unfold wpY_fits
        refine ⟨hk, ?_⟩
        rw [hc, hx, hy, ho]
        refine nm_e ⟨hk, nm_e ⟨hk, nm_e ?_⟩⟩
        refine br_f (by decide) (yi_f (v := 22) (lo := 2) (hi := 9) (by omega) (by omega) (by omega) (by omega) (br_t rfl ?_))
        repeat (first | refine br_t (by decide) ?_ | refine br_f (by decide) ?_)
        exact yi_it1 hs kx (br_f (by decide) (yi_so0 (s := 1) (by omega) hs ky (br_t rfl hP)))
theorem of_tr {o : Nat} (hk48 : k < 48) (hs : SrtOK srt) (hx : opX k = x) (hy : opY k = y) (o1 : o = 0 ∨ o = 11 ∨ o = 13 ∨ o = 14 ∨ o = 18 ∨ o = 21) (ho : op k = nI o) : (∀ post : Int32 → Prop, post 1 → wpX_operands post (cn, xpa, xop, pl, ck, pf, pc, st, ix, xst, tl, ds, sto, srt, bas, len, dig, dcm, sgn, tim, sig, op, opX, opY, opZ, tgt, sta, ins, opn, pE, pL, pI, pB, out, pw, wk) (nI k)) ∧ (∀ post : Int32 → Prop, post 1 → wpY_fits post (cn, ypl, yck, ypf, yat, st, ix, ds, yen, tl, yju, sto, srt, bas, yle, dcm, tim, sig, ysg, op, opX, opY, opZ, out, ych, yot, ylo, pE, pL, yba, yfr, yva) (nI k)) := by
  have hk : vp_in (nI k) 48 := vp_in_nI hk48 (by omega)
  have hc : (nI k).toNatClampNeg = k := nI_clamp (by omega)
  rcases o1 with rfl | rfl | rfl | rfl | rfl | rfl
  all_goals
    refine ⟨fun post hP => ?_, fun post hP => ?_⟩
    · unfold wpX_operands
      refine ⟨hk, ?_⟩
      rw [hc, hx, hy, ho]
      refine nm_e ⟨hk, nm_e ⟨hk, nm_e ?_⟩⟩
      repeat (first | refine br_t (by decide) ?_ | refine br_f (by decide) ?_ | unfold wX_operands_63)
      exact hP
    · unfold wpY_fits
      refine ⟨hk, ?_⟩
      rw [hc, hx, hy, ho]
      refine nm_e ⟨hk, nm_e ⟨hk, nm_e ?_⟩⟩
      refine br_f (by decide) (yi_f (lo := 2) (hi := 9) (by omega) (by omega) (by omega) (by omega) (br_t rfl ?_))
      repeat (first | refine br_t (by decide) ?_ | refine br_f (by decide) ?_)
      exact hP
theorem of_1516 {o : Nat} (hk48 : k < 48) (hs : SrtOK srt) (hx : opX k = x) (hy : opY k = y) (hop : OpOK op) (hN : N ≤ 48) (o1 : o = 15 ∨ o = 16) (ho : op k = nI o) : ∃ ρ : Nat, ρ ≤ 1 ∧ (ρ = 1 → ∃ a b, x = nI a ∧ y = nI b ∧ a ≤ b ∧ b < q_pc op N) ∧ (∀ post : Int32 → Prop, post (nI ρ) → wpX_operands post (nI N, nI (q_pc op N), xop, pl, ck, pf, pc, st, ix, xst, tl, ds, sto, srt, bas, len, dig, dcm, sgn, tim, sig, op, opX, opY, opZ, tgt, sta, ins, opn, pE, pL, pI, pB, out, pw, wk) (nI k)) ∧ (∀ post : Int32 → Prop, post (nI ρ) → wpY_fits post (nI N, ypl, yck, ypf, yat, st, ix, ds, yen, tl, yju, sto, srt, bas, yle, dcm, tim, sig, ysg, op, opX, opY, opZ, out, ych, yot, ylo, pE, pL, yba, yfr, yva) (nI k)) := by
  have hk : vp_in (nI k) 48 := vp_in_nI hk48 (by omega)
  have hc : (nI k).toNatClampNeg = k := nI_clamp (by omega)
  have np := pc_le op N
  have X0 : ∀ post : Int32 → Prop, wX_operands_244 post x y (nI N) (nI (q_pc op N)) xop pl ck pf pc st ix xst tl ds sto srt bas len dig dcm sgn tim sig op opX opY opZ tgt sta ins opn pE pL pI pB out pw wk → wpX_operands post (nI N, nI (q_pc op N), xop, pl, ck, pf, pc, st, ix, xst, tl, ds, sto, srt, bas, len, dig, dcm, sgn, tim, sig, op, opX, opY, opZ, tgt, sta, ins, opn, pE, pL, pI, pB, out, pw, wk) (nI k) := by
    intro post K
    rcases o1 with rfl | rfl
    · unfold wpX_operands
      refine ⟨hk, ?_⟩
      rw [hc, hx, hy, ho]
      refine nm_e ⟨hk, nm_e ⟨hk, nm_e ?_⟩⟩
      repeat (first | refine br_t (by decide) ?_ | refine br_f (by decide) ?_ | unfold wX_operands_63)
      exact K
    · unfold wpX_operands
      refine ⟨hk, ?_⟩
      rw [hc, hx, hy, ho]
      refine nm_e ⟨hk, nm_e ⟨hk, nm_e ?_⟩⟩
      repeat (first | refine br_t (by decide) ?_ | refine br_f (by decide) ?_ | unfold wX_operands_63)
      exact K
  have Y0 : ∀ post : Int32 → Prop, wY_fits_201 post x y (nI N) ypl yck ypf yat st ix ds yen tl yju sto srt bas yle dcm tim sig ysg op opX opY opZ out ych yot ylo pE pL yba yfr yva → wpY_fits post (nI N, ypl, yck, ypf, yat, st, ix, ds, yen, tl, yju, sto, srt, bas, yle, dcm, tim, sig, ysg, op, opX, opY, opZ, out, ych, yot, ylo, pE, pL, yba, yfr, yva) (nI k) := by
    intro post K
    rcases o1 with rfl | rfl
    · unfold wpY_fits
      refine ⟨hk, ?_⟩
      rw [hc, hx, hy, ho]
      refine nm_e ⟨hk, nm_e ⟨hk, nm_e ?_⟩⟩
      refine br_f (by decide) (yi_f (v := 15) (lo := 2) (hi := 9) (by omega) (by omega) (by omega) (by omega) (br_t rfl ?_))
      repeat (first | refine br_t (by decide) ?_ | refine br_f (by decide) ?_)
      exact K
    · unfold wpY_fits
      refine ⟨hk, ?_⟩
      rw [hc, hx, hy, ho]
      refine nm_e ⟨hk, nm_e ⟨hk, nm_e ?_⟩⟩
      refine br_f (by decide) (yi_f (v := 16) (lo := 2) (hi := 9) (by omega) (by omega) (by omega) (by omega) (br_t rfl ?_))
      repeat (first | refine br_t (by decide) ?_ | refine br_f (by decide) ?_)
      exact K
  by_cases c1 : x < 0
  · refine ⟨0, by omega, fun z => by omega, fun post hP => X0 post ?_, fun post hP => Y0 post ?_⟩
    · unfold wX_operands_244 wpX_range
      exact br_t c1 ⟨rfl, hP⟩
    · unfold wY_fits_201
      exact br_t c1 hP
  · by_cases c2 : y < x
    · refine ⟨0, by omega, fun z => by omega, fun post hP => X0 post ?_, fun post hP => Y0 post ?_⟩
      · unfold wX_operands_244 wpX_range
        exact br_f c1 (br_t c2 ⟨rfl, hP⟩)
      · unfold wY_fits_201
        exact br_f c1 (br_t c2 hP)
    · by_cases c3 : nI (q_pc op N) ≤ y
      · refine ⟨0, by omega, fun z => by omega, fun post hP => X0 post ?_, fun post hP => Y0 post ?_⟩
        · unfold wX_operands_244 wpX_range
          exact br_f c1 (br_f c2 (br_t c3 ⟨rfl, hP⟩))
        · unfold wY_fits_201
          exact br_f c1 (br_f c2 (yp_np hop hN (br_t c3 hP)))
      · refine ⟨1, by omega, fun _ => ?_, fun post hP => X0 post ?_, fun post hP => Y0 post ?_⟩
        · obtain ⟨a, ha, rfl⟩ := nI_of c1
          have c1y : ¬ y < 0 := by
            intro z
            have h1 := Int32.lt_iff_toInt_lt.mp z
            have h2 : ¬ y.toInt < (nI a).toInt := fun q => c2 (Int32.lt_iff_toInt_lt.mpr q)
            rw [nI_toInt (by omega)] at h2
            rw [show (0 : Int32).toInt = 0 from by decide] at h1
            omega
          obtain ⟨b, hb, rfl⟩ := nI_of c1y
          rw [nI_ltI (by omega) (by omega)] at c2
          rw [nI_leI (by omega) (by omega)] at c3
          exact ⟨a, b, rfl, rfl, by omega, by omega⟩
        · unfold wX_operands_244 wpX_range
          exact br_f c1 (br_f c2 (br_f c3 ⟨rfl, hP⟩))
        · unfold wY_fits_201
          exact br_f c1 (br_f c2 (yp_np hop hN (br_f c3 hP)))
theorem of_17 (hk48 : k < 48) (hs : SrtOK srt) (hx : opX k = x) (hy : opY k = y) (hop : OpOK op) (hN : N ≤ 48) (ho : op k = nI 17) : ∃ ρ : Nat, ρ ≤ 1 ∧ (ρ = 1 → ∃ a, x = nI a ∧ a < q_pc op N) ∧ (∀ post : Int32 → Prop, post (nI ρ) → wpX_operands post (nI N, nI (q_pc op N), xop, pl, ck, pf, pc, st, ix, xst, tl, ds, sto, srt, bas, len, dig, dcm, sgn, tim, sig, op, opX, opY, opZ, tgt, sta, ins, opn, pE, pL, pI, pB, out, pw, wk) (nI k)) ∧ (∀ post : Int32 → Prop, post (nI ρ) → wpY_fits post (nI N, ypl, yck, ypf, yat, st, ix, ds, yen, tl, yju, sto, srt, bas, yle, dcm, tim, sig, ysg, op, opX, opY, opZ, out, ych, yot, ylo, pE, pL, yba, yfr, yva) (nI k)) := by
  have hk : vp_in (nI k) 48 := vp_in_nI hk48 (by omega)
  have hc : (nI k).toNatClampNeg = k := nI_clamp (by omega)
  have np := pc_le op N
  have c2 : ¬ x < x := Int32.lt_irrefl
  by_cases c1 : x < 0
  · refine ⟨0, by omega, fun z => by omega, fun post hP => ?_, fun post hP => ?_⟩
    · unfold wpX_operands
      refine ⟨hk, ?_⟩
      rw [hc, hx, hy, ho]
      refine nm_e ⟨hk, nm_e ⟨hk, nm_e ?_⟩⟩
      repeat (first | refine br_t (by decide) ?_ | refine br_f (by decide) ?_ | unfold wX_operands_63)
      unfold wpX_range
      exact br_t c1 ⟨rfl, hP⟩
    · unfold wpY_fits
      refine ⟨hk, ?_⟩
      rw [hc, hx, hy, ho]
      refine nm_e ⟨hk, nm_e ⟨hk, nm_e ?_⟩⟩
      refine br_f (by decide) (yi_f (v := 17) (lo := 2) (hi := 9) (by omega) (by omega) (by omega) (by omega) (br_t rfl ?_))
      repeat (first | refine br_t (by decide) ?_ | refine br_f (by decide) ?_)
      exact br_t c1 hP
  · by_cases c3 : nI (q_pc op N) ≤ x
    · refine ⟨0, by omega, fun z => by omega, fun post hP => ?_, fun post hP => ?_⟩
      · unfold wpX_operands
        refine ⟨hk, ?_⟩
        rw [hc, hx, hy, ho]
        refine nm_e ⟨hk, nm_e ⟨hk, nm_e ?_⟩⟩
        repeat (first | refine br_t (by decide) ?_ | refine br_f (by decide) ?_ | unfold wX_operands_63)
        unfold wpX_range
        exact br_f c1 (br_f c2 (br_t c3 ⟨rfl, hP⟩))
      · unfold wpY_fits
        refine ⟨hk, ?_⟩
        rw [hc, hx, hy, ho]
        refine nm_e ⟨hk, nm_e ⟨hk, nm_e ?_⟩⟩
        refine br_f (by decide) (yi_f (v := 17) (lo := 2) (hi := 9) (by omega) (by omega) (by omega) (by omega) (br_t rfl ?_))
        repeat (first | refine br_t (by decide) ?_ | refine br_f (by decide) ?_)
        exact br_f c1 (yp_np hop hN (br_t c3 hP))
    · refine ⟨1, by omega, fun _ => ?_, fun post hP => ?_, fun post hP => ?_⟩
      · obtain ⟨a, ha, rfl⟩ := nI_of c1
        rw [nI_leI (by omega) (by omega)] at c3
        exact ⟨a, rfl, by omega⟩
      · unfold wpX_operands
        refine ⟨hk, ?_⟩
        rw [hc, hx, hy, ho]
        refine nm_e ⟨hk, nm_e ⟨hk, nm_e ?_⟩⟩
        repeat (first | refine br_t (by decide) ?_ | refine br_f (by decide) ?_ | unfold wX_operands_63)
        unfold wpX_range
        exact br_f c1 (br_f c2 (br_f c3 ⟨rfl, hP⟩))
      · unfold wpY_fits
        refine ⟨hk, ?_⟩
        rw [hc, hx, hy, ho]
        refine nm_e ⟨hk, nm_e ⟨hk, nm_e ?_⟩⟩
        refine br_f (by decide) (yi_f (v := 17) (lo := 2) (hi := 9) (by omega) (by omega) (by omega) (by omega) (br_t rfl ?_))
        repeat (first | refine br_t (by decide) ?_ | refine br_f (by decide) ?_)
        exact br_f c1 (yp_np hop hN (br_f c3 hP))
end
end
section
section
variable {cn : Int32} {xpa : Int32} {xop : Int32} {pl : Int32} {ck : Int32} {pf : Int32} {pc : Int32} {st : Int32} {ix : Int32} {xst : Int32} {tl : Int32} {ds : Int32} {sto : Nat → Int32} {srt : Nat → Int32} {bas : Nat → Int32} {len : Nat → Int32} {dig : Nat → Int32} {dcm : Nat → Int32} {sgn : Nat → Int32} {tim : Nat → Int32} {sig : Nat → Int32} {op : Nat → Int32} {opX : Nat → Int32} {opY : Nat → Int32} {opZ : Nat → Int32} {tgt : Nat → Int32} {sta : Nat → Int32} {ins : Nat → Int32} {opn : Nat → Int32} {pE : Nat → Int32} {pL : Nat → Int32} {pI : Nat → Int32} {pB : Nat → Int32} {out : Nat → Int32} {pw : Nat → Int64} {wk : Nat → Int32} {ypf : Int32} {yat : Int32} {yen : Int32} {yju : Int32} {yle : Nat → Int32} {ysg : Nat → Int32} {ych : Nat → Int32} {yot : Nat → Int32} {ylo : Nat → Int32} {yba : Nat → Int32} {yfr : Nat → Int32} {yva : Nat → Int32} {ypl yck : Int32}
theorem of_sim {k N : Nat} (hk48 : k < 48) (hs : SrtOK srt) (hop : OpOK op) (hN : N ≤ 48) : ∃ ρ : Nat, ρ ≤ 1 ∧ (ρ = 1 → q_gd (cd op k) (q_kx srt (opX k)) (q_kx srt (opY k)) (q_pc op N) (opX k) (opY k) (opZ k)) ∧ (∀ post : Int32 → Prop, post (nI ρ) → wpX_operands post (nI N, nI (q_pc op N), xop, pl, ck, pf, pc, st, ix, xst, tl, ds, sto, srt, bas, len, dig, dcm, sgn, tim, sig, op, opX, opY, opZ, tgt, sta, ins, opn, pE, pL, pI, pB, out, pw, wk) (nI k)) ∧ (∀ post : Int32 → Prop, post (nI ρ) → wpY_fits post (nI N, ypl, yck, ypf, yat, st, ix, ds, yen, tl, yju, sto, srt, bas, yle, dcm, tim, sig, ysg, op, opX, opY, opZ, out, ych, yot, ylo, pE, pL, yba, yfr, yva) (nI k)) := by
  have ho := oc_e hop k
  have hl := oc_l hop k
  generalize cd op k = o at ho hl ⊢
  rcases (by omega : o = 1 ∨ (2 ≤ o ∧ o ≤ 9) ∨ o = 10 ∨ o = 12 ∨ (o = 15 ∨ o = 16) ∨ o = 17 ∨ o = 19 ∨ o = 20 ∨ o = 22 ∨ (o = 0 ∨ o = 11 ∨ o = 13 ∨ o = 14 ∨ o = 18 ∨ o = 21)) with c | c | c | c | c | c | c | c | c | c
  · subst c
    obtain ⟨ρ, r1, r2, r3⟩ := of_1 (cn := nI N) (xpa := nI (q_pc op N)) (xop := xop) (pl := pl) (ck := ck) (pf := pf) (pc := pc) (st := st) (ix := ix) (xst := xst) (tl := tl) (ds := ds) (sto := sto) (srt := srt) (bas := bas) (len := len) (dig := dig) (dcm := dcm) (sgn := sgn) (tim := tim) (sig := sig) (op := op) (opX := opX) (opY := opY) (opZ := opZ) (tgt := tgt) (sta := sta) (ins := ins) (opn := opn) (pE := pE) (pL := pL) (pI := pI) (pB := pB) (out := out) (pw := pw) (wk := wk) (ypf := ypf) (yat := yat) (yen := yen) (yju := yju) (yle := yle) (ysg := ysg) (ych := ych) (yot := yot) (ylo := ylo) (yba := yba) (yfr := yfr) (yva := yva) (ypl := ypl) (yck := yck) hk48 hs rfl rfl ho
    exact ⟨ρ, r1, fun z => gd_mk (fun _ => r2 z) (fun _ => by clear r2 r3; omega) (fun _ => by clear r2 r3; omega) (fun _ => by clear r2 r3; omega) (fun _ => by clear r2 r3; omega) (fun _ => by clear r2 r3; omega) (fun _ => by clear r2 r3; omega) (fun _ => by clear r2 r3; omega) (fun _ => by clear r2 r3; omega), r3⟩
  · obtain ⟨ρ, r1, r2, r3⟩ := of_29 (cn := nI N) (xpa := nI (q_pc op N)) (xop := xop) (pl := pl) (ck := ck) (pf := pf) (pc := pc) (st := st) (ix := ix) (xst := xst) (tl := tl) (ds := ds) (sto := sto) (srt := srt) (bas := bas) (len := len) (dig := dig) (dcm := dcm) (sgn := sgn) (tim := tim) (sig := sig) (op := op) (opX := opX) (opY := opY) (opZ := opZ) (tgt := tgt) (sta := sta) (ins := ins) (opn := opn) (pE := pE) (pL := pL) (pI := pI) (pB := pB) (out := out) (pw := pw) (wk := wk) (ypf := ypf) (yat := yat) (yen := yen) (yju := yju) (yle := yle) (ysg := ysg) (ych := ych) (yot := yot) (ylo := ylo) (yba := yba) (yfr := yfr) (yva := yva) (ypl := ypl) (yck := yck) hk48 hs rfl rfl c.1 c.2 ho
    exact ⟨ρ, r1, fun z => gd_mk (fun _ => by clear r2 r3; omega) (fun _ => r2 z) (fun _ => by clear r2 r3; omega) (fun _ => by clear r2 r3; omega) (fun _ => by clear r2 r3; omega) (fun _ => by clear r2 r3; omega) (fun _ => by clear r2 r3; omega) (fun _ => by clear r2 r3; omega) (fun _ => by clear r2 r3; omega), r3⟩
  · subst c
    obtain ⟨ρ, r1, r2, r3⟩ := of_10 (cn := nI N) (xpa := nI (q_pc op N)) (xop := xop) (pl := pl) (ck := ck) (pf := pf) (pc := pc) (st := st) (ix := ix) (xst := xst) (tl := tl) (ds := ds) (sto := sto) (srt := srt) (bas := bas) (len := len) (dig := dig) (dcm := dcm) (sgn := sgn) (tim := tim) (sig := sig) (op := op) (opX := opX) (opY := opY) (opZ := opZ) (tgt := tgt) (sta := sta) (ins := ins) (opn := opn) (pE := pE) (pL := pL) (pI := pI) (pB := pB) (out := out) (pw := pw) (wk := wk) (ypf := ypf) (yat := yat) (yen := yen) (yju := yju) (yle := yle) (ysg := ysg) (ych := ych) (yot := yot) (ylo := ylo) (yba := yba) (yfr := yfr) (yva := yva) (ypl := ypl) (yck := yck) hk48 hs rfl rfl rfl ho
    exact ⟨ρ, r1, fun z => gd_mk (fun _ => by clear r2 r3; omega) (fun _ => by clear r2 r3; omega) (fun _ => r2 z) (fun _ => by clear r2 r3; omega) (fun _ => by clear r2 r3; omega) (fun _ => by clear r2 r3; omega) (fun _ => by clear r2 r3; omega) (fun _ => by clear r2 r3; omega) (fun _ => by clear r2 r3; omega), r3⟩
  · subst c
    obtain ⟨ρ, r1, r2, r3⟩ := of_12 (cn := nI N) (xpa := nI (q_pc op N)) (xop := xop) (pl := pl) (ck := ck) (pf := pf) (pc := pc) (st := st) (ix := ix) (xst := xst) (tl := tl) (ds := ds) (sto := sto) (srt := srt) (bas := bas) (len := len) (dig := dig) (dcm := dcm) (sgn := sgn) (tim := tim) (sig := sig) (op := op) (opX := opX) (opY := opY) (opZ := opZ) (tgt := tgt) (sta := sta) (ins := ins) (opn := opn) (pE := pE) (pL := pL) (pI := pI) (pB := pB) (out := out) (pw := pw) (wk := wk) (ypf := ypf) (yat := yat) (yen := yen) (yju := yju) (yle := yle) (ysg := ysg) (ych := ych) (yot := yot) (ylo := ylo) (yba := yba) (yfr := yfr) (yva := yva) (ypl := ypl) (yck := yck) hk48 hs rfl rfl ho
    exact ⟨ρ, r1, fun z => gd_mk (fun _ => by clear r2 r3; omega) (fun _ => by clear r2 r3; omega) (fun _ => by clear r2 r3; omega) (fun _ => r2 z) (fun _ => by clear r2 r3; omega) (fun _ => by clear r2 r3; omega) (fun _ => by clear r2 r3; omega) (fun _ => by clear r2 r3; omega) (fun _ => by clear r2 r3; omega), r3⟩
  · obtain ⟨ρ, r1, r2, r3⟩ := of_1516 (xop := xop) (pl := pl) (ck := ck) (pf := pf) (pc := pc) (st := st) (ix := ix) (xst := xst) (tl := tl) (ds := ds) (sto := sto) (srt := srt) (bas := bas) (len := len) (dig := dig) (dcm := dcm) (sgn := sgn) (tim := tim) (sig := sig) (op := op) (opX := opX) (opY := opY) (opZ := opZ) (tgt := tgt) (sta := sta) (ins := ins) (opn := opn) (pE := pE) (pL := pL) (pI := pI) (pB := pB) (out := out) (pw := pw) (wk := wk) (ypf := ypf) (yat := yat) (yen := yen) (yju := yju) (yle := yle) (ysg := ysg) (ych := ych) (yot := yot) (ylo := ylo) (yba := yba) (yfr := yfr) (yva := yva) (ypl := ypl) (yck := yck) hk48 hs rfl rfl hop hN c ho
    exact ⟨ρ, r1, fun z => gd_mk (fun _ => by clear r2 r3; omega) (fun _ => by clear r2 r3; omega) (fun _ => by clear r2 r3; omega) (fun _ => by clear r2 r3; omega) (fun _ => r2 z) (fun _ => by clear r2 r3; omega) (fun _ => by clear r2 r3; omega) (fun _ => by clear r2 r3; omega) (fun _ => by clear r2 r3; omega), r3⟩
  · subst c
    obtain ⟨ρ, r1, r2, r3⟩ := of_17 (xop := xop) (pl := pl) (ck := ck) (pf := pf) (pc := pc) (st := st) (ix := ix) (xst := xst) (tl := tl) (ds := ds) (sto := sto) (srt := srt) (bas := bas) (len := len) (dig := dig) (dcm := dcm) (sgn := sgn) (tim := tim) (sig := sig) (op := op) (opX := opX) (opY := opY) (opZ := opZ) (tgt := tgt) (sta := sta) (ins := ins) (opn := opn) (pE := pE) (pL := pL) (pI := pI) (pB := pB) (out := out) (pw := pw) (wk := wk) (ypf := ypf) (yat := yat) (yen := yen) (yju := yju) (yle := yle) (ysg := ysg) (ych := ych) (yot := yot) (ylo := ylo) (yba := yba) (yfr := yfr) (yva := yva) (ypl := ypl) (yck := yck) hk48 hs rfl rfl hop hN ho
    exact ⟨ρ, r1, fun z => gd_mk (fun _ => by clear r2 r3; omega) (fun _ => by clear r2 r3; omega) (fun _ => by clear r2 r3; omega) (fun _ => by clear r2 r3; omega) (fun _ => by clear r2 r3; omega) (fun _ => r2 z) (fun _ => by clear r2 r3; omega) (fun _ => by clear r2 r3; omega) (fun _ => by clear r2 r3; omega), r3⟩
  · subst c
    obtain ⟨ρ, r1, r2, r3⟩ := of_19 (cn := nI N) (xpa := nI (q_pc op N)) (xop := xop) (pl := pl) (ck := ck) (pf := pf) (pc := pc) (st := st) (ix := ix) (xst := xst) (tl := tl) (ds := ds) (sto := sto) (srt := srt) (bas := bas) (len := len) (dig := dig) (dcm := dcm) (sgn := sgn) (tim := tim) (sig := sig) (op := op) (opX := opX) (opY := opY) (opZ := opZ) (tgt := tgt) (sta := sta) (ins := ins) (opn := opn) (pE := pE) (pL := pL) (pI := pI) (pB := pB) (out := out) (pw := pw) (wk := wk) (ypf := ypf) (yat := yat) (yen := yen) (yju := yju) (yle := yle) (ysg := ysg) (ych := ych) (yot := yot) (ylo := ylo) (yba := yba) (yfr := yfr) (yva := yva) (ypl := ypl) (yck := yck) hk48 hs rfl rfl ho
    exact ⟨ρ, r1, fun z => gd_mk (fun _ => by clear r2 r3; omega) (fun _ => by clear r2 r3; omega) (fun _ => by clear r2 r3; omega) (fun _ => by clear r2 r3; omega) (fun _ => by clear r2 r3; omega) (fun _ => by clear r2 r3; omega) (fun _ => r2 z) (fun _ => by clear r2 r3; omega) (fun _ => by clear r2 r3; omega), r3⟩
  · subst c
    obtain ⟨ρ, r1, r2, r3⟩ := of_20 (cn := nI N) (xpa := nI (q_pc op N)) (xop := xop) (pl := pl) (ck := ck) (pf := pf) (pc := pc) (st := st) (ix := ix) (xst := xst) (tl := tl) (ds := ds) (sto := sto) (srt := srt) (bas := bas) (len := len) (dig := dig) (dcm := dcm) (sgn := sgn) (tim := tim) (sig := sig) (op := op) (opX := opX) (opY := opY) (opZ := opZ) (tgt := tgt) (sta := sta) (ins := ins) (opn := opn) (pE := pE) (pL := pL) (pI := pI) (pB := pB) (out := out) (pw := pw) (wk := wk) (ypf := ypf) (yat := yat) (yen := yen) (yju := yju) (yle := yle) (ysg := ysg) (ych := ych) (yot := yot) (ylo := ylo) (yba := yba) (yfr := yfr) (yva := yva) (ypl := ypl) (yck := yck) hk48 hs rfl rfl ho
    exact ⟨ρ, r1, fun z => gd_mk (fun _ => by clear r2 r3; omega) (fun _ => by clear r2 r3; omega) (fun _ => by clear r2 r3; omega) (fun _ => by clear r2 r3; omega) (fun _ => by clear r2 r3; omega) (fun _ => by clear r2 r3; omega) (fun _ => by clear r2 r3; omega) (fun _ => r2 z) (fun _ => by clear r2 r3; omega), r3⟩
  · subst c
    obtain ⟨ρ, r1, r2, r3⟩ := of_22 (cn := nI N) (xpa := nI (q_pc op N)) (xop := xop) (pl := pl) (ck := ck) (pf := pf) (pc := pc) (st := st) (ix := ix) (xst := xst) (tl := tl) (ds := ds) (sto := sto) (srt := srt) (bas := bas) (len := len) (dig := dig) (dcm := dcm) (sgn := sgn) (tim := tim) (sig := sig) (op := op) (opX := opX) (opY := opY) (opZ := opZ) (tgt := tgt) (sta := sta) (ins := ins) (opn := opn) (pE := pE) (pL := pL) (pI := pI) (pB := pB) (out := out) (pw := pw) (wk := wk) (ypf := ypf) (yat := yat) (yen := yen) (yju := yju) (yle := yle) (ysg := ysg) (ych := ych) (yot := yot) (ylo := ylo) (yba := yba) (yfr := yfr) (yva := yva) (ypl := ypl) (yck := yck) hk48 hs rfl rfl ho
    exact ⟨ρ, r1, fun z => gd_mk (fun _ => by clear r2 r3; omega) (fun _ => by clear r2 r3; omega) (fun _ => by clear r2 r3; omega) (fun _ => by clear r2 r3; omega) (fun _ => by clear r2 r3; omega) (fun _ => by clear r2 r3; omega) (fun _ => by clear r2 r3; omega) (fun _ => by clear r2 r3; omega) (fun _ => r2 z), r3⟩
  · have r3 := of_tr (cn := nI N) (xpa := nI (q_pc op N)) (xop := xop) (pl := pl) (ck := ck) (pf := pf) (pc := pc) (st := st) (ix := ix) (xst := xst) (tl := tl) (ds := ds) (sto := sto) (srt := srt) (bas := bas) (len := len) (dig := dig) (dcm := dcm) (sgn := sgn) (tim := tim) (sig := sig) (op := op) (opX := opX) (opY := opY) (opZ := opZ) (tgt := tgt) (sta := sta) (ins := ins) (opn := opn) (pE := pE) (pL := pL) (pI := pI) (pB := pB) (out := out) (pw := pw) (wk := wk) (ypf := ypf) (yat := yat) (yen := yen) (yju := yju) (yle := yle) (ysg := ysg) (ych := ych) (yot := yot) (ylo := ylo) (yba := yba) (yfr := yfr) (yva := yva) (ypl := ypl) (yck := yck) hk48 hs rfl rfl c ho
    exact ⟨1, by omega, fun z => gd_mk (fun _ => by clear r3; omega) (fun _ => by clear r3; omega) (fun _ => by clear r3; omega) (fun _ => by clear r3; omega) (fun _ => by clear r3; omega) (fun _ => by clear r3; omega) (fun _ => by clear r3; omega) (fun _ => by clear r3; omega) (fun _ => by clear r3; omega), r3⟩
end
/-! bits of the reference's ELSE marks -/
theorem bi_1 : ∀ i, i < 32 → bt 1 i = decide (i = 0) := by decide +kernel
theorem bi_t {x : Int32} {m : Nat} (hm : m < 31) : ((x >>> (nI m &&& 31)) &&& 1) = 1 ↔ bt x m = true := by
  have h0 : bt (x >>> (nI m &&& 31)) 0 = bt x m := by
    rw [b_sshr m (by omega) x (by omega), if_pos (by omega)]; rfl
  constructor
  · intro h
    have := congrArg (fun y => bt y 0) h
    rw [b_and, h0, bi_1 0 (by omega)] at this
    simpa using this
  · intro h
    refine b_ext (fun i hi => ?_)
    rw [b_and, bi_1 i hi]
    by_cases z : i = 0
    · subst z; rw [h0, h]; rfl
    · simp [z]
theorem bi_s {x : Int32} {m j : Nat} (hm : m < 31) (hj : j < 31) : bt (x ||| ((1 : Int32) <<< (nI m &&& 31))) j = (bt x j || decide (j = m)) := by
  rw [b_or, b_shl m (by omega) 1 (by omega), bi_1 (j - m) (by omega)]
  by_cases z : j = m
  · subst z; simp
  · by_cases y : m ≤ j
    · have : ¬ j - m = 0 := by omega
      simp [z, this]
    · simp [z, y]
theorem bi_c {x : Int32} {m j : Nat} (hm : m < 31) (hj : j < 31) : bt (x &&& (((1 : Int32) <<< (nI m &&& 31)) ^^^ (-1))) j = (bt x j && !(decide (j = m))) := by
  rw [b_and, b_xor, b_shl m (by omega) 1 (by omega), bi_1 (j - m) (by omega), b_m1 j (by omega)]
  by_cases z : j = m
  · subst z; simp
  · by_cases y : m ≤ j
    · have : ¬ j - m = 0 := by omega
      simp [z, this]
    · simp [z, y]
theorem cd_us {a : Nat → Int32} {k v : Nat} (h : v < 1000000) : cd (upd a k (nI v)) k = v := by
  unfold cd; rw [pk_us, nI_clamp (by omega)]
theorem cd_un {a : Nat → Int32} {k j : Nat} {x : Int32} (h : j ≠ k) : cd (upd a k x) j = cd a j := by
  unfold cd; rw [pk_un h]
end
section
/-! the open conditions while a program is checked -/
def q_E1 (op opn : Nat → Int32) (els : Int32) (i m j : Nat) : Prop := opn j = nI (cd opn j) ∧ cd opn j < i ∧ 10 ≤ cd op (cd opn j) ∧ cd op (cd opn j) ≤ 13 ∧ q_dp op (cd opn j + 1) (i - (cd opn j + 1)) = m - 1 - j ∧ q_rn op (cd opn j + 1) (i - (cd opn j + 1)) ∧ q_pc op i = q_pc op (cd opn j + 1) ∧ bt els (j + 1) = decide (cd op (cd opn j) = 13)
def q_S1 (op opn : Nat → Int32) (els : Int32) (i m : Nat) : Prop := ∀ j, j < m → q_E1 op opn els i m j
def q_Dn (op tgt : Nat → Int32) (i k : Nat) : Prop := ∃ P, P < i ∧ tgt k = nI (P + 1) ∧ q_Pt op k P ∧ q_pc op (P + 1) = q_pc op (k + 1)
def q_S2 (op opn tgt : Nat → Int32) (i m : Nat) : Prop := ∀ k, k < i → 10 ≤ cd op k → cd op k ≤ 13 → (∃ j, j < m ∧ cd opn j = k) ∨ q_Dn op tgt i k
def q_S3 (op ins : Nat → Int32) (i : Nat) : Prop := ∀ k, k < i → ins k = nI (q_pc op (k + 1) - 1)
def q_S4 (op sta : Nat → Int32) (i : Nat) : Prop := ∀ q, q < q_pc op i → ∃ j, j < i ∧ sta q = nI j ∧ cd op j = 0 ∧ q_pc op j = q
theorem dn_u {op tgt : Nat → Int32} {i k : Nat} (h : q_Dn op tgt i k) : q_Dn op tgt (i + 1) k := by
  obtain ⟨P, a, b⟩ := h
  exact ⟨P, by omega, b⟩
theorem dp_i {op : Nat → Int32} {a i : Nat} (h : a ≤ i) : q_dp op a (i + 1 - a) = if 10 ≤ cd op i ∧ cd op i ≤ 12 then q_dp op a (i - a) + 1 else if cd op i = 14 then q_dp op a (i - a) - 1 else q_dp op a (i - a) := by
  rw [show i + 1 - a = (i - a) + 1 by omega, dp_s, show a + (i - a) = i by omega]
theorem rn_i {op : Nat → Int32} {a i : Nat} (h : a ≤ i) (r : q_rn op a (i - a)) (hn : ¬ (q_dp op a (i - a) = 0 ∧ (cd op i = 13 ∨ cd op i = 14))) : q_rn op a (i + 1 - a) := by
  intro j hj
  rcases (by omega : j < i - a ∨ j = i - a) with c | rfl
  · exact r j c
  · rw [show a + (i - a) = i by omega]; exact hn
/-- an entry below the top stays -/
theorem s1_k {op opn opn' : Nat → Int32} {els els' : Int32} {i m m' j : Nat} (h : q_E1 op opn els i m j) (he : opn' j = opn j) (hb : bt els' (j + 1) = bt els (j + 1)) (h0 : ¬ cd op i = 0) (hn : ¬ (m - 1 - j = 0 ∧ (cd op i = 13 ∨ cd op i = 14))) (hd : m' - 1 - j = if 10 ≤ cd op i ∧ cd op i ≤ 12 then m - 1 - j + 1 else if cd op i = 14 then m - 1 - j - 1 else m - 1 - j) : q_E1 op opn' els' (i + 1) m' j := by
  have ec : cd opn' j = cd opn j := by unfold cd; rw [he]
  obtain ⟨a1, a2, a3, a4, a5, a6, a7, a8⟩ := h
  unfold q_E1
  rw [ec, he, hb]
  refine ⟨a1, by omega, a3, a4, ?_, rn_i (by omega) a6 (by rw [a5]; exact hn), by rw [pc_s1 h0, a7], a8⟩
  rw [dp_i (by omega), a5, hd]
theorem s1_top {op opn' : Nat → Int32} {els' : Int32} {i m' j : Nat} (he : opn' j = nI i) (hi : i < 1000000) (h1 : 10 ≤ cd op i) (h2 : cd op i ≤ 13) (hj : m' - 1 - j = 0) (hb : bt els' (j + 1) = decide (cd op i = 13)) : q_E1 op opn' els' (i + 1) m' j := by
  have ec : cd opn' j = i := by unfold cd; rw [he, nI_clamp (by omega)]
  unfold q_E1
  rw [ec, he, Nat.sub_self, hj]
  exact ⟨rfl, by omega, h1, h2, rfl, fun j hj => absurd hj (by omega), rfl, hb⟩
theorem st_if {op opn tgt : Nat → Int32} {els : Int32} {i m : Nat} (hi : i < 48) (hm : m < 8) (o1 : 10 ≤ cd op i) (o2 : cd op i ≤ 12) (s1 : q_S1 op opn els i m) (s2 : q_S2 op opn tgt i m) : q_S1 op (upd opn m (nI i)) (els &&& (((1 : Int32) <<< (nI (m + 1) &&& 31)) ^^^ (-1))) (i + 1) (m + 1) ∧ q_S2 op (upd opn m (nI i)) tgt (i + 1) (m + 1) := by
  constructor
  · intro j hj
    rcases (by omega : j < m ∨ j = m) with c | rfl
    · refine s1_k (s1 j c) (pk_un (by omega)) ?_ (by omega) (by omega) (by rw [if_pos ⟨o1, o2⟩]; omega)
      rw [bi_c (by omega) (by omega), decide_eq_false (by omega)]
      simp
    · refine s1_top pk_us (by omega) o1 (by omega) (by omega) ?_
      rw [bi_c (by omega) (by omega), decide_eq_true rfl, decide_eq_false (by omega)]
      simp
  · intro k hk k1 k2
    rcases (by omega : k < i ∨ k = i) with c | rfl
    · rcases s2 k c k1 k2 with ⟨j, j1, j2⟩ | d
      · exact Or.inl ⟨j, by omega, by rw [cd_un (by omega)]; exact j2⟩
      · exact Or.inr (dn_u d)
    · exact Or.inl ⟨m, by omega, cd_us (by omega)⟩
/-- the partner of the top is here -/
theorem st_pt {op opn tgt : Nat → Int32} {els : Int32} {i m : Nat} (hm : 0 < m) (o1 : cd op i = 13 ∨ cd op i = 14) (s1 : q_S1 op opn els i m) : q_Dn op (upd tgt (cd opn (m - 1)) (nI (i + 1))) (i + 1) (cd opn (m - 1)) := by
  obtain ⟨a1, a2, a3, a4, a5, a6, a7, a8⟩ := s1 (m - 1) (by omega)
  refine ⟨i, by omega, pk_us, ⟨a2, a6, by omega, o1⟩, ?_⟩
  rw [pc_s1 (by omega), a7]
theorem st_el {op opn tgt : Nat → Int32} {els : Int32} {i m : Nat} (hi : i < 48) (hm : 0 < m) (hm8 : m ≤ 8) (o1 : cd op i = 13) (s1 : q_S1 op opn els i m) (s2 : q_S2 op opn tgt i m) : q_S1 op (upd opn (m - 1) (nI i)) (els ||| ((1 : Int32) <<< (nI m &&& 31))) (i + 1) m ∧ q_S2 op (upd opn (m - 1) (nI i)) (upd tgt (cd opn (m - 1)) (nI (i + 1))) (i + 1) m := by
  have D := st_pt (tgt := tgt) hm (Or.inl o1) s1
  constructor
  · intro j hj
    rcases (by omega : j < m - 1 ∨ j = m - 1) with c | rfl
    · refine s1_k (s1 j hj) (pk_un (by omega)) ?_ (by omega) (by omega) (by rw [if_neg (by omega), if_neg (by omega)])
      rw [bi_s (by omega) (by omega), decide_eq_false (by omega)]
      simp
    · refine s1_top pk_us (by omega) (by omega) (by omega) (by omega) ?_
      rw [bi_s (by omega) (by omega), decide_eq_true (by omega : m - 1 + 1 = m), decide_eq_true o1]
      simp
  · intro k hk k1 k2
    rcases (by omega : k < i ∨ k = i) with c | rfl
    · by_cases e : k = cd opn (m - 1)
      · rw [e]; exact Or.inr D
      · rcases s2 k c k1 k2 with ⟨j, j1, j2⟩ | d
        · have : j ≠ m - 1 := fun z => e (by rw [← z]; exact j2.symm)
          exact Or.inl ⟨j, by omega, by rw [cd_un this]; exact j2⟩
        · obtain ⟨P, d1, d2, d3⟩ := dn_u d
          exact Or.inr ⟨P, d1, by rw [pk_un e]; exact d2, d3⟩
    · exact Or.inl ⟨m - 1, by omega, cd_us (by omega)⟩
theorem st_en {op opn tgt : Nat → Int32} {els : Int32} {i m : Nat} (hm : 0 < m) (o1 : cd op i = 14) (s1 : q_S1 op opn els i m) (s2 : q_S2 op opn tgt i m) : q_S1 op opn els (i + 1) (m - 1) ∧ q_S2 op opn (upd tgt (cd opn (m - 1)) (nI (i + 1))) (i + 1) (m - 1) := by
  have D := st_pt (tgt := tgt) hm (Or.inr o1) s1
  constructor
  · intro j hj
    exact s1_k (s1 j (by omega)) rfl rfl (by omega) (by omega) (by rw [if_neg (by omega), if_pos o1]; omega)
  · intro k hk k1 k2
    have c : k < i := by
      rcases (by omega : k < i ∨ k = i) with c | rfl
      · exact c
      · omega
    by_cases e : k = cd opn (m - 1)
    · rw [e]; exact Or.inr D
    · rcases s2 k c k1 k2 with ⟨j, j1, j2⟩ | d
      · have : j ≠ m - 1 := fun z => e (by rw [← z]; exact j2.symm)
        exact Or.inl ⟨j, by omega, j2⟩
      · obtain ⟨P, d1, d2, d3⟩ := dn_u d
        exact Or.inr ⟨P, d1, by rw [pk_un e]; exact d2, d3⟩
theorem st_no {op opn tgt : Nat → Int32} {els : Int32} {i m : Nat} (o1 : cd op i < 10 ∨ 14 < cd op i) (h0 : cd op i = 0 → m = 0) (s1 : q_S1 op opn els i m) (s2 : q_S2 op opn tgt i m) : q_S1 op opn els (i + 1) m ∧ q_S2 op opn tgt (i + 1) m := by
  constructor
  · intro j hj
    exact s1_k (s1 j hj) rfl rfl (fun z => by have := h0 z; omega) (by omega) (by rw [if_neg (by omega), if_neg (by omega)])
  · intro k hk k1 k2
    have c : k < i := by
      rcases (by omega : k < i ∨ k = i) with c | rfl
      · exact c
      · omega
    rcases s2 k c k1 k2 with q | d
    · exact Or.inl q
    · exact Or.inr (dn_u d)
theorem st_in {op ins : Nat → Int32} {i : Nat} {x : Int32} (hx : x = nI (q_pc op (i + 1) - 1)) (s3 : q_S3 op ins i) : q_S3 op (upd ins i x) (i + 1) := by
  intro k hk
  rcases (by omega : k < i ∨ k = i) with c | rfl
  · rw [pk_un (by omega)]; exact s3 k c
  · rw [pk_us]; exact hx
theorem st_s0 {op sta : Nat → Int32} {i : Nat} (h0 : cd op i = 0) (s4 : q_S4 op sta i) : q_S4 op (upd sta (q_pc op i) (nI i)) (i + 1) := by
  intro q hq
  rw [pc_s0 h0] at hq
  rcases (by omega : q < q_pc op i ∨ q = q_pc op i) with c | rfl
  · obtain ⟨j, j1, j2, j3⟩ := s4 q c
    exact ⟨j, by omega, by rw [pk_un (by omega)]; exact j2, j3⟩
  · exact ⟨i, by omega, pk_us, h0, rfl⟩
theorem st_s1 {op sta : Nat → Int32} {i : Nat} (h0 : ¬ cd op i = 0) (s4 : q_S4 op sta i) : q_S4 op sta (i + 1) := by
  intro q hq
  rw [pc_s1 h0] at hq
  obtain ⟨j, j1, j2⟩ := s4 q hq
  exact ⟨j, by omega, j2⟩
end
section
theorem nn_e {a b : Nat} (h : a ≠ b) (ha : a < 1000000) (hb : b < 1000000) : ¬ nI a = nI b := fun z => h ((nI_eq (by omega) (by omega)).mp z)
section
variable {cn : Int32} {xpa : Int32} {xop : Int32} {pl : Int32} {ck : Int32} {pf : Int32} {pc : Int32} {st : Int32} {ix : Int32} {xst : Int32} {tl : Int32} {ds : Int32} {sto : Nat → Int32} {srt : Nat → Int32} {bas : Nat → Int32} {len : Nat → Int32} {dig : Nat → Int32} {dcm : Nat → Int32} {sgn : Nat → Int32} {tim : Nat → Int32} {sig : Nat → Int32} {op : Nat → Int32} {opX : Nat → Int32} {opY : Nat → Int32} {opZ : Nat → Int32} {tgt : Nat → Int32} {sta : Nat → Int32} {ins : Nat → Int32} {opn : Nat → Int32} {pE : Nat → Int32} {pL : Nat → Int32} {pI : Nat → Int32} {pB : Nat → Int32} {out : Nat → Int32} {pw : Nat → Int64} {wk : Nat → Int32} {ypf : Int32} {yat : Int32} {yen : Int32} {yju : Int32} {yle : Nat → Int32} {ysg : Nat → Int32} {ych : Nat → Int32} {yot : Nat → Int32} {ylo : Nat → Int32} {yba : Nat → Int32} {yfr : Nat → Int32} {yva : Nat → Int32} {ypl yck : Int32} {i m : Nat} {els : Int32}
/-! the reference's step of the check, by kind -/
theorem yf_if (hm : m < 1000) (o1 : 10 ≤ cd op i) (o2 : cd op i ≤ 12) (post : Int32 → Prop) (J : Int32 → Int32 → Int32 → Prop) : (m = 8 → post (nI i)) → (¬ m = 8 → J (nI (m + 1)) (els &&& (((1 : Int32) <<< (nI (m + 1) &&& 31)) ^^^ (-1))) (nI (i + 1))) → ((nI (cd op i) = 0 → ((0 < nI m → post (nI i)) ∧ (¬ 0 < nI m → wY_firstFault_57 post J (nI m) els (nI i) (nI (cd op i)) cn ypl yck ypf yat st ix ds yen tl yju sto srt bas yle dcm tim sig ysg op opX opY opZ out ych yot ylo pE pL yba yfr yva))) ∧ (¬ nI (cd op i) = 0 → wY_firstFault_57 post J (nI m) els (nI i) (nI (cd op i)) cn ypl yck ypf yat st ix ds yen tl yju sto srt bas yle dcm tim sig ysg op opX opY opZ out ych yot ylo pE pL yba yfr yva)) := by
  intro h8 hJ
  refine br_f (nn_e (b := 0) (by omega) (by omega) (by omega)) ?_
  unfold wY_firstFault_57
  refine yi_t (lo := 10) (hi := 12) o1 o2 (by omega) (br_f (by decide) (pk_eq m 8 (fun z => h8 z) (fun z => ?_)))
  unfold wY_firstFault_75
  refine br_f (nn_e (b := 13) (by omega) (by omega) (by omega)) (br_f (nn_e (b := 14) (by omega) (by omega) (by omega)) ?_)
  unfold wY_firstFault_93
  refine br_f (nn_e (b := 13) (by omega) (by omega) (by omega)) ?_
  unfold wY_firstFault_111
  refine yi_t (lo := 10) (hi := 12) o1 o2 (by omega) (br_f (by decide) (nm_r (nI_1 _) (nm_e ?_)))
  unfold wY_firstFault_134
  refine br_f (nn_e (b := 13) (by omega) (by omega) (by omega)) ?_
  unfold wY_firstFault_147
  exact br_f (nn_e (b := 14) (by omega) (by omega) (by omega)) (nm_r (nI_1 _) (hJ z))
theorem yf_el (hm : m < 31) (o1 : cd op i = 13) (post : Int32 → Prop) (J : Int32 → Int32 → Int32 → Prop) : ((m = 0 ∨ bt els m = true) → post (nI i)) → (¬ (m = 0 ∨ bt els m = true) → J (nI m) (els ||| ((1 : Int32) <<< (nI m &&& 31))) (nI (i + 1))) → ((nI (cd op i) = 0 → ((0 < nI m → post (nI i)) ∧ (¬ 0 < nI m → wY_firstFault_57 post J (nI m) els (nI i) (nI (cd op i)) cn ypl yck ypf yat st ix ds yen tl yju sto srt bas yle dcm tim sig ysg op opX opY opZ out ych yot ylo pE pL yba yfr yva))) ∧ (¬ nI (cd op i) = 0 → wY_firstFault_57 post J (nI m) els (nI i) (nI (cd op i)) cn ypl yck ypf yat st ix ds yen tl yju sto srt bas yle dcm tim sig ysg op opX opY opZ out ych yot ylo pE pL yba yfr yva)) := by
  intro h8 hJ
  have e13 : nI (cd op i) = 13 := by rw [o1]; rfl
  refine br_f (nn_e (b := 0) (by omega) (by omega) (by omega)) ?_
  unfold wY_firstFault_57
  refine yi_f (lo := 10) (hi := 12) (by omega) (by omega) (by omega) (by omega) (br_t rfl ?_)
  unfold wY_firstFault_75
  refine br_t e13 ?_
  unfold wY_firstFault_89
  refine pk_eq m 0 (fun z => h8 (Or.inl z)) (fun z => ?_)
  unfold wY_firstFault_93
  refine br_t e13 (br_c (fun b => h8 (Or.inr ((bi_t hm).mp b))) (fun b => ?_))
  unfold wY_firstFault_111
  refine yi_f (lo := 10) (hi := 12) (by omega) (by omega) (by omega) (by omega) (br_t rfl ?_)
  unfold wY_firstFault_134
  refine br_t e13 (nm_e ?_)
  unfold wY_firstFault_147
  refine br_f (nn_e (b := 14) (by omega) (by omega) (by omega)) (nm_r (nI_1 _) (hJ ?_))
  rintro (q | q)
  · exact z q
  · exact b ((bi_t hm).mpr q)
theorem yf_en (hm : m < 1000) (o1 : cd op i = 14) (post : Int32 → Prop) (J : Int32 → Int32 → Int32 → Prop) : (m = 0 → post (nI i)) → (¬ m = 0 → J (nI (m - 1)) els (nI (i + 1))) → ((nI (cd op i) = 0 → ((0 < nI m → post (nI i)) ∧ (¬ 0 < nI m → wY_firstFault_57 post J (nI m) els (nI i) (nI (cd op i)) cn ypl yck ypf yat st ix ds yen tl yju sto srt bas yle dcm tim sig ysg op opX opY opZ out ych yot ylo pE pL yba yfr yva))) ∧ (¬ nI (cd op i) = 0 → wY_firstFault_57 post J (nI m) els (nI i) (nI (cd op i)) cn ypl yck ypf yat st ix ds yen tl yju sto srt bas yle dcm tim sig ysg op opX opY opZ out ych yot ylo pE pL yba yfr yva)) := by
  intro h8 hJ
  have e14 : nI (cd op i) = 14 := by rw [o1]; rfl
  refine br_f (nn_e (b := 0) (by omega) (by omega) (by omega)) ?_
  unfold wY_firstFault_57
  refine yi_f (lo := 10) (hi := 12) (by omega) (by omega) (by omega) (by omega) (br_t rfl ?_)
  unfold wY_firstFault_75
  refine br_f (nn_e (b := 13) (by omega) (by omega) (by omega)) (br_t e14 ?_)
  unfold wY_firstFault_89
  refine pk_eq m 0 (fun z => h8 z) (fun z => ?_)
  unfold wY_firstFault_93
  refine br_f (nn_e (b := 13) (by omega) (by omega) (by omega)) ?_
  unfold wY_firstFault_111
  refine yi_f (lo := 10) (hi := 12) (by omega) (by omega) (by omega) (by omega) (br_t rfl ?_)
  unfold wY_firstFault_134
  refine br_f (nn_e (b := 13) (by omega) (by omega) (by omega)) ?_
  unfold wY_firstFault_147
  refine br_t e14 (nm_r (e' := nI (m - 1)) ?_ (nm_r (nI_1 _) (hJ z)))
  obtain ⟨c, rfl⟩ : ∃ c, m = c + 1 := ⟨m - 1, by omega⟩
  exact pk_m1 c
theorem yf_no (hm : m < 1000) (o1 : cd op i < 10 ∨ 14 < cd op i) (ho : cd op i < 1000) (post : Int32 → Prop) (J : Int32 → Int32 → Int32 → Prop) : ((cd op i = 0 ∧ 0 < m) → post (nI i)) → (¬ (cd op i = 0 ∧ 0 < m) → J (nI m) els (nI (i + 1))) → ((nI (cd op i) = 0 → ((0 < nI m → post (nI i)) ∧ (¬ 0 < nI m → wY_firstFault_57 post J (nI m) els (nI i) (nI (cd op i)) cn ypl yck ypf yat st ix ds yen tl yju sto srt bas yle dcm tim sig ysg op opX opY opZ out ych yot ylo pE pL yba yfr yva))) ∧ (¬ nI (cd op i) = 0 → wY_firstFault_57 post J (nI m) els (nI i) (nI (cd op i)) cn ypl yck ypf yat st ix ds yen tl yju sto srt bas yle dcm tim sig ysg op opX opY opZ out ych yot ylo pE pL yba yfr yva)) := by
  intro h8 hJ
  have K : ¬ (cd op i = 0 ∧ 0 < m) → wY_firstFault_57 post J (nI m) els (nI i) (nI (cd op i)) cn ypl yck ypf yat st ix ds yen tl yju sto srt bas yle dcm tim sig ysg op opX opY opZ out ych yot ylo pE pL yba yfr yva := by
    intro z
    unfold wY_firstFault_57
    refine yi_f (lo := 10) (hi := 12) (by omega) (by omega) (by omega) (by omega) (br_t rfl ?_)
    unfold wY_firstFault_75
    refine br_f (nn_e (b := 13) (by omega) (by omega) (by omega)) (br_f (nn_e (b := 14) (by omega) (by omega) (by omega)) ?_)
    unfold wY_firstFault_93
    refine br_f (nn_e (b := 13) (by omega) (by omega) (by omega)) ?_
    unfold wY_firstFault_111
    refine yi_f (lo := 10) (hi := 12) (by omega) (by omega) (by omega) (by omega) (br_t rfl ?_)
    unfold wY_firstFault_134
    refine br_f (nn_e (b := 13) (by omega) (by omega) (by omega)) ?_
    unfold wY_firstFault_147
    exact br_f (nn_e (b := 14) (by omega) (by omega) (by omega)) (nm_r (nI_1 _) (hJ z))
  refine pk_eq (cd op i) 0 (fun a => pk_lt 0 m (fun b => h8 ⟨a, b⟩) (fun b => K (by omega))) (fun a => K (by omega))
/-! the component's -/
theorem sx_sim {N : Nat} (hi : i < 48) (hm : m ≤ 8) (hop : OpOK op) (z0 : cd op 0 = 0) (s1 : q_S1 op opn els i m) (s2 : q_S2 op opn tgt i m) (s3 : q_S3 op ins i) (s4 : q_S4 op sta i) :
    (∃ ins', (∀ post : Int32 → SX → Prop, post 0 (cn, nI (q_pc op i), nI m, pl, ck, pf, pc, st, ix, xst, tl, ds, sto, srt, bas, len, dig, dcm, sgn, tim, sig, op, opX, opY, opZ, tgt, sta, ins', opn, pE, pL, pI, pB, out, pw, wk) → wpX_structure post (cn, nI (q_pc op i), nI m, pl, ck, pf, pc, st, ix, xst, tl, ds, sto, srt, bas, len, dig, dcm, sgn, tim, sig, op, opX, opY, opZ, tgt, sta, ins, opn, pE, pL, pI, pB, out, pw, wk) (nI i)) ∧ (∀ (post : Int32 → Prop) (J : Int32 → Int32 → Int32 → Prop), post (nI i) → ((nI (cd op i) = 0 → ((0 < nI m → post (nI i)) ∧ (¬ 0 < nI m → wY_firstFault_57 post J (nI m) els (nI i) (nI (cd op i)) cn ypl yck ypf yat st ix ds yen tl yju sto srt bas yle dcm tim sig ysg op opX opY opZ out ych yot ylo pE pL yba yfr yva))) ∧ (¬ nI (cd op i) = 0 → wY_firstFault_57 post J (nI m) els (nI i) (nI (cd op i)) cn ypl yck ypf yat st ix ds yen tl yju sto srt bas yle dcm tim sig ysg op opX opY opZ out ych yot ylo pE pL yba yfr yva)))) ∨
    (∃ (m' : Nat) (els' : Int32) (tgt' sta' ins' opn' : Nat → Int32), m' ≤ 8 ∧ q_S1 op opn' els' (i + 1) m' ∧ q_S2 op opn' tgt' (i + 1) m' ∧ q_S3 op ins' (i + 1) ∧ q_S4 op sta' (i + 1) ∧ (∀ post : Int32 → SX → Prop, post 1 (cn, nI (q_pc op (i + 1)), nI m', pl, ck, pf, pc, st, ix, xst, tl, ds, sto, srt, bas, len, dig, dcm, sgn, tim, sig, op, opX, opY, opZ, tgt', sta', ins', opn', pE, pL, pI, pB, out, pw, wk) → wpX_structure post (cn, nI (q_pc op i), nI m, pl, ck, pf, pc, st, ix, xst, tl, ds, sto, srt, bas, len, dig, dcm, sgn, tim, sig, op, opX, opY, opZ, tgt, sta, ins, opn, pE, pL, pI, pB, out, pw, wk) (nI i)) ∧ (∀ (post : Int32 → Prop) (J : Int32 → Int32 → Int32 → Prop), J (nI m') els' (nI (i + 1)) → ((nI (cd op i) = 0 → ((0 < nI m → post (nI i)) ∧ (¬ 0 < nI m → wY_firstFault_57 post J (nI m) els (nI i) (nI (cd op i)) cn ypl yck ypf yat st ix ds yen tl yju sto srt bas yle dcm tim sig ysg op opX opY opZ out ych yot ylo pE pL yba yfr yva))) ∧ (¬ nI (cd op i) = 0 → wY_firstFault_57 post J (nI m) els (nI i) (nI (cd op i)) cn ypl yck ypf yat st ix ds yen tl yju sto srt bas yle dcm tim sig ysg op opX opY opZ out ych yot ylo pE pL yba yfr yva)))) := by
  have hin : vp_in (nI i) 48 := vp_in_nI hi (by omega)
  have hc : (nI i).toNatClampNeg = i := nI_clamp (by omega)
  have ho := oc_e hop i
  have hl := oc_l hop i
  have pl' := pc_le op i
  have p1 : ¬ cd op i = 0 → 1 ≤ q_pc op i := by
    intro z
    have : i ≠ 0 := fun y => z (by rw [y]; exact z0)
    have h2 := pc_m op (a := 1) (b := i) (by omega)
    rw [pc_s0 z0] at h2
    omega
  have ein : ¬ cd op i = 0 → vp_nar .byte ((nI (q_pc op i) - 1).toInt8.toInt32) = nI (q_pc op (i + 1) - 1) := by
    intro z
    rw [pc_s1 z, show nI (q_pc op i) - 1 = nI (q_pc op i - 1) from pk_sub (b := 1) (p1 z)]
    exact nb_w (by omega)
  have en1 : vp_nar .byte ((nI i + 1).toInt8.toInt32) = nI (i + 1) := by rw [nI_1]; exact nb_w (by omega)
  have eni : vp_nar .byte ((nI i).toInt8.toInt32) = nI i := nb_w (by omega)
  have X0 : ∀ post : Int32 → SX → Prop, ((nI (cd op i) < 10 → wX_structure_64 post (nI i) (nI (cd op i)) cn (nI (q_pc op i)) (nI m) pl ck pf pc st ix xst tl ds sto srt bas len dig dcm sgn tim sig op opX opY opZ tgt sta (upd ins i (vp_nar .byte ((nI (q_pc op i) - 1).toInt8.toInt32))) opn pE pL pI pB out pw wk) ∧ (¬ nI (cd op i) < 10 → ((12 < nI (cd op i) → wX_structure_64 post (nI i) (nI (cd op i)) cn (nI (q_pc op i)) (nI m) pl ck pf pc st ix xst tl ds sto srt bas len dig dcm sgn tim sig op opX opY opZ tgt sta (upd ins i (vp_nar .byte ((nI (q_pc op i) - 1).toInt8.toInt32))) opn pE pL pI pB out pw wk) ∧ (¬ 12 < nI (cd op i) → ((nI m = 8 → post 0 (cn, nI (q_pc op i), nI m, pl, ck, pf, pc, st, ix, xst, tl, ds, sto, srt, bas, len, dig, dcm, sgn, tim, sig, op, opX, opY, opZ, tgt, sta, upd ins i (vp_nar .byte ((nI (q_pc op i) - 1).toInt8.toInt32)), opn, pE, pL, pI, pB, out, pw, wk)) ∧ (¬ nI m = 8 → post 1 (cn, nI (q_pc op i), nI (m + 1), pl, ck, pf, pc, st, ix, xst, tl, ds, sto, srt, bas, len, dig, dcm, sgn, tim, sig, op, opX, opY, opZ, tgt, sta, upd ins i (vp_nar .byte ((nI (q_pc op i) - 1).toInt8.toInt32)), upd opn m (nI i), pE, pL, pI, pB, out, pw, wk))))))) → wpX_structure post (cn, nI (q_pc op i), nI m, pl, ck, pf, pc, st, ix, xst, tl, ds, sto, srt, bas, len, dig, dcm, sgn, tim, sig, op, opX, opY, opZ, tgt, sta, ins, opn, pE, pL, pI, pB, out, pw, wk) (nI i) := by
    intro post K
    unfold wpX_structure
    refine ⟨hin, ?_⟩
    rw [hc, ho]
    refine nm_e ⟨hin, nm_e ?_⟩
    refine br_c K.1 (fun a => br_c (K.2 a).1 (fun b => br_c ((K.2 a).2 b).1 (fun c => nm_r (nI_1 _) ?_)))
    have m8 : m ≠ 8 := fun z => c (by rw [z]; rfl)
    rw [nI_clamp (n := m) (by omega), eni]
    exact ⟨vp_in_nI (by omega) (by omega), nm_e (((K.2 a).2 b).2 c)⟩
  by_cases c1 : 10 ≤ cd op i ∧ cd op i ≤ 12
  · have a1 : ¬ nI (cd op i) < 10 := nI_nlt (b := 10) c1.1 (by omega)
    have a2 : ¬ (12 : Int32) < nI (cd op i) := nI_nlt (a := 12) c1.2 (by omega)
    by_cases m8 : m = 8
    · left
      refine ⟨upd ins i (vp_nar .byte ((nI (q_pc op i) - 1).toInt8.toInt32)), fun post hP => X0 post (br_f a1 (br_f a2 (br_t (by rw [m8]; rfl) hP))), fun post J hP => yf_if (by omega) c1.1 c1.2 post J (fun _ => hP) (fun z => absurd m8 z)⟩
    · right
      obtain ⟨t1, t2⟩ := st_if hi (by omega) c1.1 c1.2 s1 s2
      refine ⟨m + 1, _, tgt, sta, _, _, by omega, t1, t2, st_in (ein (by omega)) s3, st_s1 (by omega) s4, fun post hP => X0 post (br_f a1 (br_f a2 (br_f (nn_e (b := 8) m8 (by omega) (by omega)) ?_))), fun post J hJ => yf_if (by omega) c1.1 c1.2 post J (fun z => absurd z m8) (fun _ => hJ)⟩
      rw [pc_s1 (by omega)] at hP
      exact hP
  · have X1 : ∀ post : Int32 → SX → Prop, wX_structure_64 post (nI i) (nI (cd op i)) cn (nI (q_pc op i)) (nI m) pl ck pf pc st ix xst tl ds sto srt bas len dig dcm sgn tim sig op opX opY opZ tgt sta (upd ins i (vp_nar .byte ((nI (q_pc op i) - 1).toInt8.toInt32))) opn pE pL pI pB out pw wk → wpX_structure post (cn, nI (q_pc op i), nI m, pl, ck, pf, pc, st, ix, xst, tl, ds, sto, srt, bas, len, dig, dcm, sgn, tim, sig, op, opX, opY, opZ, tgt, sta, ins, opn, pE, pL, pI, pB, out, pw, wk) (nI i) := by
      intro post K
      exact X0 post (pk_lt (cd op i) 10 (fun _ => K) (fun a => br_t (nI_lt (a := 12) (by omega) (by omega)) K))
    by_cases c2 : cd op i = 13
    · have e13 : nI (cd op i) = 13 := by rw [c2]; rfl
      have top := fun h0 : 0 < m => s1 (m - 1) (by omega)
      by_cases bad : m = 0 ∨ bt els m = true
      · left
        refine ⟨upd ins i (vp_nar .byte ((nI (q_pc op i) - 1).toInt8.toInt32)), fun post hP => X1 post ?_, fun post J hP => yf_el (by omega) c2 post J (fun _ => hP) (fun z => absurd bad z)⟩
        unfold wX_structure_64
        refine br_t e13 (pk_eq m 0 (fun _ => hP) (fun m0 => ?_))
        obtain ⟨a1, a2, a3, a4, a5, a6, a7, a8⟩ := top (by omega)
        rw [show nI m - 1 = nI (m - 1) from pk_sub (b := 1) (by omega), nI_clamp (n := m - 1) (by omega), a1, nI_clamp (n := cd opn (m - 1)) (by omega), oc_e hop]
        refine ⟨vp_in_nI (by omega) (by omega), vp_in_nI (by omega) (by omega), br_t ?_ hP⟩
        rw [show m - 1 + 1 = m by omega] at a8
        have b1 : bt els m = true := by rcases bad with q | q; exact absurd q m0; exact q
        rw [b1] at a8
        rw [of_decide_eq_true a8.symm]; rfl
      · right
        have m0 : 0 < m := by omega
        obtain ⟨t1, t2⟩ := st_el (tgt := tgt) hi m0 hm c2 s1 s2
        refine ⟨m, _, _, sta, _, _, hm, t1, t2, st_in (ein (by omega)) s3, st_s1 (by omega) s4, fun post hP => X1 post ?_, fun post J hJ => yf_el (by omega) c2 post J (fun z => absurd z bad) (fun _ => hJ)⟩
        rw [pc_s1 (by omega)] at hP
        unfold wX_structure_64
        refine br_t e13 (br_f (nn_e (b := 0) (by omega) (by omega) (by omega)) ?_)
        obtain ⟨a1, a2, a3, a4, a5, a6, a7, a8⟩ := top m0
        rw [show nI m - 1 = nI (m - 1) from pk_sub (b := 1) (by omega), nI_clamp (n := m - 1) (by omega), a1, nI_clamp (n := cd opn (m - 1)) (by omega), oc_e hop, en1, eni]
        rw [show m - 1 + 1 = m by omega] at a8
        have n13 : ¬ cd op (cd opn (m - 1)) = 13 := fun z => bad (Or.inr (by rw [a8]; exact decide_eq_true z))
        have v1 : vp_in (nI (m - 1)) 8 := vp_in_nI (by omega) (by omega)
        have v2 : vp_in (nI (cd opn (m - 1))) 48 := vp_in_nI (by omega) (by omega)
        exact ⟨v1, v2, br_f (nn_e (b := 13) n13 (by omega) (by omega)) ⟨v1, v2, nm_e ⟨v1, nm_e hP⟩⟩⟩
    · by_cases c3 : cd op i = 14
      · have e14 : nI (cd op i) = 14 := by rw [c3]; rfl
        by_cases m0 : m = 0
        · left
          refine ⟨upd ins i (vp_nar .byte ((nI (q_pc op i) - 1).toInt8.toInt32)), fun post hP => X1 post ?_, fun post J hP => yf_en (by omega) c3 post J (fun _ => hP) (fun z => absurd m0 z)⟩
          unfold wX_structure_64
          exact br_f (nn_e (b := 13) (by omega) (by omega) (by omega)) (br_t e14 (br_t (by rw [m0]; rfl) hP))
        · right
          obtain ⟨t1, t2⟩ := st_en (tgt := tgt) (by omega) c3 s1 s2
          refine ⟨m - 1, els, _, sta, _, opn, by omega, t1, t2, st_in (ein (by omega)) s3, st_s1 (by omega) s4, fun post hP => X1 post ?_, fun post J hJ => yf_en (by omega) c3 post J (fun z => absurd z m0) (fun _ => hJ)⟩
          rw [pc_s1 (by omega)] at hP
          obtain ⟨a1, a2, a3, a4, a5, a6, a7, a8⟩ := s1 (m - 1) (by omega)
          unfold wX_structure_64
          refine br_f (nn_e (b := 13) (by omega) (by omega) (by omega)) (br_t e14 (br_f (nn_e (b := 0) (by omega) (by omega) (by omega)) ?_))
          rw [show nI m - 1 = nI (m - 1) from pk_sub (b := 1) (by omega), nI_clamp (n := m - 1) (by omega), a1, en1]
          refine nm_e ⟨vp_in_nI (by omega) (by omega), nm_e ⟨vp_in_nI (by omega) (by omega), ?_⟩⟩
          rw [nI_clamp (n := cd opn (m - 1)) (by omega)]
          exact nm_e hP
      · by_cases c4 : cd op i = 0
        · have e0 : nI (cd op i) = 0 := by rw [c4]; rfl
          by_cases m0 : m = 0
          · right
            subst m0
            obtain ⟨t1, t2⟩ := st_no (tgt := tgt) (by omega) (fun _ => rfl) s1 s2
            refine ⟨0, els, tgt, _, _, opn, by omega, t1, t2, st_in (x := nI (q_pc op i)) (ins := upd ins i (vp_nar .byte ((nI (q_pc op i) - 1).toInt8.toInt32))) (by rw [pc_s0 c4, Nat.add_sub_cancel]) ?_, st_s0 c4 s4, fun post hP => X1 post ?_, fun post J hJ => yf_no (by omega) (by omega) (by omega) post J (fun z => by omega) (fun _ => hJ)⟩
            · intro k hk
              rw [pk_un (by omega)]
              exact s3 k hk
            · rw [pc_s0 c4] at hP
              unfold wX_structure_64
              refine br_f (nn_e (b := 13) (by omega) (by omega) (by omega)) (br_f (nn_e (b := 14) (by omega) (by omega) (by omega)) (br_t e0 (br_t (by decide) ?_)))
              rw [nI_clamp (n := q_pc op i) (by omega), hc, eni, nb_w (c := q_pc op i) (by omega)]
              exact ⟨vp_in_nI (by omega) (by omega), nm_e (nm_r (nI_1 _) ⟨hin, nm_e hP⟩)⟩
          · left
            refine ⟨upd ins i (vp_nar .byte ((nI (q_pc op i) - 1).toInt8.toInt32)), fun post hP => X1 post ?_, fun post J hP => yf_no (by omega) (by omega) (by omega) post J (fun _ => hP) (fun z => by omega)⟩
            unfold wX_structure_64
            exact br_f (nn_e (b := 13) (by omega) (by omega) (by omega)) (br_f (nn_e (b := 14) (by omega) (by omega) (by omega)) (br_t e0 (br_f (nI_nle (by omega) (by omega)) hP)))
        · right
          obtain ⟨t1, t2⟩ := st_no (tgt := tgt) (by omega) (fun z => absurd z c4) s1 s2
          refine ⟨m, els, tgt, sta, _, opn, hm, t1, t2, st_in (ein c4) s3, st_s1 c4 s4, fun post hP => X1 post ?_, fun post J hJ => yf_no (by omega) (by omega) (by omega) post J (fun z => by omega) (fun _ => hJ)⟩
          rw [pc_s1 c4] at hP
          unfold wX_structure_64
          exact br_f (nn_e (b := 13) (by omega) (by omega) (by omega)) (br_f (nn_e (b := 14) (by omega) (by omega) (by omega)) (br_f (nn_e (b := 0) (by omega) (by omega) (by omega)) hP))
end
end
section
/-- a checked program -/
def q_WF (op opX opY opZ srt tgt sta ins : Nat → Int32) (N : Nat) : Prop := 0 < N ∧ N ≤ 48 ∧ cd op 0 = 0 ∧ (∀ k, k < N → q_gd (cd op k) (q_kx srt (opX k)) (q_kx srt (opY k)) (q_pc op N) (opX k) (opY k) (opZ k)) ∧ (∀ k, k < N → 10 ≤ cd op k → cd op k ≤ 13 → q_Dn op tgt N k) ∧ q_S3 op ins N ∧ q_S4 op sta N
section
variable {cn : Int32} {xpa : Int32} {xop : Int32} {pl : Int32} {ck : Int32} {pf : Int32} {pc : Int32} {st : Int32} {ix : Int32} {xst : Int32} {tl : Int32} {ds : Int32} {sto : Nat → Int32} {srt : Nat → Int32} {bas : Nat → Int32} {len : Nat → Int32} {dig : Nat → Int32} {dcm : Nat → Int32} {sgn : Nat → Int32} {tim : Nat → Int32} {sig : Nat → Int32} {op : Nat → Int32} {opX : Nat → Int32} {opY : Nat → Int32} {opZ : Nat → Int32} {tgt : Nat → Int32} {sta : Nat → Int32} {ins : Nat → Int32} {opn : Nat → Int32} {pE : Nat → Int32} {pL : Nat → Int32} {pI : Nat → Int32} {pB : Nat → Int32} {out : Nat → Int32} {pw : Nat → Int64} {wk : Nat → Int32} {ypf : Int32} {yat : Int32} {yen : Int32} {yju : Int32} {yle : Nat → Int32} {ysg : Nat → Int32} {ych : Nat → Int32} {yot : Nat → Int32} {ylo : Nat → Int32} {yba : Nat → Int32} {yfr : Nat → Int32} {yva : Nat → Int32}
theorem ck_l {N : Nat} (hN : N ≤ 48) (hN0 : 0 < N) (hop : OpOK op) (hs : SrtOK srt) (z0 : cd op 0 = 0) : ∀ (r i : Nat), i + r = N → ∀ (m : Nat) (els plc : Int32) (tgt sta ins opn : Nat → Int32), m ≤ 8 → q_S1 op opn els i m → q_S2 op opn tgt i m → q_S3 op ins i → q_S4 op sta i → (∀ k, k < i → q_gd (cd op k) (q_kx srt (opX k)) (q_kx srt (opY k)) (q_pc op N) (opX k) (opY k) (opZ k)) →
    ∃ (ρ : Nat) (F : Int32) (xpa' xop' : Int32) (tgt' sta' ins' opn' : Nat → Int32), ((ρ = 1 ∧ F = -1 ∧ q_WF op opX opY opZ srt tgt' sta' ins' N) ∨ (ρ = 0 ∧ ∃ f : Nat, f ≤ 48 ∧ F = nI f)) ∧
      (∀ (post : Int32 → SX → Prop) n, r < n → post (nI ρ) (nI N, xpa', xop', F, nI ρ, pf, pc, st, ix, xst, tl, ds, sto, srt, bas, len, dig, dcm, sgn, tim, sig, op, opX, opY, opZ, tgt', sta', ins', opn', pE, pL, pI, pB, out, pw, wk) → wX_check_70 post (nI (q_pc op N)) n (nI i) (nI N) (nI (q_pc op i)) (nI m) plc 0 pf pc st ix xst tl ds sto srt bas len dig dcm sgn tim sig op opX opY opZ tgt sta ins opn pE pL pI pB out pw wk) ∧
      (∀ (post : Int32 → Prop) n, r < n → post F → wY_firstFault_24 post (nI N) pl ck ypf yat st ix ds yen tl yju sto srt bas yle dcm tim sig ysg op opX opY opZ out ych yot ylo pE pL yba yfr yva n (nI m) els (nI i)) := by
  intro r
  induction r with
  | zero =>
    intro i hi m els plc tgt sta ins opn hm s1 s2 s3 s4 s5
    obtain rfl : i = N := by omega
    by_cases m0 : m = 0
    · subst m0
      refine ⟨1, -1, nI (q_pc op i), nI 0, tgt, sta, ins, opn, Or.inl ⟨rfl, rfl, hN0, hN, z0, s5, fun k a b c => ?_, s3, s4⟩, fun post n hn hP => ?_, fun post n hn hP => ?_⟩
      · rcases s2 k a b c with ⟨j, j1, -⟩ | d
        · omega
        · exact d
      · obtain ⟨n, rfl⟩ : ∃ q, n = q + 1 := ⟨n - 1, by omega⟩
        exact br_t (nI_le (by omega) (by omega)) (br_t (by decide) hP)
      · obtain ⟨n, rfl⟩ : ∃ q, n = q + 1 := ⟨n - 1, by omega⟩
        exact br_t (nI_le (by omega) (by omega)) (br_t (by decide) hP)
    · refine ⟨0, nI i, nI (q_pc op i), nI m, tgt, sta, ins, opn, Or.inr ⟨rfl, i, hN, rfl⟩, fun post n hn hP => ?_, fun post n hn hP => ?_⟩
      · obtain ⟨n, rfl⟩ : ∃ q, n = q + 1 := ⟨n - 1, by omega⟩
        exact br_t (nI_le (by omega) (by omega)) (br_f (nI_nle (by omega) (by omega)) hP)
      · obtain ⟨n, rfl⟩ : ∃ q, n = q + 1 := ⟨n - 1, by omega⟩
        exact br_t (nI_le (by omega) (by omega)) (br_f (nI_nle (by omega) (by omega)) hP)
  | succ r ih =>
    intro i hi m els plc tgt sta ins opn hm s1 s2 s3 s4 s5
    have hin : vp_in (nI i) 48 := vp_in_nI (by omega) (by omega)
    have hc : (nI i).toNatClampNeg = i := nI_clamp (by omega)
    have ho := oc_e hop i
    have nge : ¬ nI N ≤ nI i := nI_ge (by omega) (by omega)
    obtain ⟨ρ, r1, r2, rX, rY⟩ := of_sim (k := i) (N := N) (xop := nI m) (pl := nI i) (ck := 0) (pf := pf) (pc := pc) (st := st) (ix := ix) (xst := xst) (tl := tl) (ds := ds) (sto := sto) (srt := srt) (bas := bas) (len := len) (dig := dig) (dcm := dcm) (sgn := sgn) (tim := tim) (sig := sig) (op := op) (opX := opX) (opY := opY) (opZ := opZ) (tgt := tgt) (sta := sta) (ins := ins) (opn := opn) (pE := pE) (pL := pL) (pI := pI) (pB := pB) (out := out) (pw := pw) (wk := wk) (ypf := ypf) (yat := yat) (yen := yen) (yju := yju) (yle := yle) (ysg := ysg) (ych := ych) (yot := yot) (ylo := ylo) (yba := yba) (yfr := yfr) (yva := yva) (ypl := pl) (yck := ck) (by omega) hs hop hN
    by_cases ρ0 : ρ = 0
    · subst ρ0
      refine ⟨0, nI i, nI (q_pc op i), nI m, tgt, sta, ins, opn, Or.inr ⟨rfl, i, by omega, rfl⟩, fun post n hn hP => ?_, fun post n hn hP => ?_⟩
      · obtain ⟨n, rfl⟩ : ∃ q, n = q + 1 := ⟨n - 1, by omega⟩
        exact br_f nge (rX _ (br_t rfl hP))
      · obtain ⟨n, rfl⟩ : ∃ q, n = q + 1 := ⟨n - 1, by omega⟩
        refine br_f nge ⟨hin, ?_⟩
        rw [hc, ho]
        exact nm_e (rY _ (br_t rfl hP))
    · obtain rfl : ρ = 1 := by omega
      have gi := r2 rfl
      have s5' : ∀ k, k < i + 1 → q_gd (cd op k) (q_kx srt (opX k)) (q_kx srt (opY k)) (q_pc op N) (opX k) (opY k) (opZ k) := by
        intro k hk
        by_cases e : k = i
        · rw [e]; exact gi
        · exact s5 k (by omega)
      rcases sx_sim (N := N) (cn := nI N) (pl := nI i) (ck := 0) (pf := pf) (pc := pc) (st := st) (ix := ix) (xst := xst) (tl := tl) (ds := ds) (sto := sto) (srt := srt) (bas := bas) (len := len) (dig := dig) (dcm := dcm) (sgn := sgn) (tim := tim) (sig := sig) (op := op) (opX := opX) (opY := opY) (opZ := opZ) (pE := pE) (pL := pL) (pI := pI) (pB := pB) (out := out) (pw := pw) (wk := wk) (ypf := ypf) (yat := yat) (yen := yen) (yju := yju) (yle := yle) (ysg := ysg) (ych := ych) (yot := yot) (ylo := ylo) (yba := yba) (yfr := yfr) (yva := yva) (ypl := pl) (yck := ck) (by omega) hm hop z0 s1 s2 s3 s4 with ⟨ins', fX, fY⟩ | ⟨m', els', tgt', sta', ins', opn', m8, t1, t2, t3, t4, gX, gY⟩
      · refine ⟨0, nI i, nI (q_pc op i), nI m, tgt, sta, ins', opn, Or.inr ⟨rfl, i, by omega, rfl⟩, fun post n hn hP => ?_, fun post n hn hP => ?_⟩
        · obtain ⟨n, rfl⟩ : ∃ q, n = q + 1 := ⟨n - 1, by omega⟩
          exact br_f nge (rX _ (br_f (by decide) (fX _ (br_t rfl hP))))
        · obtain ⟨n, rfl⟩ : ∃ q, n = q + 1 := ⟨n - 1, by omega⟩
          refine br_f nge ⟨hin, ?_⟩
          rw [hc, ho]
          exact nm_e (rY _ (br_f (by decide) (fY post _ hP)))
      · obtain ⟨ρ, F, xpa', xop', tg, sa, is, on, h1, h2, h3⟩ := ih (i + 1) (by omega) m' els' (nI i) tgt' sta' ins' opn' m8 t1 t2 t3 t4 s5'
        refine ⟨ρ, F, xpa', xop', tg, sa, is, on, h1, fun post n hn hP => ?_, fun post n hn hP => ?_⟩
        · obtain ⟨n, rfl⟩ : ∃ q, n = q + 1 := ⟨n - 1, by omega⟩
          exact br_f nge (rX _ (br_f (by decide) (gX _ (br_f (by decide) (nm_r (nI_1 _) (h2 post n (by omega) hP))))))
        · obtain ⟨n, rfl⟩ : ∃ q, n = q + 1 := ⟨n - 1, by omega⟩
          refine br_f nge ⟨hin, ?_⟩
          rw [hc, ho]
          exact nm_e (rY _ (br_f (by decide) (gY post _ (h3 post n (by omega) hP))))
theorem xk_9 {post : Int32 → SX → Prop} {N : Nat} (hN : N ≤ 48) (hop : OpOK op) (hK : ∀ n, wX_check_9 post (nI N) xpa xop pl 0 pf pc st ix xst tl ds sto srt bas len dig dcm sgn tim sig op opX opY opZ tgt sta ins opn pE pL pI pB out pw wk (n + 1) (nI (q_pc op N)) (nI N)) : ∀ r m n : Nat, m + r = N → r < n → wX_check_9 post (nI N) xpa xop pl 0 pf pc st ix xst tl ds sto srt bas len dig dcm sgn tim sig op opX opY opZ tgt sta ins opn pE pL pI pB out pw wk n (nI (q_pc op m)) (nI m) := by
  intro r
  induction r with
  | zero =>
    intro m n hm hn
    obtain ⟨n, rfl⟩ : ∃ q, n = q + 1 := ⟨n - 1, by omega⟩
    obtain rfl : m = N := by omega
    exact hK n
  | succ r ih =>
    intro m n hm hn
    obtain ⟨n, rfl⟩ : ∃ q, n = q + 1 := ⟨n - 1, by omega⟩
    have K := ih (m + 1) n (by omega) (by omega)
    have ol := oc_l hop m
    refine br_f (nI_ge (by omega) (by omega)) ⟨vp_in_nI (by omega) (by omega), ?_⟩
    rw [nI_clamp (n := m) (by omega), oc_e hop]
    refine pk_eq (cd op m) 0 (fun z => ?_) (fun z => ?_)
    · rw [pc_s0 z] at K
      exact nm_r (nI_1 _) (nm_r (nI_1 _) K)
    · rw [pc_s1 z] at K
      exact nm_r (nI_1 _) K
theorem ck_sim {N : Nat} (hN : N ≤ 48) (hop : OpOK op) (hs : SrtOK srt) :
    ∃ (ρ : Nat) (F : Int32) (xpa' xop' : Int32) (tgt' sta' ins' opn' : Nat → Int32), ρ ≤ 1 ∧ (ρ = 1 → q_WF op opX opY opZ srt tgt' sta' ins' N) ∧
      (∀ (post : Int32 → SX → Prop), post (nI ρ) (nI N, xpa', xop', F, nI ρ, pf, pc, st, ix, xst, tl, ds, sto, srt, bas, len, dig, dcm, sgn, tim, sig, op, opX, opY, opZ, tgt', sta', ins', opn', pE, pL, pI, pB, out, pw, wk) → wpX_check post (nI N, xpa, xop, pl, ck, pf, pc, st, ix, xst, tl, ds, sto, srt, bas, len, dig, dcm, sgn, tim, sig, op, opX, opY, opZ, tgt, sta, ins, opn, pE, pL, pI, pB, out, pw, wk)) ∧
      (∀ (post : Int32 → SY → Prop), post (nI ρ) (nI N, F, nI ρ, ypf, yat, st, ix, ds, yen, tl, yju, sto, srt, bas, yle, dcm, tim, sig, ysg, op, opX, opY, opZ, out, ych, yot, ylo, pE, pL, yba, yfr, yva) → wpY_check post (nI N, pl, ck, ypf, yat, st, ix, ds, yen, tl, yju, sto, srt, bas, yle, dcm, tim, sig, ysg, op, opX, opY, opZ, out, ych, yot, ylo, pE, pL, yba, yfr, yva)) := by
  have ol0 := oc_l hop 0
  by_cases bad : N = 0 ∨ ¬ cd op 0 = 0
  · refine ⟨0, 0, xpa, xop, tgt, sta, ins, opn, by omega, fun z => by omega, fun post hP => ?_, fun post hP => ?_⟩
    · unfold wpX_check
      refine ⟨N + 1, xk_9 hN hop (fun n => ?_) N 0 (N + 1) (by omega) (by omega)⟩
      refine br_t (nI_le (by omega) (by omega)) (pk_eq N 0 (fun _ => hP) (fun z => ?_))
      rw [oc_e hop 0]
      exact br_f (nn_e (b := 0) (by omega) (by omega) (by omega)) hP
    · unfold wpY_check
      unfold wpY_firstFault
      refine pk_eq N 0 (fun _ => br_t (by decide) hP) (fun z => ?_)
      rw [oc_e hop 0]
      exact br_f (nn_e (b := 0) (by omega) (by omega) (by omega)) (br_t (by decide) hP)
  · have z0 : cd op 0 = 0 := by omega
    obtain ⟨ρ, F, xpa', xop', tg, sa, is, on, h1, h2, h3⟩ := ck_l (pl := pl) (ck := ck) (pf := pf) (pc := pc) (st := st) (ix := ix) (xst := xst) (tl := tl) (ds := ds) (sto := sto) (srt := srt) (bas := bas) (len := len) (dig := dig) (dcm := dcm) (sgn := sgn) (tim := tim) (sig := sig) (op := op) (opX := opX) (opY := opY) (opZ := opZ) (pE := pE) (pL := pL) (pI := pI) (pB := pB) (out := out) (pw := pw) (wk := wk) (ypf := ypf) (yat := yat) (yen := yen) (yju := yju) (yle := yle) (ysg := ysg) (ych := ych) (yot := yot) (ylo := ylo) (yba := yba) (yfr := yfr) (yva := yva) hN (by omega) hop hs z0 N 0 (by omega) 0 0 0 tgt sta ins opn (by omega) (fun j hj => by omega) (fun k hk => by omega) (fun k hk => by omega) (fun q hq => absurd hq (Nat.not_lt_zero q)) (fun k hk => by omega)
    refine ⟨ρ, F, xpa', xop', tg, sa, is, on, by omega, fun z => ?_, fun post hP => ?_, fun post hP => ?_⟩
    · rcases h1 with q | q
      · exact q.2.2
      · omega
    · unfold wpX_check
      refine ⟨N + 1, xk_9 hN hop (fun n => ?_) N 0 (N + 1) (by omega) (by omega)⟩
      refine br_t (nI_le (by omega) (by omega)) (br_f (nn_e (b := 0) (by omega) (by omega) (by omega)) ?_)
      rw [oc_e hop 0, z0]
      exact br_t rfl ⟨N + 1, h2 post (N + 1) (by omega) hP⟩
    · unfold wpY_check
      unfold wpY_firstFault
      refine br_f (nn_e (b := 0) (by omega) (by omega) (by omega)) ?_
      rw [oc_e hop 0, z0]
      refine br_t rfl ⟨N + 1, h3 _ (N + 1) (by omega) ?_⟩
      rcases h1 with ⟨q1, q2, -⟩ | ⟨q1, f, q2, q3⟩
      · subst q1 q2
        exact br_f (by decide) hP
      · subst q1 q3
        exact br_t (nI_pos' (by omega)) hP
end
end
section
/-- a perform in progress, on both sides -/
def q_Fk (op opX pE pL pI pB ylo yba yfr yva : Nat → Int32) (N S k : Nat) : Prop := ∃ lo hi b f v m : Nat, (pE k = nI hi ∧ hi < q_pc op N) ∧ (ylo k = nI lo ∧ lo < q_pc op N) ∧ (pB k = nI b ∧ b < N ∧ opX b = nI lo ∧ yba k = nI (b + 1)) ∧ (pL k = nI m ∧ 1 ≤ m ∧ m < 2147483648) ∧ (yfr k = nI f ∧ 1 ≤ f ∧ f ≤ S) ∧ (yva k = nI v ∧ v ≤ 1 ∧ pI k = nI (if v = 1 then f else 0))
def q_Stk (op opX pE pL pI pB ylo yba yfr yva : Nat → Int32) (N P S : Nat) : Prop := ∀ k, k < P → q_Fk op opX pE pL pI pB ylo yba yfr yva N S k
def q_Rdy (op pE : Nat → Int32) (N P i : Nat) (yju : Int32) : Prop := yju = 1 ∨ (yju = 0 ∧ (P = 0 ∨ ∃ hi, pE (P - 1) = nI hi ∧ hi < q_pc op N ∧ ¬ ((i = N ∨ cd op i = 0) ∧ q_pc op i = hi + 1)))
theorem fk_m {op opX pE pL pI pB ylo yba yfr yva : Nat → Int32} {N S S' k : Nat} (h : q_Fk op opX pE pL pI pB ylo yba yfr yva N S k) (hS : S ≤ S') : q_Fk op opX pE pL pI pB ylo yba yfr yva N S' k := by
  obtain ⟨lo, hi, b, f, v, m, h1, h2, h3, h4, ⟨h5, h6, h7⟩, h8⟩ := h
  exact ⟨lo, hi, b, f, v, m, h1, h2, h3, h4, ⟨h5, h6, by omega⟩, h8⟩
section
variable {cn : Int32} {xpa : Int32} {xop : Int32} {pl : Int32} {ck : Int32} {pf : Int32} {pc : Int32} {st : Int32} {ix : Int32} {xst : Int32} {tl : Int32} {ds : Int32} {sto : Nat → Int32} {srt : Nat → Int32} {bas : Nat → Int32} {len : Nat → Int32} {dig : Nat → Int32} {dcm : Nat → Int32} {sgn : Nat → Int32} {tim : Nat → Int32} {sig : Nat → Int32} {op : Nat → Int32} {opX : Nat → Int32} {opY : Nat → Int32} {opZ : Nat → Int32} {tgt : Nat → Int32} {sta : Nat → Int32} {ins : Nat → Int32} {opn : Nat → Int32} {pE : Nat → Int32} {pL : Nat → Int32} {pI : Nat → Int32} {pB : Nat → Int32} {out : Nat → Int32} {pw : Nat → Int64} {wk : Nat → Int32} {ypf : Int32} {yat : Int32} {yen : Int32} {yju : Int32} {yle : Nat → Int32} {ysg : Nat → Int32} {ych : Nat → Int32} {yot : Nat → Int32} {ylo : Nat → Int32} {yba : Nat → Int32} {yfr : Nat → Int32} {yva : Nat → Int32}
/-- the reference, ready, goes on to its choice -/
theorem yr_96 {post : Int32 → SY → Prop} {N P i n : Nat} (hN : N ≤ 48) (hP6 : P ≤ 6) (hop : OpOK op) (hi : i ≤ N) (hr : q_Rdy op pE N P i yju) (K : wY_run_96 post (wY_run_49 post n) (nI N) pl ck (nI P) (nI i) st ix ds (-1) tl yju sto srt bas yle dcm tim sig ysg op opX opY opZ out ych yot ylo pE pL yba yfr yva) : wY_run_49 post (n + 1) (nI N) pl ck (nI P) (nI i) st ix ds (-1) tl yju sto srt bas yle dcm tim sig ysg op opX opY opZ out ych yot ylo pE pL yba yfr yva := by
  refine br_f (by decide) ?_
  rcases hr with rfl | ⟨rfl, hr⟩
  · exact br_f (by decide) K
  · refine br_t rfl ?_
    rcases hr with rfl | ⟨hi', e1, e2, e3⟩
    · exact br_t (by decide) K
    · by_cases p0 : P = 0
      · exact br_t (by rw [p0]; decide) K
      · refine br_f (nI_nle (by omega) (by omega)) ?_
        rw [show nI P - 1 = nI (P - 1) from pk_sub (b := 1) (by omega), nI_clamp (n := P - 1) (by omega), e1]
        refine ⟨vp_in_nI (by omega) (by omega), ?_⟩
        obtain ⟨E, E1, E2⟩ := ye_end (N := N) (q := hi') (pl := pl) (ck := ck) (ypf := nI P) (yat := nI i) (st := st) (ix := ix) (ds := ds) (yen := -1) (tl := tl) (yju := 0) (sto := sto) (srt := srt) (bas := bas) (yle := yle) (dcm := dcm) (tim := tim) (sig := sig) (ysg := ysg) (op := op) (opX := opX) (opY := opY) (opZ := opZ) (out := out) (ych := ych) (yot := yot) (ylo := ylo) (pE := pE) (pL := pL) (yba := yba) (yfr := yfr) (yva := yva) hop hN e2
        refine E2 _ (pk_eq i E (fun z => ?_) (fun z => K) rfl rfl (by omega) (by have := E1.1; omega))
        subst z
        exact absurd ⟨E1.2.1, E1.2.2⟩ e3
/-- the reference at the end of its latest perform -/
theorem yr_97 {post : Int32 → SY → Prop} {N k i hi n : Nat} (hN : N ≤ 48) (hk : k < 6) (hop : OpOK op) (hi' : i ≤ N) (e1 : pE k = nI hi) (e2 : hi < q_pc op N) (e3 : i = N ∨ cd op i = 0) (e4 : q_pc op i = hi + 1) (K : wpY_again (fun u => match u with | (cn, pl, ck, ypf, yat, st, ix, ds, yen, tl, yju, sto, srt, bas, yle, dcm, tim, sig, ysg, op, opX, opY, opZ, out, ych, yot, ylo, pE, pL, yba, yfr, yva) => wY_run_49 post n cn pl ck ypf yat st ix ds yen tl yju sto srt bas yle dcm tim sig ysg op opX opY opZ out ych yot ylo pE pL yba yfr yva) (nI N, pl, ck, nI (k + 1), nI i, st, ix, ds, -1, tl, 0, sto, srt, bas, yle, dcm, tim, sig, ysg, op, opX, opY, opZ, out, ych, yot, ylo, pE, pL, yba, yfr, yva)) : wY_run_49 post (n + 1) (nI N) pl ck (nI (k + 1)) (nI i) st ix ds (-1) tl 0 sto srt bas yle dcm tim sig ysg op opX opY opZ out ych yot ylo pE pL yba yfr yva := by
  refine br_f (by decide) (br_t rfl (br_f (nI_nle (by omega) (by omega)) ?_))
  rw [nI_pred, nI_clamp (n := k) (by omega), e1]
  refine ⟨vp_in_nI (by omega) (by omega), ?_⟩
  obtain ⟨E, E1, E2⟩ := ye_end (N := N) (q := hi) (pl := pl) (ck := ck) (ypf := nI (k + 1)) (yat := nI i) (st := st) (ix := ix) (ds := ds) (yen := -1) (tl := tl) (yju := 0) (sto := sto) (srt := srt) (bas := bas) (yle := yle) (dcm := dcm) (tim := tim) (sig := sig) (ysg := ysg) (op := op) (opX := opX) (opY := opY) (opZ := opZ) (out := out) (ych := ych) (yot := yot) (ylo := ylo) (pE := pE) (pL := pL) (yba := yba) (yfr := yfr) (yva := yva) hop hN e2
  have eE := en_u E1 hi' e3 e4
  refine E2 _ (br_t (by rw [eE]) ?_)
  unfold wY_run_97
  exact br_f (by decide) K
end
end
section
section
variable {cn : Int32} {xpa : Int32} {xop : Int32} {pl : Int32} {ck : Int32} {pf : Int32} {pc : Int32} {st : Int32} {ix : Int32} {xst : Int32} {tl : Int32} {ds : Int32} {sto : Nat → Int32} {srt : Nat → Int32} {bas : Nat → Int32} {len : Nat → Int32} {dig : Nat → Int32} {dcm : Nat → Int32} {sgn : Nat → Int32} {tim : Nat → Int32} {sig : Nat → Int32} {op : Nat → Int32} {opX : Nat → Int32} {opY : Nat → Int32} {opZ : Nat → Int32} {tgt : Nat → Int32} {sta : Nat → Int32} {ins : Nat → Int32} {opn : Nat → Int32} {pE : Nat → Int32} {pL : Nat → Int32} {pI : Nat → Int32} {pB : Nat → Int32} {out : Nat → Int32} {pw : Nat → Int64} {wk : Nat → Int32} {ypf : Int32} {yat : Int32} {yen : Int32} {yju : Int32} {yle : Nat → Int32} {ysg : Nat → Int32} {ych : Nat → Int32} {yot : Nat → Int32} {ylo : Nat → Int32} {yba : Nat → Int32} {yfr : Nat → Int32} {yva : Nat → Int32}
theorem go_end {N P i p S : Nat} (hN : N ≤ 48) (hP6 : P ≤ 6) (hop : OpOK op) (hi : i ≤ N) (hp : (i = N ∨ cd op i = 0) → q_pc op i = p + 1) (hs : q_Stk op opX pE pL pI pB ylo yba yfr yva N P S) (hnot : (i = N ∨ cd op i = 0) → P = 0 ∨ ∃ hi, pE (P - 1) = nI hi ∧ hi < 1000 ∧ hi ≠ p) (hp48 : p < 1000) :
    ∃ st' : Int32, ((st' = 0 ∧ i = N) ∨ (st' = -1 ∧ i < N)) ∧ q_Rdy op pE N P i 0 ∧
      (∀ (post : SX → Prop) n, post (nI N, xpa, xop, pl, ck, nI P, nI i, st, ix, st', tl, ds, sto, srt, bas, len, dig, dcm, sgn, tim, sig, op, opX, opY, opZ, tgt, sta, ins, opn, pE, pL, pI, pB, out, pw, wk) → wX_goOn_5 post (nI N) xpa xop pl ck pc st ix (-1) tl ds (n + 1) (nI i) (nI p) (nI P) sto srt bas len dig dcm sgn tim sig op opX opY opZ tgt sta ins opn pE pL pI pB out pw wk) := by
  have rdy : q_Rdy op pE N P i 0 := by
    refine Or.inr ⟨rfl, ?_⟩
    by_cases p0 : P = 0
    · exact Or.inl p0
    · obtain ⟨lo, hi', b, f, v, m, ⟨h1, h1'⟩, -⟩ := hs (P - 1) (by omega)
      refine Or.inr ⟨hi', h1, h1', fun z => ?_⟩
      have pl := pc_le op N
      rcases hnot z.1 with q | ⟨hi2, q1, q2, q3⟩
      · exact p0 q
      · rw [h1, nI_eq (by omega) (by omega)] at q1
        have := hp z.1
        omega
  have K29 : (i = N ∨ cd op i = 0) → ∀ (post : SX → Prop) (J : Int32 → Int32 → Int32 → (Nat → Int32) → (Nat → Int32) → (Nat → Int32) → (Nat → Int32) → (Nat → Int32) → (Nat → Int32) → (Nat → Int32) → (Nat → Int32) → (Nat → Int32) → (Nat → Int32) → (Nat → Int32) → (Nat → Int32) → (Nat → Int32) → (Nat → Int32) → (Nat → Int32) → (Nat → Int32) → (Nat → Int32) → (Nat → Int32) → (Nat → Int32) → (Nat → Int32) → (Nat → Int32) → (Nat → Int32) → (Nat → Int64) → (Nat → Int32) → Prop), wX_goOn_54 post (nI i) (nI N) xpa xop pl ck (nI P) pc st ix (-1) tl ds sto srt bas len dig dcm sgn tim sig op opX opY opZ tgt sta ins opn pE pL pI pB out pw wk → wX_goOn_29 post J (nI i) (nI p) (nI N) xpa xop pl ck (nI P) pc st ix (-1) tl ds sto srt bas len dig dcm sgn tim sig op opX opY opZ tgt sta ins opn pE pL pI pB out pw wk := by
    intro c post J K
    unfold wX_goOn_29
    rcases hnot c with q | ⟨hi2, q1, q2, q3⟩
    · subst q
      exact nm_e (br_t (by decide) K)
    · by_cases p0 : P = 0
      · subst p0
        exact nm_e (br_t (by decide) K)
      · rw [show nI P - 1 = nI (P - 1) from pk_sub (b := 1) (by omega)]
        refine nm_e (br_f (nI_pos (by omega)) ⟨vp_in_nI (by omega) (by omega), ?_⟩)
        rw [nI_clamp (n := P - 1) (by omega), q1]
        exact br_f (nn_e q3 (by omega) (by omega)) K
  by_cases iN : i = N
  · refine ⟨0, Or.inl ⟨rfl, iN⟩, rdy, fun post n hP => ?_⟩
    refine br_f (by decide) (br_t (by rw [iN]) (K29 (Or.inl iN) post _ ?_))
    unfold wX_goOn_54
    exact br_t (by rw [iN]) hP
  · refine ⟨-1, Or.inr ⟨rfl, by omega⟩, rdy, fun post n hP => ?_⟩
    have ol := oc_l hop i
    refine br_f (by decide) (br_f (nn_e iN (by omega) (by omega)) ⟨vp_in_nI (by omega) (by omega), ?_⟩)
    rw [nI_clamp (n := i) (by omega), oc_e hop]
    refine pk_eq (cd op i) 0 (fun z => K29 (Or.inr z) post _ ?_) (fun z => hP)
    unfold wX_goOn_54
    exact br_f (nn_e iN (by omega) (by omega)) hP
theorem go_l {N S : Nat} (hop : OpOK op) (wf : q_WF op opX opY opZ srt tgt sta ins N) (hS : S < 1000) : ∀ P, P ≤ 6 → ∀ (i p : Nat) (pL : Nat → Int32), i ≤ N → ((i = N ∨ cd op i = 0) → q_pc op i = p + 1) → p < 1000 → q_Stk op opX pE pL pI pB ylo yba yfr yva N P S →
    ∃ (P' i' : Nat) (ix' st' yju' : Int32) (pL' pI' yfr' : Nat → Int32), P' ≤ P ∧ q_Stk op opX pE pL' pI' pB ylo yba yfr' yva N P' (S + 1) ∧ i' ≤ N ∧ q_Rdy op pE N P' i' yju' ∧ ((st' = 0 ∧ i' = N) ∨ (st' = -1 ∧ i' < N)) ∧
      (∀ (post : SX → Prop) n, P < n → post (nI N, xpa, xop, pl, ck, nI P', nI i', st, ix', st', tl, ds, sto, srt, bas, len, dig, dcm, sgn, tim, sig, op, opX, opY, opZ, tgt, sta, ins, opn, pE, pL', pI', pB, out, pw, wk) → wX_goOn_5 post (nI N) xpa xop pl ck pc st ix (-1) tl ds n (nI i) (nI p) (nI P) sto srt bas len dig dcm sgn tim sig op opX opY opZ tgt sta ins opn pE pL pI pB out pw wk) ∧
      (∀ (post : Int32 → SY → Prop), (∃ n, wY_run_49 post n (nI N) pl ck (nI P') (nI i') st ix' ds (-1) tl yju' sto srt bas yle dcm tim sig ysg op opX opY opZ out ych yot ylo pE pL' yba yfr' yva) → ∃ n, wY_run_49 post n (nI N) pl ck (nI P) (nI i) st ix ds (-1) tl 0 sto srt bas yle dcm tim sig ysg op opX opY opZ out ych yot ylo pE pL yba yfr yva) := by
  have hN : N ≤ 48 := wf.2.1
  have z0 : cd op 0 = 0 := wf.2.2.1
  have s3 := wf.2.2.2.2.2.1
  have s4 := wf.2.2.2.2.2.2
  have plN := pc_le op N
  intro P
  induction P with
  | zero =>
    intro _ i p pL hi hp hp48 hs
    obtain ⟨st', a1, a2, a3⟩ := go_end (xpa := xpa) (xop := xop) (pl := pl) (ck := ck) (pc := pc) (st := st) (ix := ix) (tl := tl) (ds := ds) (sto := sto) (srt := srt) (bas := bas) (len := len) (dig := dig) (dcm := dcm) (sgn := sgn) (tim := tim) (sig := sig) (op := op) (opX := opX) (opY := opY) (opZ := opZ) (tgt := tgt) (sta := sta) (ins := ins) (opn := opn) (pE := pE) (pL := pL) (pI := pI) (pB := pB) (out := out) (pw := pw) (wk := wk) hN (by omega) hop hi hp hs (fun _ => Or.inl rfl) hp48
    refine ⟨0, i, ix, st', 0, pL, pI, yfr, by omega, fun k hk => by omega, hi, a2, a1, fun post n hn hP => ?_, fun post h => h⟩
    obtain ⟨n, rfl⟩ : ∃ q, n = q + 1 := ⟨n - 1, by omega⟩
    exact a3 post n hP
  | succ k ih =>
    intro hk6 i p pL hi hp hp48 hs
    obtain ⟨lo, hi', b, f, v, m, ⟨h1, h1'⟩, ⟨h2, h2'⟩, ⟨h3, h3b, h3x, h3y⟩, ⟨h4, h4a, h4b⟩, ⟨h5, h5a, h5b⟩, ⟨h6, h6a, h6b⟩⟩ := hs k (by omega)
    by_cases ends : (i = N ∨ cd op i = 0) ∧ hi' = p
    · obtain ⟨c, ep⟩ := ends
      subst ep
      have e4 := hp c
      have hin : vp_in (nI k) 6 := vp_in_nI (by omega) (by omega)
      have hc : (nI k).toNatClampNeg = k := nI_clamp (by omega)
      have hinb : vp_in (nI b) 48 := vp_in_nI (by omega) (by omega)
      have hcb : (nI b).toNatClampNeg = b := nI_clamp (by omega)
      have em : nI m - 1 = nI (m - 1) := pk_sub (b := 1) h4a
      have b29 : ∀ (post : SX → Prop) n, wX_goOn_29 post (wX_goOn_5 post (nI N) xpa xop pl ck pc st ix (-1) tl ds n) (nI i) (nI hi') (nI N) xpa xop pl ck (nI (k + 1)) pc st ix (-1) tl ds sto srt bas len dig dcm sgn tim sig op opX opY opZ tgt sta ins opn pE pL pI pB out pw wk → wX_goOn_5 post (nI N) xpa xop pl ck pc st ix (-1) tl ds (n + 1) (nI i) (nI hi') (nI (k + 1)) sto srt bas len dig dcm sgn tim sig op opX opY opZ tgt sta ins opn pE pL pI pB out pw wk := by
        intro post n K
        refine br_f (by decide) ?_
        by_cases iN : i = N
        · exact br_t (by rw [iN]) K
        · have z : cd op i = 0 := by omega
          refine br_f (nn_e iN (by omega) (by omega)) ⟨vp_in_nI (by omega) (by omega), ?_⟩
          rw [nI_clamp (n := i) (by omega), oc_e hop, z]
          exact br_t rfl K
      by_cases m1 : m = 1
      · -- the perform is over
        subst m1
        have pb1 : 1 ≤ q_pc op (b + 1) := by
          have := pc_m op (a := 1) (b := b + 1) (by omega)
          rw [pc_s0 z0] at this
          omega
        have plb := pc_le op (b + 1)
        have eu : upd pL k (nI 1 - 1) = upd pL k (nI 0) := rfl
        obtain ⟨P', i', ix', st', yju', pL', pI', yfr', g1, g2, g3, g4, g5, gX, gY⟩ := ih (by omega) (b + 1) (q_pc op (b + 1) - 1) (upd pL k (nI 0)) (by omega) (fun _ => by omega) (by omega) (fun j hj => by
          obtain ⟨lo, hi', b, f, v, m, t1, t2, t3, ⟨t4, t4'⟩, t5⟩ := hs j (by omega)
          exact ⟨lo, hi', b, f, v, m, t1, t2, t3, ⟨by rw [pk_un (by omega)]; exact t4, t4'⟩, t5⟩)
        refine ⟨P', i', ix', st', yju', pL', pI', yfr', by omega, g2, g3, g4, g5, fun post n hn hP => ?_, fun post h => ?_⟩
        · obtain ⟨n, rfl⟩ : ∃ q, n = q + 1 := ⟨n - 1, by omega⟩
          refine b29 post n ?_
          unfold wX_goOn_29
          rw [nI_pred]
          refine nm_e (br_f (nI_pos (by omega)) ⟨hin, ?_⟩)
          rw [hc, h1, h4, h3, hcb, s3 b h3b]
          exact br_t rfl ⟨hin, hin, nm_e (br_t (by decide) (nm_e ⟨hin, nm_r (nI_1 _) ⟨hin, hinb, nm_e (gX post n (by omega) hP)⟩⟩))⟩
        · obtain ⟨n, hn⟩ := gY post h
          refine ⟨n + 1, yr_97 hN (by omega) hop hi h1 h1' c e4 ?_⟩
          unfold wpY_again
          refine nm_r (nI_pred k) ⟨hin, hin, ?_⟩
          rw [hc, h4, h3y]
          refine nm_e ⟨hin, ?_⟩
          rw [pk_us]
          exact br_t rfl (nm_r (nI_pred k) ⟨hin, nm_e hn⟩)
      · -- its next time begins
        obtain ⟨j, j1, j2, j3, j4⟩ := s4 lo h2'
        have hinl : vp_in (nI lo) 48 := vp_in_nI (by omega) (by omega)
        have hcl : (nI lo).toNatClampNeg = lo := nI_clamp (by omega)
        have mm : ¬ nI (m - 1) ≤ 0 := nI_nle (by omega) (by omega)
        have mm0 : ¬ nI (m - 1) = 0 := nI_ne0 (by omega) (by omega)
        have old : ∀ (pI' yfr' : Nat → Int32), (∀ x, x ≠ k → pI' x = pI x) → (∀ x, x ≠ k → yfr' x = yfr x) → q_Fk op opX pE (upd pL k (nI (m - 1))) pI' pB ylo yba yfr' yva N (S + 1) k → q_Stk op opX pE (upd pL k (nI (m - 1))) pI' pB ylo yba yfr' yva N (k + 1) (S + 1) := by
          intro pI' yfr' e1 e2 ht x hx
          by_cases e : x = k
          · rw [e]; exact ht
          · obtain ⟨lo, hi', b, f, v, m', t1, t2, t3, ⟨t4, t4'⟩, ⟨t5, t5a, t5b⟩, ⟨t6, t6a, t6b⟩⟩ := hs x hx
            exact ⟨lo, hi', b, f, v, m', t1, t2, t3, ⟨by rw [pk_un e]; exact t4, t4'⟩, ⟨by rw [e2 x e]; exact t5, t5a, by omega⟩, ⟨t6, t6a, by rw [e1 x e]; exact t6b⟩⟩
        by_cases v0 : v = 0
        · subst v0
          rw [if_neg (by decide)] at h6b
          refine ⟨k + 1, j, ix, -1, 1, upd pL k (nI (m - 1)), pI, upd yfr k (nI (f + 1)), by omega, old pI _ (fun _ _ => rfl) (fun x e => pk_un e) ?_, by omega, Or.inl rfl, Or.inr ⟨rfl, j1⟩, fun post n hn hP => ?_, fun post h => ?_⟩
          · exact ⟨lo, hi', b, f + 1, 0, m - 1, ⟨h1, h1'⟩, ⟨h2, h2'⟩, ⟨h3, h3b, h3x, h3y⟩, ⟨pk_us, by omega, by omega⟩, ⟨pk_us, by omega, by omega⟩, ⟨h6, h6a, by rw [if_neg (by decide)]; exact h6b⟩⟩
          · obtain ⟨n, rfl⟩ : ∃ q, n = q + 1 := ⟨n - 1, by omega⟩
            refine b29 post n ?_
            unfold wX_goOn_29
            rw [nI_pred]
            refine nm_e (br_f (nI_pos (by omega)) ⟨hin, ?_⟩)
            rw [hc, h1, h4, em, h6b]
            refine br_t rfl ⟨hin, hin, nm_e (br_f mm ⟨hin, br_t (by decide) ?_⟩)⟩
            unfold wX_goOn_111 wpX_pFirst
            refine ⟨hin, ?_⟩
            rw [hc, h3, hcb, h3x, hcl, j2]
            exact ⟨hinb, hinl, hP⟩
          · obtain ⟨n, hn⟩ := h
            refine ⟨n + 1, yr_97 hN (by omega) hop hi h1 h1' c e4 ?_⟩
            unfold wpY_again
            refine nm_r (nI_pred k) ⟨hin, hin, ?_⟩
            rw [hc, h4, em]
            refine nm_e ⟨hin, ?_⟩
            rw [pk_us]
            refine br_f mm0 ⟨hin, hin, ?_⟩
            rw [h5, nI_1]
            refine nm_e ⟨hin, ?_⟩
            rw [h6]
            refine br_t rfl ?_
            unfold wY_again_76
            refine ⟨hin, ?_⟩
            rw [hc, h2]
            exact yb_beg hop (by omega) j3 j4 hn
        · obtain rfl : v = 1 := by omega
          rw [if_pos rfl] at h6b
          refine ⟨k + 1, j, nI (f + 1), -1, 1, upd pL k (nI (m - 1)), upd pI k (nI (f + 1)), upd yfr k (nI (f + 1)), by omega, old _ _ (fun x e => pk_un e) (fun x e => pk_un e) ?_, by omega, Or.inl rfl, Or.inr ⟨rfl, j1⟩, fun post n hn hP => ?_, fun post h => ?_⟩
          · exact ⟨lo, hi', b, f + 1, 1, m - 1, ⟨h1, h1'⟩, ⟨h2, h2'⟩, ⟨h3, h3b, h3x, h3y⟩, ⟨pk_us, by omega, by omega⟩, ⟨pk_us, by omega, by omega⟩, ⟨h6, h6a, by rw [if_pos rfl]; exact pk_us⟩⟩
          · obtain ⟨n, rfl⟩ : ∃ q, n = q + 1 := ⟨n - 1, by omega⟩
            refine b29 post n ?_
            unfold wX_goOn_29
            rw [nI_pred]
            refine nm_e (br_f (nI_pos (by omega)) ⟨hin, ?_⟩)
            rw [hc, h1, h4, em, h6b, nI_1]
            refine br_t rfl ⟨hin, hin, nm_e (br_f mm ⟨hin, br_f (nI_nle (by omega) (by omega)) ⟨hin, hin, nm_e (nm_e ?_)⟩⟩)⟩
            unfold wX_goOn_111 wpX_pFirst
            refine ⟨hin, ?_⟩
            rw [hc, h3, hcb, h3x, hcl, j2]
            exact ⟨hinb, hinl, hP⟩
          · obtain ⟨n, hn⟩ := h
            refine ⟨n + 1, yr_97 hN (by omega) hop hi h1 h1' c e4 ?_⟩
            unfold wpY_again
            refine nm_r (nI_pred k) ⟨hin, hin, ?_⟩
            rw [hc, h4, em]
            refine nm_e ⟨hin, ?_⟩
            rw [pk_us]
            refine br_f mm0 ⟨hin, hin, ?_⟩
            rw [h5, nI_1]
            refine nm_e ⟨hin, ?_⟩
            rw [h6]
            refine br_f (by decide) ⟨hin, ?_⟩
            rw [pk_us]
            refine nm_e ?_
            unfold wY_again_76
            refine ⟨hin, ?_⟩
            rw [hc, h2]
            exact yb_beg hop (by omega) j3 j4 hn
    · obtain ⟨st', a1, a2, a3⟩ := go_end (P := k + 1) (xpa := xpa) (xop := xop) (pl := pl) (ck := ck) (pc := pc) (st := st) (ix := ix) (tl := tl) (ds := ds) (sto := sto) (srt := srt) (bas := bas) (len := len) (dig := dig) (dcm := dcm) (sgn := sgn) (tim := tim) (sig := sig) (op := op) (opX := opX) (opY := opY) (opZ := opZ) (tgt := tgt) (sta := sta) (ins := ins) (opn := opn) (pE := pE) (pL := pL) (pI := pI) (pB := pB) (out := out) (pw := pw) (wk := wk) hN (by omega) hop hi hp hs (fun z => Or.inr ⟨hi', h1, by omega, fun y => ends ⟨z, y⟩⟩) hp48
      refine ⟨k + 1, i, ix, st', 0, pL, pI, yfr, by omega, fun x hx => fk_m (hs x hx) (by omega), hi, a2, a1, fun post n hn hP => ?_, fun post h => h⟩
      obtain ⟨n, rfl⟩ : ∃ q, n = q + 1 := ⟨n - 1, by omega⟩
      exact a3 post n hP
end
end
section
/-- all items are as said -/
def q_Its (srt bas len dig dcm sgn tim sig yle ysg : Nat → Int32) : Prop := ∀ i, i < 12 → srt i = nI 0 ∨ ∃ k b w d e g t l h : Nat, q_It srt bas len dig dcm sgn tim sig yle ysg i k b w d e g t l h
theorem it_k {srt bas len dig dcm sgn tim sig yle ysg : Nat → Int32} {i k b w d e g t l h : Nat} (H : q_It srt bas len dig dcm sgn tim sig yle ysg i k b w d e g t l h) : 1 ≤ k ∧ k ≤ 3 := by
  rcases H.2.2 with z | z | z <;> omega
theorem it_get {srt bas len dig dcm sgn tim sig yle ysg : Nat → Int32} {x : Int32} (its : q_Its srt bas len dig dcm sgn tim sig yle ysg) (hs : SrtOK srt) (hx : ¬ q_kx srt x = 0) : ∃ i b w d e g t l h : Nat, x = nI i ∧ q_It srt bas len dig dcm sgn tim sig yle ysg i (q_kx srt x) b w d e g t l h := by
  rcases kx_c hs x with ⟨z, -⟩ | ⟨j, j1, e, e2, k3⟩
  · exact absurd z hx
  · rcases its j j1 with z | ⟨k, b, w, d, e', g, t, l, h, H⟩
    · rw [z, nI_eq (by omega) (by omega)] at e2
      omega
    · have hk := H.1.1
      have kb := it_k H
      rw [e2, nI_eq (by omega) (by omega)] at hk
      exact ⟨j, b, w, d, e', g, t, l, h, e, by rw [hk]; exact H⟩
section
variable {cn : Int32} {xpa : Int32} {xop : Int32} {pl : Int32} {ck : Int32} {pf : Int32} {pc : Int32} {st : Int32} {ix : Int32} {xst : Int32} {tl : Int32} {ds : Int32} {sto : Nat → Int32} {srt : Nat → Int32} {bas : Nat → Int32} {len : Nat → Int32} {dig : Nat → Int32} {dcm : Nat → Int32} {sgn : Nat → Int32} {tim : Nat → Int32} {sig : Nat → Int32} {op : Nat → Int32} {opX : Nat → Int32} {opY : Nat → Int32} {opZ : Nat → Int32} {tgt : Nat → Int32} {sta : Nat → Int32} {ins : Nat → Int32} {opn : Nat → Int32} {pE : Nat → Int32} {pL : Nat → Int32} {pI : Nat → Int32} {pB : Nat → Int32} {out : Nat → Int32} {pw : Nat → Int64} {wk : Nat → Int32} {ypf : Int32} {yat : Int32} {yen : Int32} {yju : Int32} {yle : Nat → Int32} {ysg : Nat → Int32} {ych : Nat → Int32} {yot : Nat → Int32} {ylo : Nat → Int32} {yba : Nat → Int32} {yfr : Nat → Int32} {yva : Nat → Int32}
theorem us_sim {x : Int32} (its : q_Its srt bas len dig dcm sgn tim sig yle ysg) (hs : SrtOK srt) (hx : ¬ q_kx srt x = 0) :
    (q_Use srt bas len dig dcm sgn tim sig yle ysg ix x (fun k => k = q_kx srt x) ∧ (∀ post : Int32 → Prop, post 1 → wpX_usable post (cn, xpa, xop, pl, ck, pf, pc, st, ix, xst, tl, ds, sto, srt, bas, len, dig, dcm, sgn, tim, sig, op, opX, opY, opZ, tgt, sta, ins, opn, pE, pL, pI, pB, out, pw, wk) x) ∧ (∀ post : Int32 → Prop, post 0 → wpY_outside post (cn, pl, ck, ypf, yat, st, ix, ds, yen, tl, yju, sto, srt, bas, yle, dcm, tim, sig, ysg, op, opX, opY, opZ, out, ych, yot, ylo, pE, pL, yba, yfr, yva) x)) ∨ ((∀ post : Int32 → Prop, post 0 → wpX_usable post (cn, xpa, xop, pl, ck, pf, pc, st, ix, xst, tl, ds, sto, srt, bas, len, dig, dcm, sgn, tim, sig, op, opX, opY, opZ, tgt, sta, ins, opn, pE, pL, pI, pB, out, pw, wk) x) ∧ (∀ post : Int32 → Prop, post 1 → wpY_outside post (cn, pl, ck, ypf, yat, st, ix, ds, yen, tl, yju, sto, srt, bas, yle, dcm, tim, sig, ysg, op, opX, opY, opZ, out, ych, yot, ylo, pE, pL, yba, yfr, yva) x)) := by
  obtain ⟨i, b, w, d, e, g, t, l, h, ex, H⟩ := it_get its hs hx
  generalize q_kx srt x = k at H ⊢
  subst ex
  have hi : i < 12 := H.2.1.1
  have ht := H.1.2.2.2.2.2.2.1
  have t9 : 1 ≤ t ∧ t ≤ 9 := by have := H.2.1; omega
  have hin : vp_in (nI i) 12 := vp_in_nI hi (by omega)
  have hc : (nI i).toNatClampNeg = i := nI_clamp (by omega)
  by_cases t1 : t = 1
  · left
    refine ⟨⟨i, k, b, w, d, e, g, t, l, h, 1, b, rfl, H, ⟨by omega, by omega, by simp, Or.inl t1⟩, rfl⟩, fun post hP => ?_, fun post hP => ?_⟩
    · unfold wpX_usable
      refine br_f (us_16 hi) ⟨hin, ?_⟩
      rw [hc, ht, t1]
      exact br_t rfl hP
    · unfold wpY_outside
      refine br_f (us_16 hi) ⟨hin, ?_⟩
      rw [hc, ht, t1]
      exact br_t (by decide) hP
  · have XU : ∀ post : Int32 → Prop, ((ix < 1 → post 0) ∧ (¬ ix < 1 → ((nI t < ix → post 0) ∧ (¬ nI t < ix → post 1)))) → wpX_usable post (cn, xpa, xop, pl, ck, pf, pc, st, ix, xst, tl, ds, sto, srt, bas, len, dig, dcm, sgn, tim, sig, op, opX, opY, opZ, tgt, sta, ins, opn, pE, pL, pI, pB, out, pw, wk) (nI i) := by
      intro post K
      unfold wpX_usable
      refine br_f (us_16 hi) ⟨hin, ?_⟩
      rw [hc, ht]
      refine br_f (nn_e (b := 1) t1 (by omega) (by omega)) (br_c K.1 (fun z => ⟨hin, K.2 z⟩))
    have YU : ∀ post : Int32 → Prop, ((ix < 1 → post 1) ∧ (¬ ix < 1 → ((nI t < ix → post 1) ∧ (¬ nI t < ix → post 0)))) → wpY_outside post (cn, pl, ck, ypf, yat, st, ix, ds, yen, tl, yju, sto, srt, bas, yle, dcm, tim, sig, ysg, op, opX, opY, opZ, out, ych, yot, ylo, pE, pL, yba, yfr, yva) (nI i) := by
      intro post K
      unfold wpY_outside
      refine br_f (us_16 hi) ⟨hin, ?_⟩
      rw [hc, ht]
      refine br_f (nI_ge (a := 1) (by omega) (by omega)) ⟨hin, ?_⟩
      unfold wpY_in
      exact br_c (fun z => br_t rfl (K.1 z)) (fun z => br_c (fun y => br_t rfl ((K.2 z).1 y)) (fun y => br_f (by decide) ((K.2 z).2 y)))
    by_cases c1 : ix < 1
    · right
      exact ⟨fun post hP => XU post (br_t c1 hP), fun post hP => YU post (br_t c1 hP)⟩
    · by_cases c2 : nI t < ix
      · right
        exact ⟨fun post hP => XU post (br_f c1 (br_t c2 hP)), fun post hP => YU post (br_f c1 (br_t c2 hP))⟩
      · left
        have c0 : ¬ ix < 0 := by
          intro z
          apply c1
          rw [Int32.lt_iff_toInt_lt] at z ⊢
          rw [show (0 : Int32).toInt = 0 from by decide] at z
          rw [show (1 : Int32).toInt = 1 from by decide]
          omega
        obtain ⟨el, hel, eel⟩ := nI_of c0
        rw [eel, show (1 : Int32) = nI 1 from rfl, nI_ltI (by omega) (by omega)] at c1
        rw [eel, nI_ltI (by omega) (by omega)] at c2
        refine ⟨⟨i, k, b, w, d, e, g, t, l, h, el, b + (el - 1) * w, rfl, H, ⟨by omega, by omega, rfl, Or.inr eel⟩, rfl⟩, fun post hP => XU post ?_, fun post hP => YU post ?_⟩
        · rw [eel]
          exact br_f (fun z => c1 ((nI_ltI (b := 1) (by omega) (by omega)).mp z)) (br_f (fun z => c2 ((nI_ltI (by omega) (by omega)).mp z)) hP)
        · rw [eel]
          exact br_f (fun z => c1 ((nI_ltI (b := 1) (by omega) (by omega)).mp z)) (br_f (fun z => c2 ((nI_ltI (by omega) (by omega)).mp z)) hP)
theorem us_s16 : (∀ post : Int32 → Prop, post 1 → wpX_usable post (cn, xpa, xop, pl, ck, pf, pc, st, ix, xst, tl, ds, sto, srt, bas, len, dig, dcm, sgn, tim, sig, op, opX, opY, opZ, tgt, sta, ins, opn, pE, pL, pI, pB, out, pw, wk) 16) ∧ (∀ post : Int32 → Prop, post 0 → wpY_outside post (cn, pl, ck, ypf, yat, st, ix, ds, yen, tl, yju, sto, srt, bas, yle, dcm, tim, sig, ysg, op, opX, opY, opZ, out, ych, yot, ylo, pE, pL, yba, yfr, yva) 16) := by
  refine ⟨fun post hP => ?_, fun post hP => ?_⟩
  · unfold wpX_usable
    exact br_t rfl hP
  · unfold wpY_outside
    exact br_t rfl hP
/-! the heads of both steps -/
theorem xp_h {post : SX → Prop} {p o fx fy : Nat} (hp : p < 48) (ho : op p = nI o) (ho22 : o ≤ 22) (hfx : fx = if (1 ≤ o ∧ o ≤ 10) ∨ o = 12 ∨ o = 19 ∨ o = 20 ∨ o = 22 then 1 else 0) (hfy : fy = if (1 ≤ o ∧ o ≤ 10) ∨ o = 22 then 1 else 0) (K : wX_step_92 post (nI o) (opX p) (opY p) (nI fx) (nI fy) cn xpa xop pl ck pf (nI p) st ix xst tl ds sto srt bas len dig dcm sgn tim sig op opX opY opZ tgt sta ins opn pE pL pI pB out pw wk) : wpX_step post (cn, xpa, xop, pl, ck, pf, nI p, st, ix, xst, tl, ds, sto, srt, bas, len, dig, dcm, sgn, tim, sig, op, opX, opY, opZ, tgt, sta, ins, opn, pE, pL, pI, pB, out, pw, wk) := by
  have hin : vp_in (nI p) 48 := vp_in_nI hp (by omega)
  have hc : (nI p).toNatClampNeg = p := nI_clamp (by omega)
  unfold wpX_step
  refine ⟨hin, ?_⟩
  rw [hc, ho]
  refine nm_e ⟨hin, nm_e ⟨hin, nm_e ?_⟩⟩
  rcases (by omega : (1 ≤ o ∧ o ≤ 10) ∨ o = 0 ∨ o = 11 ∨ o = 12 ∨ o = 13 ∨ o = 14 ∨ o = 15 ∨ o = 16 ∨ o = 17 ∨ o = 18 ∨ o = 19 ∨ o = 20 ∨ o = 21 ∨ o = 22) with c | rfl | rfl | rfl | rfl | rfl | rfl | rfl | rfl | rfl | rfl | rfl | rfl | rfl
  · rw [if_pos (Or.inl c)] at hfx hfy
    subst hfx hfy
    have a1 : ¬ nI o ≤ 0 := nI_nle (by omega) (by omega)
    have a2 : nI o < 11 := nI_lt (b := 11) (by omega) (by omega)
    refine br_f a1 (br_t a2 ?_)
    unfold wX_step_64 wX_step_69
    refine br_f a1 (br_t a2 ?_)
    unfold wX_step_87
    exact K
  all_goals
    subst hfx hfy
    repeat (first | exact K | refine br_t (by decide) ?_ | refine br_f (by decide) ?_ | unfold wX_step_40 | unfold wX_step_64 | unfold wX_step_69 | unfold wX_step_81 | unfold wX_step_87)
theorem yp_h {post : SY → Prop} {p o fx fy : Nat} (hp : p < 48) (ho : op p = nI o) (ho22 : o ≤ 22) (hfx : fx = if (1 ≤ o ∧ o ≤ 10) ∨ o = 12 ∨ o = 19 ∨ o = 20 ∨ o = 22 then 1 else 0) (hfy : fy = if (1 ≤ o ∧ o ≤ 10) ∨ o = 22 then 1 else 0) (K : wY_step_103 post (nI o) (opX p) (opY p) (opZ p) (nI fx) (nI fy) cn pl ck ypf (nI p) st ix ds yen tl yju sto srt bas yle dcm tim sig ysg op opX opY opZ out ych yot ylo pE pL yba yfr yva) : wpY_step post (cn, pl, ck, ypf, nI p, st, ix, ds, yen, tl, yju, sto, srt, bas, yle, dcm, tim, sig, ysg, op, opX, opY, opZ, out, ych, yot, ylo, pE, pL, yba, yfr, yva) := by
  have hin : vp_in (nI p) 48 := vp_in_nI hp (by omega)
  have hc : (nI p).toNatClampNeg = p := nI_clamp (by omega)
  unfold wpY_step
  refine ⟨hin, ?_⟩
  rw [hc, ho]
  refine nm_e ⟨hin, nm_e ⟨hin, nm_e ⟨hin, nm_e ?_⟩⟩⟩
  rcases (by omega : (1 ≤ o ∧ o ≤ 10) ∨ o = 0 ∨ o = 11 ∨ o = 12 ∨ o = 13 ∨ o = 14 ∨ o = 15 ∨ o = 16 ∨ o = 17 ∨ o = 18 ∨ o = 19 ∨ o = 20 ∨ o = 21 ∨ o = 22) with c | rfl | rfl | rfl | rfl | rfl | rfl | rfl | rfl | rfl | rfl | rfl | rfl | rfl
  · rw [if_pos (Or.inl c)] at hfx hfy
    subst hfx hfy
    refine yi_t (lo := 1) (hi := 10) c.1 c.2 (by omega) (br_f (by decide) ?_)
    unfold wY_step_75 wY_step_80
    refine yi_t (lo := 1) (hi := 10) c.1 c.2 (by omega) (br_f (by decide) ?_)
    unfold wY_step_98
    exact K
  all_goals
    subst hfx hfy
    repeat (first | exact K | refine br_t (by decide) ?_ | refine br_f (by decide) ?_ | unfold wY_step_75 | unfold wY_step_80 | unfold wY_step_98 | unfold wpY_in)
/-- whether the operands are in range: both stop, or both go on -/
theorem pr_sim {p N : Nat} (hp : p < 48) (its : q_Its srt bas len dig dcm sgn tim sig yle ysg) (hs : SrtOK srt) (hop : OpOK op) (g : q_gd (cd op p) (q_kx srt (opX p)) (q_kx srt (opY p)) (q_pc op N) (opX p) (opY p) (opZ p)) :
    ((∀ post : SX → Prop, post (cn, xpa, xop, pl, ck, pf, nI p, st, ix, 2, tl, ds, sto, srt, bas, len, dig, dcm, sgn, tim, sig, op, opX, opY, opZ, tgt, sta, ins, opn, pE, pL, pI, pB, out, pw, wk) → wpX_step post (cn, xpa, xop, pl, ck, pf, nI p, st, ix, xst, tl, ds, sto, srt, bas, len, dig, dcm, sgn, tim, sig, op, opX, opY, opZ, tgt, sta, ins, opn, pE, pL, pI, pB, out, pw, wk)) ∧ (∀ post : SY → Prop, post (cn, pl, ck, ypf, nI p, st, ix, ds, 2, tl, yju, sto, srt, bas, yle, dcm, tim, sig, ysg, op, opX, opY, opZ, out, ych, yot, ylo, pE, pL, yba, yfr, yva) → wpY_step post (cn, pl, ck, ypf, nI p, st, ix, ds, yen, tl, yju, sto, srt, bas, yle, dcm, tim, sig, ysg, op, opX, opY, opZ, out, ych, yot, ylo, pE, pL, yba, yfr, yva))) ∨
    (((1 ≤ cd op p ∧ cd op p ≤ 10) ∨ cd op p = 12 ∨ cd op p = 19 ∨ cd op p = 20 ∨ cd op p = 22 → opX p = 16 ∨ q_Use srt bas len dig dcm sgn tim sig yle ysg ix (opX p) (fun k => k = q_kx srt (opX p))) ∧ ((1 ≤ cd op p ∧ cd op p ≤ 10) ∨ cd op p = 22 → q_Use srt bas len dig dcm sgn tim sig yle ysg ix (opY p) (fun k => k = q_kx srt (opY p))) ∧ (∀ post : SX → Prop, wX_step_126 post (nI (cd op p)) (opX p) (opY p) cn xpa xop pl ck pf (nI p) st ix xst tl ds sto srt bas len dig dcm sgn tim sig op opX opY opZ tgt sta ins opn pE pL pI pB out pw wk → wpX_step post (cn, xpa, xop, pl, ck, pf, nI p, st, ix, xst, tl, ds, sto, srt, bas, len, dig, dcm, sgn, tim, sig, op, opX, opY, opZ, tgt, sta, ins, opn, pE, pL, pI, pB, out, pw, wk)) ∧ (∀ post : SY → Prop, wY_step_137 post (nI (cd op p)) (opX p) (opY p) (opZ p) cn pl ck ypf (nI p) st ix ds yen tl yju sto srt bas yle dcm tim sig ysg op opX opY opZ out ych yot ylo pE pL yba yfr yva → wpY_step post (cn, pl, ck, ypf, nI p, st, ix, ds, yen, tl, yju, sto, srt, bas, yle, dcm, tim, sig, ysg, op, opX, opY, opZ, out, ych, yot, ylo, pE, pL, yba, yfr, yva))) := by
  have ho := oc_e hop p
  have hl := oc_l hop p
  generalize cd op p = o at ho hl g ⊢
  obtain ⟨g1, g2, g10, g12, g15, g17, g19, g20, g22⟩ := g
  clear g15 g17
  have gx : ((1 ≤ o ∧ o ≤ 10) ∨ o = 12 ∨ o = 19 ∨ o = 20 ∨ o = 22) → opX p = 16 ∨ ¬ q_kx srt (opX p) = 0 := by
    intro c
    rcases (by clear g1 g2 g10 g12 g19 g20 g22; omega : o = 1 ∨ (2 ≤ o ∧ o ≤ 9) ∨ o = 10 ∨ o = 12 ∨ o = 19 ∨ o = 20 ∨ o = 22) with c | c | c | c | c | c | c
    · exact (g1 c).2
    · rcases (g2 c).2 with q | q
      · exact Or.inl q
      · exact Or.inr (by omega)
    · have := (g10 c).1
      exact Or.inr (by clear g10; omega)
    · have := g12 c
      exact Or.inr (by clear g10; omega)
    · exact g19 c
    · rcases g20 c with q | q
      · exact Or.inl q
      · exact Or.inr (by clear g10; omega)
    · exact Or.inr (g22 c).1
  have gy : ((1 ≤ o ∧ o ≤ 10) ∨ o = 22) → ¬ q_kx srt (opY p) = 0 := by
    intro c
    rcases (by clear g1 g2 g10 g12 g19 g20 g22; omega : o = 1 ∨ (2 ≤ o ∧ o ≤ 9) ∨ o = 10 ∨ o = 22) with c | c | c | c
    · exact (g1 c).1
    · have := (g2 c).1
      clear g10
      omega
    · have := (g10 c).2.1
      clear g10
      omega
    · have := (g22 c).2
      clear g10
      omega
  clear g1 g2 g10 g12 g19 g20 g22
  have X92 : ∀ (post : SX → Prop) (fx fy : Nat), fx = (if (1 ≤ o ∧ o ≤ 10) ∨ o = 12 ∨ o = 19 ∨ o = 20 ∨ o = 22 then 1 else 0) → fy = (if (1 ≤ o ∧ o ≤ 10) ∨ o = 22 then 1 else 0) → wX_step_92 post (nI o) (opX p) (opY p) (nI fx) (nI fy) cn xpa xop pl ck pf (nI p) st ix xst tl ds sto srt bas len dig dcm sgn tim sig op opX opY opZ tgt sta ins opn pE pL pI pB out pw wk → wpX_step post (cn, xpa, xop, pl, ck, pf, nI p, st, ix, xst, tl, ds, sto, srt, bas, len, dig, dcm, sgn, tim, sig, op, opX, opY, opZ, tgt, sta, ins, opn, pE, pL, pI, pB, out, pw, wk) := fun post fx fy h1 h2 K => xp_h hp ho hl h1 h2 K
  have Y103 : ∀ (post : SY → Prop) (fx fy : Nat), fx = (if (1 ≤ o ∧ o ≤ 10) ∨ o = 12 ∨ o = 19 ∨ o = 20 ∨ o = 22 then 1 else 0) → fy = (if (1 ≤ o ∧ o ≤ 10) ∨ o = 22 then 1 else 0) → wY_step_103 post (nI o) (opX p) (opY p) (opZ p) (nI fx) (nI fy) cn pl ck ypf (nI p) st ix ds yen tl yju sto srt bas yle dcm tim sig ysg op opX opY opZ out ych yot ylo pE pL yba yfr yva → wpY_step post (cn, pl, ck, ypf, nI p, st, ix, ds, yen, tl, yju, sto, srt, bas, yle, dcm, tim, sig, ysg, op, opX, opY, opZ, out, ych, yot, ylo, pE, pL, yba, yfr, yva) := fun post fx fy h1 h2 K => yp_h hp ho hl h1 h2 K
  -- the second operand
  have Q : ((∀ post : SX → Prop, post (cn, xpa, xop, pl, ck, pf, nI p, st, ix, 2, tl, ds, sto, srt, bas, len, dig, dcm, sgn, tim, sig, op, opX, opY, opZ, tgt, sta, ins, opn, pE, pL, pI, pB, out, pw, wk) → wX_step_107 post (nI o) (opX p) (opY p) (nI (if (1 ≤ o ∧ o ≤ 10) ∨ o = 22 then 1 else 0)) cn xpa xop pl ck pf (nI p) st ix xst tl ds sto srt bas len dig dcm sgn tim sig op opX opY opZ tgt sta ins opn pE pL pI pB out pw wk) ∧ (∀ post : SY → Prop, post (cn, pl, ck, ypf, nI p, st, ix, ds, 2, tl, yju, sto, srt, bas, yle, dcm, tim, sig, ysg, op, opX, opY, opZ, out, ych, yot, ylo, pE, pL, yba, yfr, yva) → wY_step_118 post (nI o) (opX p) (opY p) (opZ p) (nI (if (1 ≤ o ∧ o ≤ 10) ∨ o = 22 then 1 else 0)) cn pl ck ypf (nI p) st ix ds yen tl yju sto srt bas yle dcm tim sig ysg op opX opY opZ out ych yot ylo pE pL yba yfr yva)) ∨ (((1 ≤ o ∧ o ≤ 10) ∨ o = 22 → q_Use srt bas len dig dcm sgn tim sig yle ysg ix (opY p) (fun k => k = q_kx srt (opY p))) ∧ (∀ post : SX → Prop, wX_step_126 post (nI o) (opX p) (opY p) cn xpa xop pl ck pf (nI p) st ix xst tl ds sto srt bas len dig dcm sgn tim sig op opX opY opZ tgt sta ins opn pE pL pI pB out pw wk → wX_step_107 post (nI o) (opX p) (opY p) (nI (if (1 ≤ o ∧ o ≤ 10) ∨ o = 22 then 1 else 0)) cn xpa xop pl ck pf (nI p) st ix xst tl ds sto srt bas len dig dcm sgn tim sig op opX opY opZ tgt sta ins opn pE pL pI pB out pw wk) ∧ (∀ post : SY → Prop, wY_step_137 post (nI o) (opX p) (opY p) (opZ p) cn pl ck ypf (nI p) st ix ds yen tl yju sto srt bas yle dcm tim sig ysg op opX opY opZ out ych yot ylo pE pL yba yfr yva → wY_step_118 post (nI o) (opX p) (opY p) (opZ p) (nI (if (1 ≤ o ∧ o ≤ 10) ∨ o = 22 then 1 else 0)) cn pl ck ypf (nI p) st ix ds yen tl yju sto srt bas yle dcm tim sig ysg op opX opY opZ out ych yot ylo pE pL yba yfr yva)) := by
    by_cases c : (1 ≤ o ∧ o ≤ 10) ∨ o = 22
    · rw [if_pos c]
      rcases us_sim (cn := cn) (xpa := xpa) (xop := xop) (pl := pl) (ck := ck) (pf := pf) (pc := nI p) (st := st) (xst := xst) (tl := tl) (ds := ds) (sto := sto) (srt := srt) (bas := bas) (len := len) (dig := dig) (dcm := dcm) (sgn := sgn) (tim := tim) (sig := sig) (op := op) (opX := opX) (opY := opY) (opZ := opZ) (tgt := tgt) (sta := sta) (ins := ins) (opn := opn) (pE := pE) (pL := pL) (pI := pI) (pB := pB) (out := out) (pw := pw) (wk := wk) (ypf := ypf) (yat := nI p) (yen := yen) (yju := yju) (yle := yle) (ysg := ysg) (ych := ych) (yot := yot) (ylo := ylo) (yba := yba) (yfr := yfr) (yva := yva) its hs (gy c) with ⟨u1, uX, uY⟩ | ⟨uX, uY⟩
      · right
        refine ⟨fun _ => u1, fun post K => ?_, fun post K => ?_⟩
        · unfold wX_step_107
          exact br_f (by decide) (uX _ (br_f (by decide) K))
        · unfold wY_step_118
          exact br_f (by decide) (uY _ (br_t rfl K))
      · left
        refine ⟨fun post hP => ?_, fun post hP => ?_⟩
        · unfold wX_step_107
          exact br_f (by decide) (uX _ (br_t rfl hP))
        · unfold wY_step_118
          exact br_f (by decide) (uY _ (br_f (by decide) hP))
    · rw [if_neg c]
      right
      refine ⟨fun z => absurd z c, fun post K => ?_, fun post K => ?_⟩
      · unfold wX_step_107
        exact br_t rfl K
      · unfold wY_step_118
        exact br_t rfl K
  by_cases c : (1 ≤ o ∧ o ≤ 10) ∨ o = 12 ∨ o = 19 ∨ o = 20 ∨ o = 22
  · have hx : (opX p = 16 ∨ q_Use srt bas len dig dcm sgn tim sig yle ysg ix (opX p) (fun k => k = q_kx srt (opX p))) ∧ (∀ post : Int32 → Prop, post 1 → wpX_usable post (cn, xpa, xop, pl, ck, pf, nI p, st, ix, xst, tl, ds, sto, srt, bas, len, dig, dcm, sgn, tim, sig, op, opX, opY, opZ, tgt, sta, ins, opn, pE, pL, pI, pB, out, pw, wk) (opX p)) ∧ (∀ post : Int32 → Prop, post 0 → wpY_outside post (cn, pl, ck, ypf, nI p, st, ix, ds, yen, tl, yju, sto, srt, bas, yle, dcm, tim, sig, ysg, op, opX, opY, opZ, out, ych, yot, ylo, pE, pL, yba, yfr, yva) (opX p)) ∨ ((∀ post : Int32 → Prop, post 0 → wpX_usable post (cn, xpa, xop, pl, ck, pf, nI p, st, ix, xst, tl, ds, sto, srt, bas, len, dig, dcm, sgn, tim, sig, op, opX, opY, opZ, tgt, sta, ins, opn, pE, pL, pI, pB, out, pw, wk) (opX p)) ∧ (∀ post : Int32 → Prop, post 1 → wpY_outside post (cn, pl, ck, ypf, nI p, st, ix, ds, yen, tl, yju, sto, srt, bas, yle, dcm, tim, sig, ysg, op, opX, opY, opZ, out, ych, yot, ylo, pE, pL, yba, yfr, yva) (opX p))) := by
      rcases gx c with q | q
      · rw [q]
        exact Or.inl ⟨Or.inl rfl, us_s16⟩
      · rcases us_sim (cn := cn) (xpa := xpa) (xop := xop) (pl := pl) (ck := ck) (pf := pf) (pc := nI p) (st := st) (xst := xst) (tl := tl) (ds := ds) (sto := sto) (srt := srt) (bas := bas) (len := len) (dig := dig) (dcm := dcm) (sgn := sgn) (tim := tim) (sig := sig) (op := op) (opX := opX) (opY := opY) (opZ := opZ) (tgt := tgt) (sta := sta) (ins := ins) (opn := opn) (pE := pE) (pL := pL) (pI := pI) (pB := pB) (out := out) (pw := pw) (wk := wk) (ypf := ypf) (yat := nI p) (yen := yen) (yju := yju) (yle := yle) (ysg := ysg) (ych := ych) (yot := yot) (ylo := ylo) (yba := yba) (yfr := yfr) (yva := yva) its hs q with ⟨u1, u2⟩ | u
        · exact Or.inl ⟨Or.inr u1, u2⟩
        · exact Or.inr u
    rcases hx with ⟨u1, uX, uY⟩ | ⟨uX, uY⟩
    · rcases Q with ⟨qX, qY⟩ | ⟨q1, qX, qY⟩
      · left
        refine ⟨fun post hP => X92 post 1 _ (by rw [if_pos c]) rfl ?_, fun post hP => Y103 post 1 _ (by rw [if_pos c]) rfl ?_⟩
        · unfold wX_step_92
          exact br_f (by decide) (uX _ (br_f (by decide) (qX post hP)))
        · unfold wY_step_103
          exact br_f (by decide) (uY _ (br_t rfl (qY post hP)))
      · right
        refine ⟨fun _ => u1, q1, fun post K => X92 post 1 _ (by rw [if_pos c]) rfl ?_, fun post K => Y103 post 1 _ (by rw [if_pos c]) rfl ?_⟩
        · unfold wX_step_92
          exact br_f (by decide) (uX _ (br_f (by decide) (qX post K)))
        · unfold wY_step_103
          exact br_f (by decide) (uY _ (br_t rfl (qY post K)))
    · left
      refine ⟨fun post hP => X92 post 1 _ (by rw [if_pos c]) rfl ?_, fun post hP => Y103 post 1 _ (by rw [if_pos c]) rfl ?_⟩
      · unfold wX_step_92
        exact br_f (by decide) (uX _ (br_t rfl hP))
      · unfold wY_step_103
        exact br_f (by decide) (uY _ (br_f (by decide) hP))
  · rcases Q with ⟨qX, qY⟩ | ⟨q1, qX, qY⟩
    · left
      refine ⟨fun post hP => X92 post 0 _ (by rw [if_neg c]) rfl ?_, fun post hP => Y103 post 0 _ (by rw [if_neg c]) rfl ?_⟩
      · unfold wX_step_92
        exact br_t rfl (qX post hP)
      · unfold wY_step_103
        exact br_t rfl (qY post hP)
    · right
      refine ⟨fun z => absurd z c, q1, fun post K => X92 post 0 _ (by rw [if_neg c]) rfl ?_, fun post K => Y103 post 0 _ (by rw [if_neg c]) rfl ?_⟩
      · unfold wX_step_92
        exact br_t rfl (qX post K)
      · unfold wY_step_103
        exact br_t rfl (qY post K)
end
end
section
theorem us_w {srt bas len dig dcm sgn tim sig yle ysg : Nat → Int32} {ix x : Int32} {K K' : Nat → Prop} (h : q_Use srt bas len dig dcm sgn tim sig yle ysg ix x K) (hk : ∀ k, K k → K' k) : q_Use srt bas len dig dcm sgn tim sig yle ysg ix x K' := by
  obtain ⟨i, k, b, w, d, e, g, t, l, h, el, p, e1, H, A, c⟩ := h
  exact ⟨i, k, b, w, d, e, g, t, l, h, el, p, e1, H, A, hk k c⟩
theorem sc_0 (v : Int) (e : Nat) : q_sc v e 0 = v.tdiv (pTen e : Nat) := by
  unfold q_sc
  by_cases h : 0 < e
  · rw [if_pos h, Nat.sub_zero]
  · obtain rfl : e = 0 := by omega
    rw [if_neg h, Nat.sub_self, pt_0]
    show v * 1 = v.tdiv 1
    rw [Int.mul_one, Int.tdiv_one]
section
variable {cn : Int32} {xpa : Int32} {xop : Int32} {pl : Int32} {ck : Int32} {pf : Int32} {pc : Int32} {st : Int32} {ix : Int32} {xst : Int32} {tl : Int32} {ds : Int32} {sto : Nat → Int32} {srt : Nat → Int32} {bas : Nat → Int32} {len : Nat → Int32} {dig : Nat → Int32} {dcm : Nat → Int32} {sgn : Nat → Int32} {tim : Nat → Int32} {sig : Nat → Int32} {op : Nat → Int32} {opX : Nat → Int32} {opY : Nat → Int32} {opZ : Nat → Int32} {tgt : Nat → Int32} {sta : Nat → Int32} {ins : Nat → Int32} {opn : Nat → Int32} {pE : Nat → Int32} {pL : Nat → Int32} {pI : Nat → Int32} {pB : Nat → Int32} {out : Nat → Int32} {pw : Nat → Int64} {wk : Nat → Int32} {ypf : Int32} {yat : Int32} {yen : Int32} {yju : Int32} {yle : Nat → Int32} {ysg : Nat → Int32} {ych : Nat → Int32} {yot : Nat → Int32} {ylo : Nat → Int32} {yba : Nat → Int32} {yfr : Nat → Int32} {yva : Nat → Int32} {o p D f : Nat} {x y z : Int32}
theorem pl_014 (ho : o = 0 ∨ o = 14) (sok : StOK sto) (f1 : f ≤ 1) : ∃ (ix' : Int32) (f' D' : Nat) (sto' out' wk' ych' yot' : Nat → Int32), StOK sto' ∧ f' ≤ 1 ∧ D' ≤ D + 12 ∧ (∀ post : SX → Prop, post (cn, xpa, xop, pl, ck, pf, pc, st, ix', xst, nI f', nI D', sto', srt, bas, len, dig, dcm, sgn, tim, sig, op, opX, opY, opZ, tgt, sta, ins, opn, pE, pL, pI, pB, out', pw, wk') → wpX_plainStep post (cn, xpa, xop, pl, ck, pf, pc, st, ix, xst, nI f, nI D, sto, srt, bas, len, dig, dcm, sgn, tim, sig, op, opX, opY, opZ, tgt, sta, ins, opn, pE, pL, pI, pB, out, pw, wk) (nI o) x y z) ∧ (∀ post : SY → Prop, post (cn, pl, ck, ypf, nI (p + 1), st, ix', nI D', yen, nI f', yju, sto', srt, bas, yle, dcm, tim, sig, ysg, op, opX, opY, opZ, out', ych', yot', ylo, pE, pL, yba, yfr, yva) → wY_step_137 post (nI o) x y z cn pl ck ypf (nI p) st ix (nI D) yen (nI f) yju sto srt bas yle dcm tim sig ysg op opX opY opZ out ych yot ylo pE pL yba yfr yva) := by
  refine ⟨ix, f, D, sto, out, wk, ych, yot, sok, f1, by omega, fun post hP => ?_, fun post hP => ?_⟩
  · rcases ho with rfl | rfl
    all_goals
      unfold wpX_plainStep
      repeat (first | refine br_t (by decide) ?_ | refine br_f (by decide) ?_)
      exact hP
  · rcases ho with rfl | rfl
    all_goals
      unfold wY_step_137
      repeat (first | refine br_t (by decide) ?_ | refine br_f (by decide) ?_)
      exact nm_r (nI_1 _) hP
theorem pl_1 (ho : o = 1) (sok : StOK sto) (hw : PwOK pw) (f1 : f ≤ 1) (hx : x = 16 ∨ q_Use srt bas len dig dcm sgn tim sig yle ysg ix x (fun _ => True)) (hy : q_Use srt bas len dig dcm sgn tim sig yle ysg ix y (fun _ => True)) : ∃ (ix' : Int32) (f' D' : Nat) (sto' out' wk' ych' yot' : Nat → Int32), StOK sto' ∧ f' ≤ 1 ∧ D' ≤ D + 12 ∧ (∀ post : SX → Prop, post (cn, xpa, xop, pl, ck, pf, pc, st, ix', xst, nI f', nI D', sto', srt, bas, len, dig, dcm, sgn, tim, sig, op, opX, opY, opZ, tgt, sta, ins, opn, pE, pL, pI, pB, out', pw, wk') → wpX_plainStep post (cn, xpa, xop, pl, ck, pf, pc, st, ix, xst, nI f, nI D, sto, srt, bas, len, dig, dcm, sgn, tim, sig, op, opX, opY, opZ, tgt, sta, ins, opn, pE, pL, pI, pB, out, pw, wk) (nI o) x y z) ∧ (∀ post : SY → Prop, post (cn, pl, ck, ypf, nI (p + 1), st, ix', nI D', yen, nI f', yju, sto', srt, bas, yle, dcm, tim, sig, ysg, op, opX, opY, opZ, out', ych', yot', ylo, pE, pL, yba, yfr, yva) → wY_step_137 post (nI o) x y z cn pl ck ypf (nI p) st ix (nI D) yen (nI f) yju sto srt bas yle dcm tim sig ysg op opX opY opZ out ych yot ylo pE pL yba yfr yva) := by
  subst ho
  obtain ⟨s', wk', ych', yot', a1, a2, a3⟩ := mv_sim (z := z) (cn := cn) (xpa := xpa) (xop := xop) (pl := pl) (ck := ck) (pf := pf) (pc := pc) (st := st) (ix := ix) (xst := xst) (tl := nI f) (ds := nI D) (sto := sto) (srt := srt) (bas := bas) (len := len) (dig := dig) (dcm := dcm) (sgn := sgn) (tim := tim) (sig := sig) (op := op) (opX := opX) (opY := opY) (opZ := opZ) (tgt := tgt) (sta := sta) (ins := ins) (opn := opn) (pE := pE) (pL := pL) (pI := pI) (pB := pB) (out := out) (pw := pw) (wk := wk) (ypf := ypf) (yat := nI p) (yen := yen) (yju := yju) (yle := yle) (ysg := ysg) (ych := ych) (yot := yot) (ylo := ylo) (yba := yba) (yfr := yfr) (yva := yva) hx hy sok hw
  refine ⟨ix, f, D, s', out, wk', ych', yot', a1, f1, by omega, fun post hP => ?_, fun post hP => ?_⟩
  · unfold wpX_plainStep
    repeat (first | refine br_t (by decide) ?_ | refine br_f (by decide) ?_)
    exact a2 _ hP
  · unfold wY_step_137
    repeat (first | refine br_t (by decide) ?_ | refine br_f (by decide) ?_)
    refine a3 _ ?_
    repeat (first | refine br_t (by decide) ?_ | refine br_f (by decide) ?_)
    exact nm_r (nI_1 _) hP
theorem pl_29 (ho : 2 ≤ o) (ho9 : o ≤ 9) (sok : StOK sto) (hw : PwOK pw) (hx : x = 16 ∨ q_Use srt bas len dig dcm sgn tim sig yle ysg ix x (fun k => k = 1)) (hy : q_Use srt bas len dig dcm sgn tim sig yle ysg ix y (fun k => k = 1)) : ∃ (ix' : Int32) (f' D' : Nat) (sto' out' wk' ych' yot' : Nat → Int32), StOK sto' ∧ f' ≤ 1 ∧ D' ≤ D + 12 ∧ (∀ post : SX → Prop, post (cn, xpa, xop, pl, ck, pf, pc, st, ix', xst, nI f', nI D', sto', srt, bas, len, dig, dcm, sgn, tim, sig, op, opX, opY, opZ, tgt, sta, ins, opn, pE, pL, pI, pB, out', pw, wk') → wpX_plainStep post (cn, xpa, xop, pl, ck, pf, pc, st, ix, xst, nI f, nI D, sto, srt, bas, len, dig, dcm, sgn, tim, sig, op, opX, opY, opZ, tgt, sta, ins, opn, pE, pL, pI, pB, out, pw, wk) (nI o) x y z) ∧ (∀ post : SY → Prop, post (cn, pl, ck, ypf, nI (p + 1), st, ix', nI D', yen, nI f', yju, sto', srt, bas, yle, dcm, tim, sig, ysg, op, opX, opY, opZ, out', ych', yot', ylo, pE, pL, yba, yfr, yva) → wY_step_137 post (nI o) x y z cn pl ck ypf (nI p) st ix (nI D) yen (nI f) yju sto srt bas yle dcm tim sig ysg op opX opY opZ out ych yot ylo pE pL yba yfr yva) := by
  obtain ⟨hw', rd, h4, r1, e⟩ : ∃ hw' rd : Nat, hw' < 4 ∧ rd ≤ 1 ∧ o = hw' + 2 + 4 * rd := ⟨(o - 2) % 4, (o - 2) / 4, by omega, by omega, by omega⟩
  obtain ⟨f', s', wk', yot', f1, a1, a2, a3⟩ := ca_sim (z := z) (hw' := hw') (rd := rd) (cn := cn) (xpa := xpa) (xop := xop) (pl := pl) (ck := ck) (pf := pf) (pc := pc) (st := st) (ix := ix) (xst := xst) (tl := nI f) (ds := nI D) (sto := sto) (srt := srt) (bas := bas) (len := len) (dig := dig) (dcm := dcm) (sgn := sgn) (tim := tim) (sig := sig) (op := op) (opX := opX) (opY := opY) (opZ := opZ) (tgt := tgt) (sta := sta) (ins := ins) (opn := opn) (pE := pE) (pL := pL) (pI := pI) (pB := pB) (out := out) (pw := pw) (wk := wk) (ypf := ypf) (yat := nI p) (yen := yen) (yju := yju) (yle := yle) (ysg := ysg) (ych := ych) (yot := yot) (ylo := ylo) (yba := yba) (yfr := yfr) (yva := yva) h4 r1 hx hy sok hw
  rw [← e] at a2
  refine ⟨ix, f', D, s', out, wk', ych, yot', a1, f1, by omega, fun post hP => ?_, fun post hP => ?_⟩
  · have K : wX_plainStep_188 post (nI o) x y z cn xpa xop pl ck pf pc st ix xst (nI f) (nI D) sto srt bas len dig dcm sgn tim sig op opX opY opZ tgt sta ins opn pE pL pI pB out pw wk := by
      unfold wX_plainStep_188
      exact a2 _ hP
    clear e a2 a3
    rcases (by omega : o = 2 ∨ o = 3 ∨ o = 4 ∨ o = 5 ∨ o = 6 ∨ o = 7 ∨ o = 8 ∨ o = 9) with rfl | rfl | rfl | rfl | rfl | rfl | rfl | rfl
    all_goals
      unfold wpX_plainStep
      repeat (first | exact K | refine br_t (by decide) ?_ | refine br_f (by decide) ?_)
  · have K := fun post hP => a3 post hP
    clear a2 a3
    have e4 : hw' = (o - 2) % 4 ∧ rd = (o - 2) / 4 := by omega
    obtain ⟨rfl, rfl⟩ := e4
    clear e
    rcases (by omega : o = 2 ∨ o = 3 ∨ o = 4 ∨ o = 5 ∨ o = 6 ∨ o = 7 ∨ o = 8 ∨ o = 9) with rfl | rfl | rfl | rfl | rfl | rfl | rfl | rfl
    all_goals
      unfold wY_step_137
      refine br_f (by decide) (br_f (by decide) (br_f (by decide) ?_))
      unfold wY_step_182
      refine yi_t (lo := 2) (hi := 9) (by omega) (by omega) (by omega) (br_f (by decide) ⟨by decide, ?_⟩)
      first
      | refine br_t (by decide) ?_
      | refine br_f (by decide) ?_
      unfold wY_step_208
      refine K _ ?_
      repeat (first | refine br_t (by decide) ?_ | refine br_f (by decide) ?_)
      exact nm_r (nI_1 _) hP
theorem pl_19 (ho : o = 19) (sok : StOK sto) (f1 : f ≤ 1) (hD : D < 50000) (hx : x = 16 ∨ q_Use srt bas len dig dcm sgn tim sig yle ysg ix x (fun _ => True)) : ∃ (ix' : Int32) (f' D' : Nat) (sto' out' wk' ych' yot' : Nat → Int32), StOK sto' ∧ f' ≤ 1 ∧ D' ≤ D + 12 ∧ (∀ post : SX → Prop, post (cn, xpa, xop, pl, ck, pf, pc, st, ix', xst, nI f', nI D', sto', srt, bas, len, dig, dcm, sgn, tim, sig, op, opX, opY, opZ, tgt, sta, ins, opn, pE, pL, pI, pB, out', pw, wk') → wpX_plainStep post (cn, xpa, xop, pl, ck, pf, pc, st, ix, xst, nI f, nI D, sto, srt, bas, len, dig, dcm, sgn, tim, sig, op, opX, opY, opZ, tgt, sta, ins, opn, pE, pL, pI, pB, out, pw, wk) (nI o) x y z) ∧ (∀ post : SY → Prop, post (cn, pl, ck, ypf, nI (p + 1), st, ix', nI D', yen, nI f', yju, sto', srt, bas, yle, dcm, tim, sig, ysg, op, opX, opY, opZ, out', ych', yot', ylo, pE, pL, yba, yfr, yva) → wY_step_137 post (nI o) x y z cn pl ck ypf (nI p) st ix (nI D) yen (nI f) yju sto srt bas yle dcm tim sig ysg op opX opY opZ out ych yot ylo pE pL yba yfr yva) := by
  subst ho
  by_cases x16 : x = 16
  · refine ⟨ix, f, D, sto, out, wk, ych, yot, sok, f1, by omega, fun post hP => ?_, fun post hP => ?_⟩
    · unfold wpX_plainStep
      repeat (first | refine br_t (by decide) ?_ | refine br_f (by decide) ?_)
      unfold wpX_display
      exact br_t x16 hP
    · unfold wY_step_137
      repeat (first | refine br_t (by decide) ?_ | refine br_f (by decide) ?_)
      refine br_t x16 ?_
      repeat (first | refine br_t (by decide) ?_ | refine br_f (by decide) ?_)
      exact nm_r (nI_1 _) hP
  · have hx' : q_Use srt bas len dig dcm sgn tim sig yle ysg ix x (fun _ => True) := by
      rcases hx with q | q
      · exact absurd q x16
      · exact q
    obtain ⟨o', D', ych', a1, a2, a3⟩ := dp_sim (cn := cn) (xpa := xpa) (xop := xop) (pl := pl) (ck := ck) (pf := pf) (pc := pc) (st := st) (ix := ix) (xst := xst) (tl := nI f) (sto := sto) (srt := srt) (bas := bas) (len := len) (dig := dig) (dcm := dcm) (sgn := sgn) (tim := tim) (sig := sig) (op := op) (opX := opX) (opY := opY) (opZ := opZ) (tgt := tgt) (sta := sta) (ins := ins) (opn := opn) (pE := pE) (pL := pL) (pI := pI) (pB := pB) (out := out) (pw := pw) (wk := wk) (ypf := ypf) (yat := nI p) (yen := yen) (yju := yju) (yle := yle) (ysg := ysg) (ych := ych) (yot := yot) (ylo := ylo) (yba := yba) (yfr := yfr) (yva := yva) (ds := nI D) hx' sok rfl hD
    refine ⟨ix, f, D', sto, o', wk, ych', yot, sok, f1, a1, fun post hP => ?_, fun post hP => ?_⟩
    · unfold wpX_plainStep
      repeat (first | refine br_t (by decide) ?_ | refine br_f (by decide) ?_)
      exact a2 _ hP
    · unfold wY_step_137
      repeat (first | refine br_t (by decide) ?_ | refine br_f (by decide) ?_)
      refine br_f x16 (a3 _ ?_)
      repeat (first | refine br_t (by decide) ?_ | refine br_f (by decide) ?_)
      exact nm_r (nI_1 _) hP
theorem pl_20 (ho : o = 20) (sok : StOK sto) (hw : PwOK pw) (f1 : f ≤ 1) (hx : x = 16 ∨ q_Use srt bas len dig dcm sgn tim sig yle ysg ix x (fun k => k = 1)) : ∃ (ix' : Int32) (f' D' : Nat) (sto' out' wk' ych' yot' : Nat → Int32), StOK sto' ∧ f' ≤ 1 ∧ D' ≤ D + 12 ∧ (∀ post : SX → Prop, post (cn, xpa, xop, pl, ck, pf, pc, st, ix', xst, nI f', nI D', sto', srt, bas, len, dig, dcm, sgn, tim, sig, op, opX, opY, opZ, tgt, sta, ins, opn, pE, pL, pI, pB, out', pw, wk') → wpX_plainStep post (cn, xpa, xop, pl, ck, pf, pc, st, ix, xst, nI f, nI D, sto, srt, bas, len, dig, dcm, sgn, tim, sig, op, opX, opY, opZ, tgt, sta, ins, opn, pE, pL, pI, pB, out, pw, wk) (nI o) x y z) ∧ (∀ post : SY → Prop, post (cn, pl, ck, ypf, nI (p + 1), st, ix', nI D', yen, nI f', yju, sto', srt, bas, yle, dcm, tim, sig, ysg, op, opX, opY, opZ, out', ych', yot', ylo, pE, pL, yba, yfr, yva) → wY_step_137 post (nI o) x y z cn pl ck ypf (nI p) st ix (nI D) yen (nI f) yju sto srt bas yle dcm tim sig ysg op opX opY opZ out ych yot ylo pE pL yba yfr yva) := by
  subst ho
  by_cases x16 : x = 16
  · refine ⟨(zL z.toInt).toInt32, f, D, sto, out, wk, ych, yot, sok, f1, by omega, fun post hP => ?_, fun post hP => ?_⟩
    · unfold wpX_plainStep
      repeat (first | refine br_t (by decide) ?_ | refine br_f (by decide) ?_)
      rw [x16]
      have K := xa_sc (post := fun r => post (cn, xpa, xop, pl, ck, pf, pc, st, r.toInt32, xst, nI f, nI D, sto, srt, bas, len, dig, dcm, sgn, tim, sig, op, opX, opY, opZ, tgt, sta, ins, opn, pE, pL, pI, pB, out, pw, wk)) (f := 0) (t := 0) (v := z.toInt) (cn := cn) (xpa := xpa) (xop := xop) (pl := pl) (ck := ck) (pf := pf) (pc := pc) (st := st) (ix := ix) (xst := xst) (tl := nI f) (ds := nI D) (sto := sto) (srt := srt) (bas := bas) (len := len) (dig := dig) (dcm := dcm) (sgn := sgn) (tim := tim) (sig := sig) (op := op) (opX := opX) (opY := opY) (opZ := opZ) (tgt := tgt) (sta := sta) (ins := ins) (opn := opn) (pE := pE) (pL := pL) (pI := pI) (pB := pB) (out := out) (pw := pw) (wk := wk) hw (by have := zl_abs z; omega) (by omega) (by omega) (by rw [sc_self]; exact hP)
      exact xa_op16 (xa_pt16 K)
    · unfold wY_step_137
      repeat (first | refine br_t (by decide) ?_ | refine br_f (by decide) ?_)
      refine br_t x16 ?_
      unfold wY_step_386
      rw [zl_i]
      repeat (first | refine br_t (by decide) ?_ | refine br_f (by decide) ?_)
      exact nm_r (nI_1 _) hP
  · obtain ⟨i', k', b', w', d', e', g', t', l', h', el', p', ex, H', A', rfl⟩ : q_Use srt bas len dig dcm sgn tim sig yle ysg ix x (fun k => k = 1) := by
      rcases hx with q | q
      · exact absurd q x16
      · exact q
    have hi' : i' < 12 := H'.2.1.1
    have he' := H'.1.2.2.2.2.1
    have he9' : e' ≤ 9 := by have := H'.2.1; omega
    have hc' : (nI i').toNatClampNeg = i' := nI_clamp (by omega)
    have hp' := aq_in H'.2.1.2.2.2.1 A'
    have va' : b' + (el' - 1) * w' = p' := A'.2.2.1.symm
    have vb' := it_vb (s := sto) (p := p') H'
    have p9 := pt_9 he9'
    have pp := pt_pos e'
    refine ⟨(zL ((q_val sto 1 g' w' p').tdiv (pTen e' : Nat))).toInt32, f, D, sto, out, wk, ych, yot, sok, f1, by omega, fun post hP => ?_, fun post hP => ?_⟩
    · unfold wpX_plainStep
      repeat (first | refine br_t (by decide) ?_ | refine br_f (by decide) ?_)
      rw [ex]
      have K := xa_sc (post := fun r => post (cn, xpa, xop, pl, ck, pf, pc, st, r.toInt32, xst, nI f, nI D, sto, srt, bas, len, dig, dcm, sgn, tim, sig, op, opX, opY, opZ, tgt, sta, ins, opn, pE, pL, pI, pB, out, pw, wk)) (f := e') (t := 0) (v := q_val sto 1 g' w' p') (cn := cn) (xpa := xpa) (xop := xop) (pl := pl) (ck := ck) (pf := pf) (pc := pc) (st := st) (ix := ix) (xst := xst) (tl := nI f) (ds := nI D) (sto := sto) (srt := srt) (bas := bas) (len := len) (dig := dig) (dcm := dcm) (sgn := sgn) (tim := tim) (sig := sig) (op := op) (opX := opX) (opY := opY) (opZ := opZ) (tgt := tgt) (sta := sta) (ins := ins) (opn := opn) (pE := pE) (pL := pL) (pI := pI) (pB := pB) (out := out) (pw := pw) (wk := wk) hw (by omega) (by omega) (by omega) (by rw [sc_0]; exact hP)
      exact xa_opnd H' sok A' (xa_pt H' K)
    · unfold wY_step_137
      repeat (first | refine br_t (by decide) ?_ | refine br_f (by decide) ?_)
      rw [ex]
      refine br_f (us_16 hi') (ya_el H' A' (ya_val H' sok A'.1 (by rw [va']; exact hp') ⟨vp_in_nI hi' (by omega), ?_⟩))
      rw [va', hc', he']
      refine yt_ten (by omega) ⟨by rw [zl_0]; exact zl_ne (by omega) (by omega) (by omega), ?_⟩
      rw [zl_div (by omega) (by omega)]
      unfold wY_step_386
      repeat (first | refine br_t (by decide) ?_ | refine br_f (by decide) ?_)
      exact nm_r (nI_1 _) hP
theorem pl_21 (ho : o = 21) (sok : StOK sto) (f1 : f ≤ 1) : ∃ (ix' : Int32) (f' D' : Nat) (sto' out' wk' ych' yot' : Nat → Int32), StOK sto' ∧ f' ≤ 1 ∧ D' ≤ D + 12 ∧ (∀ post : SX → Prop, post (cn, xpa, xop, pl, ck, pf, pc, st, ix', xst, nI f', nI D', sto', srt, bas, len, dig, dcm, sgn, tim, sig, op, opX, opY, opZ, tgt, sta, ins, opn, pE, pL, pI, pB, out', pw, wk') → wpX_plainStep post (cn, xpa, xop, pl, ck, pf, pc, st, ix, xst, nI f, nI D, sto, srt, bas, len, dig, dcm, sgn, tim, sig, op, opX, opY, opZ, tgt, sta, ins, opn, pE, pL, pI, pB, out, pw, wk) (nI o) x y z) ∧ (∀ post : SY → Prop, post (cn, pl, ck, ypf, nI (p + 1), st, ix', nI D', yen, nI f', yju, sto', srt, bas, yle, dcm, tim, sig, ysg, op, opX, opY, opZ, out', ych', yot', ylo, pE, pL, yba, yfr, yva) → wY_step_137 post (nI o) x y z cn pl ck ypf (nI p) st ix (nI D) yen (nI f) yju sto srt bas yle dcm tim sig ysg op opX opY opZ out ych yot ylo pE pL yba yfr yva) := by
  subst ho
  refine ⟨ix + z, f, D, sto, out, wk, ych, yot, sok, f1, by omega, fun post hP => ?_, fun post hP => ?_⟩
  · unfold wpX_plainStep
    repeat (first | refine br_t (by decide) ?_ | refine br_f (by decide) ?_)
    exact nm_e hP
  · unfold wY_step_137
    repeat (first | refine br_t (by decide) ?_ | refine br_f (by decide) ?_)
    refine nm_e ?_
    repeat (first | refine br_t (by decide) ?_ | refine br_f (by decide) ?_)
    exact nm_r (nI_1 _) hP
theorem pl_22 (ho : o = 22) (sok : StOK sto) (hw : PwOK pw) (f1 : f ≤ 1) (hx : q_Use srt bas len dig dcm sgn tim sig yle ysg ix x (fun _ => True)) (hy : q_Use srt bas len dig dcm sgn tim sig yle ysg ix y (fun k => k = 1)) : ∃ (ix' : Int32) (f' D' : Nat) (sto' out' wk' ych' yot' : Nat → Int32), StOK sto' ∧ f' ≤ 1 ∧ D' ≤ D + 12 ∧ (∀ post : SX → Prop, post (cn, xpa, xop, pl, ck, pf, pc, st, ix', xst, nI f', nI D', sto', srt, bas, len, dig, dcm, sgn, tim, sig, op, opX, opY, opZ, tgt, sta, ins, opn, pE, pL, pI, pB, out', pw, wk') → wpX_plainStep post (cn, xpa, xop, pl, ck, pf, pc, st, ix, xst, nI f, nI D, sto, srt, bas, len, dig, dcm, sgn, tim, sig, op, opX, opY, opZ, tgt, sta, ins, opn, pE, pL, pI, pB, out, pw, wk) (nI o) x y z) ∧ (∀ post : SY → Prop, post (cn, pl, ck, ypf, nI (p + 1), st, ix', nI D', yen, nI f', yju, sto', srt, bas, yle, dcm, tim, sig, ysg, op, opX, opY, opZ, out', ych', yot', ylo, pE, pL, yba, yfr, yva) → wY_step_137 post (nI o) x y z cn pl ck ypf (nI p) st ix (nI D) yen (nI f) yju sto srt bas yle dcm tim sig ysg op opX opY opZ out ych yot ylo pE pL yba yfr yva) := by
  subst ho
  obtain ⟨s', wk', ych', yot', a1, a2, a3⟩ := ta_sim (z := z) (cn := cn) (xpa := xpa) (xop := xop) (pl := pl) (ck := ck) (pf := pf) (pc := pc) (st := st) (ix := ix) (xst := xst) (tl := nI f) (ds := nI D) (sto := sto) (srt := srt) (bas := bas) (len := len) (dig := dig) (dcm := dcm) (sgn := sgn) (tim := tim) (sig := sig) (op := op) (opX := opX) (opY := opY) (opZ := opZ) (tgt := tgt) (sta := sta) (ins := ins) (opn := opn) (pE := pE) (pL := pL) (pI := pI) (pB := pB) (out := out) (pw := pw) (wk := wk) (ypf := ypf) (yat := nI p) (yen := yen) (yju := yju) (yle := yle) (ysg := ysg) (ych := ych) (yot := yot) (ylo := ylo) (yba := yba) (yfr := yfr) (yva := yva) hx hy sok hw
  refine ⟨ix, f, D, s', out, wk', ych', yot', a1, f1, by omega, fun post hP => ?_, fun post hP => ?_⟩
  · unfold wpX_plainStep
    repeat (first | refine br_t (by decide) ?_ | refine br_f (by decide) ?_)
    exact a2 _ hP
  · unfold wY_step_137
    repeat (first | refine br_t (by decide) ?_ | refine br_f (by decide) ?_)
    exact a3 _ (nm_r (nI_1 _) hP)
end
end
section
section
variable {cn : Int32} {xpa : Int32} {xop : Int32} {pl : Int32} {ck : Int32} {pf : Int32} {pc : Int32} {st : Int32} {ix : Int32} {xst : Int32} {tl : Int32} {ds : Int32} {sto : Nat → Int32} {srt : Nat → Int32} {bas : Nat → Int32} {len : Nat → Int32} {dig : Nat → Int32} {dcm : Nat → Int32} {sgn : Nat → Int32} {tim : Nat → Int32} {sig : Nat → Int32} {op : Nat → Int32} {opX : Nat → Int32} {opY : Nat → Int32} {opZ : Nat → Int32} {tgt : Nat → Int32} {sta : Nat → Int32} {ins : Nat → Int32} {opn : Nat → Int32} {pE : Nat → Int32} {pL : Nat → Int32} {pI : Nat → Int32} {pB : Nat → Int32} {out : Nat → Int32} {pw : Nat → Int64} {wk : Nat → Int32} {ypf : Int32} {yat : Int32} {yen : Int32} {yju : Int32} {yle : Nat → Int32} {ysg : Nat → Int32} {ych : Nat → Int32} {yot : Nat → Int32} {ylo : Nat → Int32} {yba : Nat → Int32} {yfr : Nat → Int32} {yva : Nat → Int32}
/-- both go on at i, out of the paragraph of p: what the step says of it -/
theorem go_sim {N S P p D f : Nat} (hop : OpOK op) (wf : q_WF op opX opY opZ srt tgt sta ins N) (sok : StOK sto) (hw : PwOK pw) (f1 : f ≤ 1) (hP6 : P ≤ 6) (stk : q_Stk op opX pE pL pI pB ylo yba yfr yva N P (S + 1)) (pN : p < N) (hS : S < 501) {i : Nat} (hi : i ≤ N) (hq : q_pc op i = q_pc op (p + 1)) :
    ∃ (P' i' D' f' : Nat) (ix' st' yen' yju' pc' ya' : Int32) (sto' out' pE' pL' pI' pB' wk' ych' yot' ylo' yba' yfr' yva' : Nat → Int32), StOK sto' ∧ f' ≤ 1 ∧ D' ≤ D ∧ ((st' = -1 ∧ yen' = -1 ∧ P' ≤ 6 ∧ q_Stk op opX pE' pL' pI' pB' ylo' yba' yfr' yva' N P' (S + 2) ∧ i' < N ∧ pc' = nI i' ∧ ya' = nI i' ∧ q_Rdy op pE' N P' i' yju') ∨ (∃ ρ : Nat, ρ ≤ 3 ∧ st' = nI ρ ∧ yen' = nI ρ)) ∧ (∀ post : SX → Prop, post (nI N, xpa, xop, pl, ck, nI P', pc', st, ix', st', nI f', nI D', sto', srt, bas, len, dig, dcm, sgn, tim, sig, op, opX, opY, opZ, tgt, sta, ins, opn, pE', pL', pI', pB', out', pw, wk') → wpX_goOn post (nI N, xpa, xop, pl, ck, nI P, nI p, st, ix, -1, nI f, nI D, sto, srt, bas, len, dig, dcm, sgn, tim, sig, op, opX, opY, opZ, tgt, sta, ins, opn, pE, pL, pI, pB, out, pw, wk) (nI i) (ins p)) ∧ (∀ post : Int32 → SY → Prop, (∃ n, wY_run_49 post n (nI N) pl ck (nI P') ya' st ix' (nI D') yen' (nI f') yju' sto' srt bas yle dcm tim sig ysg op opX opY opZ out' ych' yot' ylo' pE' pL' yba' yfr' yva') → ∃ n, wY_run_49 post n (nI N) pl ck (nI P) (nI i) st ix (nI D) (-1) (nI f) 0 sto srt bas yle dcm tim sig ysg op opX opY opZ out ych yot ylo pE pL yba yfr yva) := by
  have s3 := wf.2.2.2.2.2.1
  have z0 : cd op 0 = 0 := wf.2.2.1
  have p1 : 1 ≤ q_pc op (p + 1) := by
    have := pc_m op (a := 1) (b := p + 1) (by omega)
    rw [pc_s0 z0] at this
    omega
  have pl' := pc_le op (p + 1)
  have hN := wf.2.1
  obtain ⟨P', i', ix', st', yju', pL', pI', yfr', g1, g2, g3, g4, g5, gX, gY⟩ := go_l (S := S + 1) (xpa := xpa) (xop := xop) (pl := pl) (ck := ck) (pc := nI p) (st := st) (ix := ix) (tl := nI f) (ds := nI D) (sto := sto) (srt := srt) (bas := bas) (len := len) (dig := dig) (dcm := dcm) (sgn := sgn) (tim := tim) (sig := sig) (op := op) (opX := opX) (opY := opY) (opZ := opZ) (tgt := tgt) (sta := sta) (ins := ins) (opn := opn) (pE := pE) (pI := pI) (pB := pB) (out := out) (pw := pw) (wk := wk) (yle := yle) (ysg := ysg) (ych := ych) (yot := yot) (ylo := ylo) (yba := yba) (yfr := yfr) (yva := yva) hop wf (by omega) P hP6 i (q_pc op (p + 1) - 1) pL hi (fun _ => by omega) (by omega) stk
  rcases g5 with ⟨rfl, rfl⟩ | ⟨rfl, g5⟩
  · -- the end of the program
    refine ⟨P', i', D, f, ix', 0, 0, yju', nI i', nI i', sto, out, pE, pL', pI', pB, wk, ych, yot, ylo, yba, yfr', yva, sok, f1, by omega, Or.inr ⟨0, by omega, rfl, rfl⟩, fun post hP => ?_, fun post h => ?_⟩
    · rw [s3 p pN]
      unfold wpX_goOn
      exact ⟨7, gX _ 7 (by omega) hP⟩
    · obtain ⟨n, hn⟩ := h
      refine gY post ⟨n + 1, yr_96 hN (by omega) hop g3 g4 ?_⟩
      unfold wY_run_96 wY_run_97
      exact br_t rfl (br_f (nI_nlt (by omega) (by omega)) hn)
  · refine ⟨P', i', D, f, ix', -1, -1, yju', nI i', nI i', sto, out, pE, pL', pI', pB, wk, ych, yot, ylo, yba, yfr', yva, sok, f1, by omega, Or.inl ⟨rfl, rfl, by omega, g2, g5, rfl, rfl, g4⟩, fun post hP => ?_, fun post h => gY post h⟩
    rw [s3 p pN]
    unfold wpX_goOn
    exact ⟨7, gX _ 7 (by omega) hP⟩
end
end
section
section
variable {cn : Int32} {xpa : Int32} {xop : Int32} {pl : Int32} {ck : Int32} {pf : Int32} {pc : Int32} {st : Int32} {ix : Int32} {xst : Int32} {tl : Int32} {ds : Int32} {sto : Nat → Int32} {srt : Nat → Int32} {bas : Nat → Int32} {len : Nat → Int32} {dig : Nat → Int32} {dcm : Nat → Int32} {sgn : Nat → Int32} {tim : Nat → Int32} {sig : Nat → Int32} {op : Nat → Int32} {opX : Nat → Int32} {opY : Nat → Int32} {opZ : Nat → Int32} {tgt : Nat → Int32} {sta : Nat → Int32} {ins : Nat → Int32} {opn : Nat → Int32} {pE : Nat → Int32} {pL : Nat → Int32} {pI : Nat → Int32} {pB : Nat → Int32} {out : Nat → Int32} {pw : Nat → Int64} {wk : Nat → Int32} {ypf : Int32} {yat : Int32} {yen : Int32} {yju : Int32} {yle : Nat → Int32} {ysg : Nat → Int32} {ych : Nat → Int32} {yot : Nat → Int32} {ylo : Nat → Int32} {yba : Nat → Int32} {yfr : Nat → Int32} {yva : Nat → Int32}
/-- a plain step -/
theorem gp_sim {N S P p D f : Nat} (hop : OpOK op) (wf : q_WF op opX opY opZ srt tgt sta ins N) (sok : StOK sto) (hw : PwOK pw) (f1 : f ≤ 1) (hP6 : P ≤ 6) (stk : q_Stk op opX pE pL pI pB ylo yba yfr yva N P (S + 1)) (pN : p < N) (hS : S < 501) (ho : cd op p < 10 ∨ cd op p = 14 ∨ 19 ≤ cd op p)
    (hpl : ∃ (ix' : Int32) (f' D' : Nat) (sto' out' wk' ych' yot' : Nat → Int32), StOK sto' ∧ f' ≤ 1 ∧ D' ≤ D + 12 ∧ (∀ post : SX → Prop, post (nI N, xpa, xop, pl, ck, nI P, nI p, st, ix', -1, nI f', nI D', sto', srt, bas, len, dig, dcm, sgn, tim, sig, op, opX, opY, opZ, tgt, sta, ins, opn, pE, pL, pI, pB, out', pw, wk') → wpX_plainStep post (nI N, xpa, xop, pl, ck, nI P, nI p, st, ix, -1, nI f, nI D, sto, srt, bas, len, dig, dcm, sgn, tim, sig, op, opX, opY, opZ, tgt, sta, ins, opn, pE, pL, pI, pB, out, pw, wk) (nI (cd op p)) (opX p) (opY p) (opZ p)) ∧ (∀ post : SY → Prop, post (nI N, pl, ck, nI P, nI (p + 1), st, ix', nI D', -1, nI f', 0, sto', srt, bas, yle, dcm, tim, sig, ysg, op, opX, opY, opZ, out', ych', yot', ylo, pE, pL, yba, yfr, yva) → wY_step_137 post (nI (cd op p)) (opX p) (opY p) (opZ p) (nI N) pl ck (nI P) (nI p) st ix (nI D) (-1) (nI f) 0 sto srt bas yle dcm tim sig ysg op opX opY opZ out ych yot ylo pE pL yba yfr yva)) : ∃ (P' i' D' f' : Nat) (ix' st' yen' yju' pc' ya' : Int32) (sto' out' pE' pL' pI' pB' wk' ych' yot' ylo' yba' yfr' yva' : Nat → Int32), StOK sto' ∧ f' ≤ 1 ∧ D' ≤ D + 12 ∧ ((st' = -1 ∧ yen' = -1 ∧ P' ≤ 6 ∧ q_Stk op opX pE' pL' pI' pB' ylo' yba' yfr' yva' N P' (S + 2) ∧ i' < N ∧ pc' = nI i' ∧ ya' = nI i' ∧ q_Rdy op pE' N P' i' yju') ∨ (∃ ρ : Nat, ρ ≤ 3 ∧ st' = nI ρ ∧ yen' = nI ρ)) ∧ (∀ post : SX → Prop, post (nI N, xpa, xop, pl, ck, nI P', pc', st, ix', st', nI f', nI D', sto', srt, bas, len, dig, dcm, sgn, tim, sig, op, opX, opY, opZ, tgt, sta, ins, opn, pE', pL', pI', pB', out', pw, wk') → wX_step_126 post (nI (cd op p)) (opX p) (opY p) (nI N) xpa xop pl ck (nI P) (nI p) st ix (-1) (nI f) (nI D) sto srt bas len dig dcm sgn tim sig op opX opY opZ tgt sta ins opn pE pL pI pB out pw wk) ∧ (∀ post : Int32 → SY → Prop, (∃ n, wY_run_49 post n (nI N) pl ck (nI P') ya' st ix' (nI D') yen' (nI f') yju' sto' srt bas yle dcm tim sig ysg op opX opY opZ out' ych' yot' ylo' pE' pL' yba' yfr' yva') → ∃ n, wY_step_137 (fun u => match u with | (cn, pl, ck, ypf, yat, st, ix, ds, yen, tl, yju, sto, srt, bas, yle, dcm, tim, sig, ysg, op, opX, opY, opZ, out, ych, yot, ylo, pE, pL, yba, yfr, yva) => wY_run_49 post n cn pl ck ypf yat st ix ds yen tl yju sto srt bas yle dcm tim sig ysg op opX opY opZ out ych yot ylo pE pL yba yfr yva) (nI (cd op p)) (opX p) (opY p) (opZ p) (nI N) pl ck (nI P) (nI p) st ix (nI D) (-1) (nI f) 0 sto srt bas yle dcm tim sig ysg op opX opY opZ out ych yot ylo pE pL yba yfr yva) := by
  have hl := oc_l hop p
  have hin : vp_in (nI p) 48 := vp_in_nI (by have := wf.2.1; omega) (by omega)
  have hc : (nI p).toNatClampNeg = p := nI_clamp (by have := wf.2.1; omega)
  obtain ⟨ix1, f2, D1, sto1, out1, wk1, ych1, yot1, b1, b2, b3, bX, bY⟩ := hpl
  obtain ⟨P', i', D', f', ix', st', yen', yju', pc', ya', sto', out', pE', pL', pI', pB', wk', ych', yot', ylo', yba', yfr', yva', c1, c2, c3, c4, cX, cY⟩ := go_sim (i := p + 1) (D := D1) (f := f2) (xpa := xpa) (xop := xop) (pl := pl) (ck := ck) (st := st) (ix := ix1) (sto := sto1) (srt := srt) (bas := bas) (len := len) (dig := dig) (dcm := dcm) (sgn := sgn) (tim := tim) (sig := sig) (op := op) (opX := opX) (opY := opY) (opZ := opZ) (tgt := tgt) (sta := sta) (ins := ins) (opn := opn) (pE := pE) (pL := pL) (pI := pI) (pB := pB) (out := out1) (pw := pw) (wk := wk1) (yle := yle) (ysg := ysg) (ych := ych1) (yot := yot1) (ylo := ylo) (yba := yba) (yfr := yfr) (yva := yva) hop wf b1 hw b2 hP6 stk pN hS (by omega) rfl
  refine ⟨P', i', D', f', ix', st', yen', yju', pc', ya', sto', out', pE', pL', pI', pB', wk', ych', yot', ylo', yba', yfr', yva', c1, c2, by omega, c4, fun post hP => ?_, fun post h => ?_⟩
  · have G : wpX_goOn post (nI N, xpa, xop, pl, ck, nI P, nI p, st, ix1, -1, nI f2, nI D1, sto1, srt, bas, len, dig, dcm, sgn, tim, sig, op, opX, opY, opZ, tgt, sta, ins, opn, pE, pL, pI, pB, out1, pw, wk1) (nI p + 1) (ins p) := by
      rw [nI_1 p]
      exact cX _ hP
    unfold wX_step_126
    refine ⟨hin, ?_⟩
    rw [hc]
    refine nm_e ?_
    have K233 : wX_step_233 post (nI (cd op p)) (opX p) (opY p) (ins p) (nI N) xpa xop pl ck (nI P) (nI p) st ix (-1) (nI f) (nI D) sto srt bas len dig dcm sgn tim sig op opX opY opZ tgt sta ins opn pE pL pI pB out pw wk := by
      unfold wX_step_233
      rw [hc]
      rcases ho with o1 | o1 | o1
      · exact br_t (nI_lt (b := 15) (by omega) (by omega)) ⟨hin, bX _ G⟩
      · exact br_t (nI_lt (b := 15) (by omega) (by omega)) ⟨hin, bX _ G⟩
      · exact br_f (nI_nlt (b := 15) (by omega) (by omega)) (br_t (nI_lt (a := 18) (by omega) (by omega)) ⟨hin, bX _ G⟩)
    rcases ho with o1 | o1 | o1
    · exact br_t (nI_lt (b := 10) (by omega) (by omega)) K233
    · exact br_f (nI_nlt (b := 10) (by omega) (by omega)) (br_t (nI_lt (a := 13) (by omega) (by omega)) K233)
    · exact br_f (nI_nlt (b := 10) (by omega) (by omega)) (br_t (nI_lt (a := 13) (by omega) (by omega)) K233)
  · obtain ⟨n, hn⟩ := cY post h
    exact ⟨n, bY _ hn⟩
/-- a condition: where both go -/
theorem co_sim {N S P p D f : Nat} (hop : OpOK op) (wf : q_WF op opX opY opZ srt tgt sta ins N) (sok : StOK sto) (hw : PwOK pw) (f1 : f ≤ 1) (hP6 : P ≤ 6) (stk : q_Stk op opX pE pL pI pB ylo yba yfr yva N P (S + 1)) (pN : p < N) (hS : S < 501) (its : q_Its srt bas len dig dcm sgn tim sig yle ysg) (o1 : 10 ≤ cd op p) (o2 : cd op p ≤ 13) (ux : cd op p = 10 ∨ cd op p = 12 → q_Use srt bas len dig dcm sgn tim sig yle ysg ix (opX p) (fun k => k = 1 ∨ k = 2)) (uy : cd op p = 10 → q_Use srt bas len dig dcm sgn tim sig yle ysg ix (opY p) (fun k => k = 1 ∨ k = 2) ∧ ∃ h, h < 6 ∧ opZ p = nI h) :
    ∃ (i : Nat) (ych' yot' : Nat → Int32), i ≤ N ∧ q_pc op i = q_pc op (p + 1) ∧ (∀ post : SX → Prop, wX_step_227 post (ins p) (nI i) (nI N) xpa xop pl ck (nI P) (nI p) st ix (-1) (nI f) (nI D) sto srt bas len dig dcm sgn tim sig op opX opY opZ tgt sta ins opn pE pL pI pB out pw wk → wX_step_126 post (nI (cd op p)) (opX p) (opY p) (nI N) xpa xop pl ck (nI P) (nI p) st ix (-1) (nI f) (nI D) sto srt bas len dig dcm sgn tim sig op opX opY opZ tgt sta ins opn pE pL pI pB out pw wk) ∧ (∀ post : SY → Prop, post (nI N, pl, ck, nI P, nI i, st, ix, nI D, -1, nI f, 0, sto, srt, bas, yle, dcm, tim, sig, ysg, op, opX, opY, opZ, out, ych', yot', ylo, pE, pL, yba, yfr, yva) → wY_step_137 post (nI (cd op p)) (opX p) (opY p) (opZ p) (nI N) pl ck (nI P) (nI p) st ix (nI D) (-1) (nI f) 0 sto srt bas yle dcm tim sig ysg op opX opY opZ out ych yot ylo pE pL yba yfr yva) := by
  have hN := wf.2.1
  have hin : vp_in (nI p) 48 := vp_in_nI (by omega) (by omega)
  have hc : (nI p).toNatClampNeg = p := nI_clamp (by omega)
  obtain ⟨Pm, d1, d2, d3, d4⟩ := wf.2.2.2.2.1 p pN o1 o2
  generalize cd op p = o at o1 o2 ux uy ⊢
  have X201 : ∀ (post : SX → Prop) (ρ : Nat), ρ ≤ 1 → wX_step_227 post (ins p) (nI (if ρ = 0 then Pm + 1 else p + 1)) (nI N) xpa xop pl ck (nI P) (nI p) st ix (-1) (nI f) (nI D) sto srt bas len dig dcm sgn tim sig op opX opY opZ tgt sta ins opn pE pL pI pB out pw wk → wX_step_201 post (ins p) (nI ρ) (nI N) xpa xop pl ck (nI P) (nI p) st ix (-1) (nI f) (nI D) sto srt bas len dig dcm sgn tim sig op opX opY opZ tgt sta ins opn pE pL pI pB out pw wk := by
    intro post ρ r1 K
    unfold wX_step_201
    rw [hc, d2]
    rcases (by omega : ρ = 0 ∨ ρ = 1) with rfl | rfl
    · exact br_t rfl ⟨hin, K⟩
    · refine br_f (by decide) ?_
      rw [nI_1 p]
      exact K
  have Y261 : ∀ (post : SY → Prop) (ρ : Nat) (ych' yot' : Nat → Int32), ρ ≤ 1 → (o = 10 ∨ o = 11 ∨ o = 12) → post (nI N, pl, ck, nI P, nI (if ρ = 0 then Pm + 1 else p + 1), st, ix, nI D, -1, nI f, 0, sto, srt, bas, yle, dcm, tim, sig, ysg, op, opX, opY, opZ, out, ych', yot', ylo, pE, pL, yba, yfr, yva) → wY_step_261 post (nI o) (opX p) (opY p) (opZ p) (nI ρ) (nI N) pl ck (nI P) (nI p) st ix (nI D) (-1) (nI f) 0 sto srt bas yle dcm tim sig ysg op opX opY opZ out ych' yot' ylo pE pL yba yfr yva := by
    intro post ρ ych' yot' r1 co K
    unfold wY_step_261
    rcases (by omega : ρ = 0 ∨ ρ = 1) with rfl | rfl
    · refine br_t rfl (yp_par hop (by omega) d3 ?_)
      rcases co with rfl | rfl | rfl
      all_goals
        repeat (first | refine br_t (by decide) ?_ | refine br_f (by decide) ?_)
        exact nm_r (nI_1 _) K
    · refine br_f (by decide) ?_
      rcases co with rfl | rfl | rfl
      all_goals
        repeat (first | refine br_t (by decide) ?_ | refine br_f (by decide) ?_)
        exact nm_r (nI_1 _) K
  have fin : ∀ (ρ : Nat) (ych' yot' : Nat → Int32), ρ ≤ 1 → (o = 10 ∨ o = 11 ∨ o = 12) → (∀ post : SX → Prop, wX_step_201 post (ins p) (nI ρ) (nI N) xpa xop pl ck (nI P) (nI p) st ix (-1) (nI f) (nI D) sto srt bas len dig dcm sgn tim sig op opX opY opZ tgt sta ins opn pE pL pI pB out pw wk → wX_step_126 post (nI o) (opX p) (opY p) (nI N) xpa xop pl ck (nI P) (nI p) st ix (-1) (nI f) (nI D) sto srt bas len dig dcm sgn tim sig op opX opY opZ tgt sta ins opn pE pL pI pB out pw wk) → (∀ post : SY → Prop, wY_step_261 post (nI o) (opX p) (opY p) (opZ p) (nI ρ) (nI N) pl ck (nI P) (nI p) st ix (nI D) (-1) (nI f) 0 sto srt bas yle dcm tim sig ysg op opX opY opZ out ych' yot' ylo pE pL yba yfr yva → wY_step_137 post (nI o) (opX p) (opY p) (opZ p) (nI N) pl ck (nI P) (nI p) st ix (nI D) (-1) (nI f) 0 sto srt bas yle dcm tim sig ysg op opX opY opZ out ych yot ylo pE pL yba yfr yva) → ∃ (i : Nat) (ych' yot' : Nat → Int32), i ≤ N ∧ q_pc op i = q_pc op (p + 1) ∧ (∀ post : SX → Prop, wX_step_227 post (ins p) (nI i) (nI N) xpa xop pl ck (nI P) (nI p) st ix (-1) (nI f) (nI D) sto srt bas len dig dcm sgn tim sig op opX opY opZ tgt sta ins opn pE pL pI pB out pw wk → wX_step_126 post (nI o) (opX p) (opY p) (nI N) xpa xop pl ck (nI P) (nI p) st ix (-1) (nI f) (nI D) sto srt bas len dig dcm sgn tim sig op opX opY opZ tgt sta ins opn pE pL pI pB out pw wk) ∧ (∀ post : SY → Prop, post (nI N, pl, ck, nI P, nI i, st, ix, nI D, -1, nI f, 0, sto, srt, bas, yle, dcm, tim, sig, ysg, op, opX, opY, opZ, out, ych', yot', ylo, pE, pL, yba, yfr, yva) → wY_step_137 post (nI o) (opX p) (opY p) (opZ p) (nI N) pl ck (nI P) (nI p) st ix (nI D) (-1) (nI f) 0 sto srt bas yle dcm tim sig ysg op opX opY opZ out ych yot ylo pE pL yba yfr yva) := by
    intro ρ ych' yot' r1 co hX hY
    refine ⟨if ρ = 0 then Pm + 1 else p + 1, ych', yot', ?_, ?_, fun post K => hX post (X201 post ρ r1 K), fun post K => hY post (Y261 post ρ ych' yot' r1 co K)⟩
    · by_cases z : ρ = 0
      · rw [if_pos z]; omega
      · rw [if_neg z]; omega
    · by_cases z : ρ = 0
      · rw [if_pos z]; exact d4
      · rw [if_neg z]
  rcases (by clear ux uy; omega : o = 10 ∨ o = 11 ∨ o = 12 ∨ o = 13) with rfl | rfl | rfl | rfl
  · obtain ⟨uy1, h, h6, ez⟩ := uy rfl
    obtain ⟨ρ, ych', yot', r1, rX, rY⟩ := re_sim (how := h) (cn := nI N) (xpa := xpa) (xop := xop) (pl := pl) (ck := ck) (pf := nI P) (pc := nI p) (st := st) (ix := ix) (xst := -1) (tl := nI f) (ds := nI D) (sto := sto) (srt := srt) (bas := bas) (len := len) (dig := dig) (dcm := dcm) (sgn := sgn) (tim := tim) (sig := sig) (op := op) (opX := opX) (opY := opY) (opZ := opZ) (tgt := tgt) (sta := sta) (ins := ins) (opn := opn) (pE := pE) (pL := pL) (pI := pI) (pB := pB) (out := out) (pw := pw) (wk := wk) (ypf := nI P) (yat := nI p) (yen := -1) (yju := 0) (yle := yle) (ysg := ysg) (ych := ych) (yot := yot) (ylo := ylo) (yba := yba) (yfr := yfr) (yva := yva) h6 (ux (Or.inl rfl)) uy1 sok hw
    refine fin ρ ych' yot' r1 (Or.inl rfl) (fun post K => ?_) (fun post K => ?_)
    · unfold wX_step_126
      refine ⟨hin, ?_⟩
      rw [hc, ez]
      refine nm_e ?_
      repeat (first | refine br_t (by decide) ?_ | refine br_f (by decide) ?_)
      exact ⟨hin, rX _ K⟩
    · unfold wY_step_137
      rw [ez] at K ⊢
      repeat (first | refine br_t (by decide) ?_ | refine br_f (by decide) ?_)
      exact rY _ K
  · refine fin f ych yot f1 (Or.inr (Or.inl rfl)) (fun post K => ?_) (fun post K => ?_)
    · unfold wX_step_126
      refine ⟨hin, ?_⟩
      rw [hc]
      refine nm_e ?_
      repeat (first | exact K | refine br_t (by decide) ?_ | refine br_f (by decide) ?_)
    · unfold wY_step_137
      repeat (first | exact K | refine br_t (by decide) ?_ | refine br_f (by decide) ?_)
  · obtain ⟨ρ, ych', r1, rX, rY⟩ := nu_sim (cn := nI N) (xpa := xpa) (xop := xop) (pl := pl) (ck := ck) (pf := nI P) (pc := nI p) (st := st) (ix := ix) (xst := -1) (tl := nI f) (ds := nI D) (sto := sto) (srt := srt) (bas := bas) (len := len) (dig := dig) (dcm := dcm) (sgn := sgn) (tim := tim) (sig := sig) (op := op) (opX := opX) (opY := opY) (opZ := opZ) (tgt := tgt) (sta := sta) (ins := ins) (opn := opn) (pE := pE) (pL := pL) (pI := pI) (pB := pB) (out := out) (pw := pw) (wk := wk) (ypf := nI P) (yat := nI p) (yen := -1) (yju := 0) (yle := yle) (ysg := ysg) (ych := ych) (yot := yot) (ylo := ylo) (yba := yba) (yfr := yfr) (yva := yva) (ux (Or.inr rfl))
    refine fin ρ ych' yot r1 (Or.inr (Or.inr rfl)) (fun post K => ?_) (fun post K => ?_)
    · unfold wX_step_126
      refine ⟨hin, ?_⟩
      rw [hc]
      refine nm_e ?_
      repeat (first | refine br_t (by decide) ?_ | refine br_f (by decide) ?_)
      exact rX _ K
    · unfold wY_step_137
      repeat (first | refine br_t (by decide) ?_ | refine br_f (by decide) ?_)
      exact rY _ K
  · refine ⟨Pm + 1, ych, yot, by omega, d4, fun post K => ?_, fun post K => ?_⟩
    · have K2 := X201 post 0 (by omega) K
      unfold wX_step_126
      refine ⟨hin, ?_⟩
      rw [hc]
      refine nm_e ?_
      repeat (first | exact K2 | refine br_t (by decide) ?_ | refine br_f (by decide) ?_)
    · unfold wY_step_137
      repeat (first | refine br_t (by decide) ?_ | refine br_f (by decide) ?_)
      refine yp_par hop (by omega) d3 ?_
      repeat (first | refine br_t (by decide) ?_ | refine br_f (by decide) ?_)
      exact nm_r (nI_1 _) K
theorem gc_sim {N S P p D f : Nat} (hop : OpOK op) (wf : q_WF op opX opY opZ srt tgt sta ins N) (sok : StOK sto) (hw : PwOK pw) (f1 : f ≤ 1) (hP6 : P ≤ 6) (stk : q_Stk op opX pE pL pI pB ylo yba yfr yva N P (S + 1)) (pN : p < N) (hS : S < 501) (its : q_Its srt bas len dig dcm sgn tim sig yle ysg) (o1 : 10 ≤ cd op p) (o2 : cd op p ≤ 13) (ux : cd op p = 10 ∨ cd op p = 12 → q_Use srt bas len dig dcm sgn tim sig yle ysg ix (opX p) (fun k => k = 1 ∨ k = 2)) (uy : cd op p = 10 → q_Use srt bas len dig dcm sgn tim sig yle ysg ix (opY p) (fun k => k = 1 ∨ k = 2) ∧ ∃ h, h < 6 ∧ opZ p = nI h) : ∃ (P' i' D' f' : Nat) (ix' st' yen' yju' pc' ya' : Int32) (sto' out' pE' pL' pI' pB' wk' ych' yot' ylo' yba' yfr' yva' : Nat → Int32), StOK sto' ∧ f' ≤ 1 ∧ D' ≤ D + 12 ∧ ((st' = -1 ∧ yen' = -1 ∧ P' ≤ 6 ∧ q_Stk op opX pE' pL' pI' pB' ylo' yba' yfr' yva' N P' (S + 2) ∧ i' < N ∧ pc' = nI i' ∧ ya' = nI i' ∧ q_Rdy op pE' N P' i' yju') ∨ (∃ ρ : Nat, ρ ≤ 3 ∧ st' = nI ρ ∧ yen' = nI ρ)) ∧ (∀ post : SX → Prop, post (nI N, xpa, xop, pl, ck, nI P', pc', st, ix', st', nI f', nI D', sto', srt, bas, len, dig, dcm, sgn, tim, sig, op, opX, opY, opZ, tgt, sta, ins, opn, pE', pL', pI', pB', out', pw, wk') → wX_step_126 post (nI (cd op p)) (opX p) (opY p) (nI N) xpa xop pl ck (nI P) (nI p) st ix (-1) (nI f) (nI D) sto srt bas len dig dcm sgn tim sig op opX opY opZ tgt sta ins opn pE pL pI pB out pw wk) ∧ (∀ post : Int32 → SY → Prop, (∃ n, wY_run_49 post n (nI N) pl ck (nI P') ya' st ix' (nI D') yen' (nI f') yju' sto' srt bas yle dcm tim sig ysg op opX opY opZ out' ych' yot' ylo' pE' pL' yba' yfr' yva') → ∃ n, wY_step_137 (fun u => match u with | (cn, pl, ck, ypf, yat, st, ix, ds, yen, tl, yju, sto, srt, bas, yle, dcm, tim, sig, ysg, op, opX, opY, opZ, out, ych, yot, ylo, pE, pL, yba, yfr, yva) => wY_run_49 post n cn pl ck ypf yat st ix ds yen tl yju sto srt bas yle dcm tim sig ysg op opX opY opZ out ych yot ylo pE pL yba yfr yva) (nI (cd op p)) (opX p) (opY p) (opZ p) (nI N) pl ck (nI P) (nI p) st ix (nI D) (-1) (nI f) 0 sto srt bas yle dcm tim sig ysg op opX opY opZ out ych yot ylo pE pL yba yfr yva) := by
  obtain ⟨i, ych1, yot1, i1, i2, bX, bY⟩ := co_sim (xpa := xpa) (xop := xop) (pl := pl) (ck := ck) (st := st) (ix := ix) (sto := sto) (srt := srt) (bas := bas) (len := len) (dig := dig) (dcm := dcm) (sgn := sgn) (tim := tim) (sig := sig) (op := op) (opX := opX) (opY := opY) (opZ := opZ) (tgt := tgt) (sta := sta) (ins := ins) (opn := opn) (pE := pE) (pL := pL) (pI := pI) (pB := pB) (out := out) (pw := pw) (wk := wk) (yle := yle) (ysg := ysg) (ych := ych) (yot := yot) (ylo := ylo) (yba := yba) (yfr := yfr) (yva := yva) hop wf sok hw f1 hP6 stk pN hS its o1 o2 ux uy (D := D)
  obtain ⟨P', i', D', f', ix', st', yen', yju', pc', ya', sto', out', pE', pL', pI', pB', wk', ych', yot', ylo', yba', yfr', yva', c1, c2, c3, c4, cX, cY⟩ := go_sim (i := i) (D := D) (xpa := xpa) (xop := xop) (pl := pl) (ck := ck) (st := st) (ix := ix) (sto := sto) (srt := srt) (bas := bas) (len := len) (dig := dig) (dcm := dcm) (sgn := sgn) (tim := tim) (sig := sig) (op := op) (opX := opX) (opY := opY) (opZ := opZ) (tgt := tgt) (sta := sta) (ins := ins) (opn := opn) (pE := pE) (pL := pL) (pI := pI) (pB := pB) (out := out) (pw := pw) (wk := wk) (yle := yle) (ysg := ysg) (ych := ych1) (yot := yot1) (ylo := ylo) (yba := yba) (yfr := yfr) (yva := yva) hop wf sok hw f1 hP6 stk pN hS i1 i2
  refine ⟨P', i', D', f', ix', st', yen', yju', pc', ya', sto', out', pE', pL', pI', pB', wk', ych', yot', ylo', yba', yfr', yva', c1, c2, by omega, c4, fun post hP => bX post ?_, fun post h => ?_⟩
  · unfold wX_step_227
    exact cX _ hP
  · obtain ⟨n, hn⟩ := cY post h
    exact ⟨n, bY _ hn⟩
end
end
section
section
variable {cn : Int32} {xpa : Int32} {xop : Int32} {pl : Int32} {ck : Int32} {pf : Int32} {pc : Int32} {st : Int32} {ix : Int32} {xst : Int32} {tl : Int32} {ds : Int32} {sto : Nat → Int32} {srt : Nat → Int32} {bas : Nat → Int32} {len : Nat → Int32} {dig : Nat → Int32} {dcm : Nat → Int32} {sgn : Nat → Int32} {tim : Nat → Int32} {sig : Nat → Int32} {op : Nat → Int32} {opX : Nat → Int32} {opY : Nat → Int32} {opZ : Nat → Int32} {tgt : Nat → Int32} {sta : Nat → Int32} {ins : Nat → Int32} {opn : Nat → Int32} {pE : Nat → Int32} {pL : Nat → Int32} {pI : Nat → Int32} {pB : Nat → Int32} {out : Nat → Int32} {pw : Nat → Int64} {wk : Nat → Int32} {ypf : Int32} {yat : Int32} {yen : Int32} {yju : Int32} {yle : Nat → Int32} {ysg : Nat → Int32} {ych : Nat → Int32} {yot : Nat → Int32} {ylo : Nat → Int32} {yba : Nat → Int32} {yfr : Nat → Int32} {yva : Nat → Int32}
theorem gs_sim {N S P p D f : Nat} (hop : OpOK op) (wf : q_WF op opX opY opZ srt tgt sta ins N) (sok : StOK sto) (hw : PwOK pw) (f1 : f ≤ 1) (hP6 : P ≤ 6) (stk : q_Stk op opX pE pL pI pB ylo yba yfr yva N P (S + 1)) (pN : p < N) (hS : S < 501) (o1 : cd op p = 18) : ∃ (P' i' D' f' : Nat) (ix' st' yen' yju' pc' ya' : Int32) (sto' out' pE' pL' pI' pB' wk' ych' yot' ylo' yba' yfr' yva' : Nat → Int32), StOK sto' ∧ f' ≤ 1 ∧ D' ≤ D + 12 ∧ ((st' = -1 ∧ yen' = -1 ∧ P' ≤ 6 ∧ q_Stk op opX pE' pL' pI' pB' ylo' yba' yfr' yva' N P' (S + 2) ∧ i' < N ∧ pc' = nI i' ∧ ya' = nI i' ∧ q_Rdy op pE' N P' i' yju') ∨ (∃ ρ : Nat, ρ ≤ 3 ∧ st' = nI ρ ∧ yen' = nI ρ)) ∧ (∀ post : SX → Prop, post (nI N, xpa, xop, pl, ck, nI P', pc', st, ix', st', nI f', nI D', sto', srt, bas, len, dig, dcm, sgn, tim, sig, op, opX, opY, opZ, tgt, sta, ins, opn, pE', pL', pI', pB', out', pw, wk') → wX_step_126 post (nI (cd op p)) (opX p) (opY p) (nI N) xpa xop pl ck (nI P) (nI p) st ix (-1) (nI f) (nI D) sto srt bas len dig dcm sgn tim sig op opX opY opZ tgt sta ins opn pE pL pI pB out pw wk) ∧ (∀ post : Int32 → SY → Prop, (∃ n, wY_run_49 post n (nI N) pl ck (nI P') ya' st ix' (nI D') yen' (nI f') yju' sto' srt bas yle dcm tim sig ysg op opX opY opZ out' ych' yot' ylo' pE' pL' yba' yfr' yva') → ∃ n, wY_step_137 (fun u => match u with | (cn, pl, ck, ypf, yat, st, ix, ds, yen, tl, yju, sto, srt, bas, yle, dcm, tim, sig, ysg, op, opX, opY, opZ, out, ych, yot, ylo, pE, pL, yba, yfr, yva) => wY_run_49 post n cn pl ck ypf yat st ix ds yen tl yju sto srt bas yle dcm tim sig ysg op opX opY opZ out ych yot ylo pE pL yba yfr yva) (nI (cd op p)) (opX p) (opY p) (opZ p) (nI N) pl ck (nI P) (nI p) st ix (nI D) (-1) (nI f) 0 sto srt bas yle dcm tim sig ysg op opX opY opZ out ych yot ylo pE pL yba yfr yva) := by
  have hN := wf.2.1
  have hin : vp_in (nI p) 48 := vp_in_nI (by omega) (by omega)
  have hc : (nI p).toNatClampNeg = p := nI_clamp (by omega)
  generalize cd op p = o at o1 ⊢
  subst o1
  refine ⟨P, p, D, f, ix, 0, 0, 0, nI p, nI (p + 1), sto, out, pE, pL, pI, pB, wk, ych, yot, ylo, yba, yfr, yva, sok, f1, by omega, Or.inr ⟨0, by omega, rfl, rfl⟩, fun post hP => ?_, fun post h => ?_⟩
  · unfold wX_step_126
    refine ⟨hin, nm_e ?_⟩
    repeat (first | refine br_t (by decide) ?_ | refine br_f (by decide) ?_)
    exact hP
  · obtain ⟨n, hn⟩ := h
    refine ⟨n, ?_⟩
    unfold wY_step_137
    repeat (first | refine br_t (by decide) ?_ | refine br_f (by decide) ?_)
    exact nm_r (nI_1 _) hn
theorem gg_sim {N S P p D f : Nat} (hop : OpOK op) (wf : q_WF op opX opY opZ srt tgt sta ins N) (sok : StOK sto) (hw : PwOK pw) (f1 : f ≤ 1) (hP6 : P ≤ 6) (stk : q_Stk op opX pE pL pI pB ylo yba yfr yva N P (S + 1)) (pN : p < N) (hS : S < 501) (o1 : cd op p = 17) (gx : ∃ a, opX p = nI a ∧ a < q_pc op N) : ∃ (P' i' D' f' : Nat) (ix' st' yen' yju' pc' ya' : Int32) (sto' out' pE' pL' pI' pB' wk' ych' yot' ylo' yba' yfr' yva' : Nat → Int32), StOK sto' ∧ f' ≤ 1 ∧ D' ≤ D + 12 ∧ ((st' = -1 ∧ yen' = -1 ∧ P' ≤ 6 ∧ q_Stk op opX pE' pL' pI' pB' ylo' yba' yfr' yva' N P' (S + 2) ∧ i' < N ∧ pc' = nI i' ∧ ya' = nI i' ∧ q_Rdy op pE' N P' i' yju') ∨ (∃ ρ : Nat, ρ ≤ 3 ∧ st' = nI ρ ∧ yen' = nI ρ)) ∧ (∀ post : SX → Prop, post (nI N, xpa, xop, pl, ck, nI P', pc', st, ix', st', nI f', nI D', sto', srt, bas, len, dig, dcm, sgn, tim, sig, op, opX, opY, opZ, tgt, sta, ins, opn, pE', pL', pI', pB', out', pw, wk') → wX_step_126 post (nI (cd op p)) (opX p) (opY p) (nI N) xpa xop pl ck (nI P) (nI p) st ix (-1) (nI f) (nI D) sto srt bas len dig dcm sgn tim sig op opX opY opZ tgt sta ins opn pE pL pI pB out pw wk) ∧ (∀ post : Int32 → SY → Prop, (∃ n, wY_run_49 post n (nI N) pl ck (nI P') ya' st ix' (nI D') yen' (nI f') yju' sto' srt bas yle dcm tim sig ysg op opX opY opZ out' ych' yot' ylo' pE' pL' yba' yfr' yva') → ∃ n, wY_step_137 (fun u => match u with | (cn, pl, ck, ypf, yat, st, ix, ds, yen, tl, yju, sto, srt, bas, yle, dcm, tim, sig, ysg, op, opX, opY, opZ, out, ych, yot, ylo, pE, pL, yba, yfr, yva) => wY_run_49 post n cn pl ck ypf yat st ix ds yen tl yju sto srt bas yle dcm tim sig ysg op opX opY opZ out ych yot ylo pE pL yba yfr yva) (nI (cd op p)) (opX p) (opY p) (opZ p) (nI N) pl ck (nI P) (nI p) st ix (nI D) (-1) (nI f) 0 sto srt bas yle dcm tim sig ysg op opX opY opZ out ych yot ylo pE pL yba yfr yva) := by
  have hN := wf.2.1
  have hin : vp_in (nI p) 48 := vp_in_nI (by omega) (by omega)
  have hc : (nI p).toNatClampNeg = p := nI_clamp (by omega)
  have s4 := wf.2.2.2.2.2.2
  obtain ⟨a, ea, a1⟩ := gx
  obtain ⟨j, j1, j2, j3, j4⟩ := s4 a a1
  have plN := pc_le op N
  have ea' := ea
  generalize hx : opX p = x at ea ⊢
  generalize cd op p = o at o1 ⊢
  subst o1
  subst ea
  refine ⟨P, j, D, f, ix, -1, -1, 1, nI j, nI j, sto, out, pE, pL, pI, pB, wk, ych, yot, ylo, yba, yfr, yva, sok, f1, by omega, Or.inl ⟨rfl, rfl, hP6, fun k hk => fk_m (stk k hk) (by omega), j1, rfl, rfl, Or.inl rfl⟩, fun post hP => ?_, fun post h => ?_⟩
  · unfold wX_step_126
    refine ⟨hin, nm_e ?_⟩
    repeat (first | refine br_t (by decide) ?_ | refine br_f (by decide) ?_)
    refine ⟨vp_in_nI (by omega) (by omega), ?_⟩
    rw [nI_clamp (n := a) (by omega), j2]
    exact nm_e hP
  · obtain ⟨n, hn⟩ := h
    refine ⟨n, ?_⟩
    unfold wY_step_137
    repeat (first | refine br_t (by decide) ?_ | refine br_f (by decide) ?_)
    refine yb_beg hop (by omega) j3 j4 (nm_e ?_)
    repeat (first | refine br_t (by decide) ?_ | refine br_f (by decide) ?_)
    exact nm_r (Int32.sub_add_cancel _ _) hn
theorem gf_sim {N S P p D f : Nat} (hop : OpOK op) (wf : q_WF op opX opY opZ srt tgt sta ins N) (sok : StOK sto) (hw : PwOK pw) (f1 : f ≤ 1) (hP6 : P ≤ 6) (stk : q_Stk op opX pE pL pI pB ylo yba yfr yva N P (S + 1)) (pN : p < N) (hS : S < 501) (o1 : cd op p = 15 ∨ cd op p = 16) (gx : ∃ a b, opX p = nI a ∧ opY p = nI b ∧ a ≤ b ∧ b < q_pc op N) : ∃ (P' i' D' f' : Nat) (ix' st' yen' yju' pc' ya' : Int32) (sto' out' pE' pL' pI' pB' wk' ych' yot' ylo' yba' yfr' yva' : Nat → Int32), StOK sto' ∧ f' ≤ 1 ∧ D' ≤ D + 12 ∧ ((st' = -1 ∧ yen' = -1 ∧ P' ≤ 6 ∧ q_Stk op opX pE' pL' pI' pB' ylo' yba' yfr' yva' N P' (S + 2) ∧ i' < N ∧ pc' = nI i' ∧ ya' = nI i' ∧ q_Rdy op pE' N P' i' yju') ∨ (∃ ρ : Nat, ρ ≤ 3 ∧ st' = nI ρ ∧ yen' = nI ρ)) ∧ (∀ post : SX → Prop, post (nI N, xpa, xop, pl, ck, nI P', pc', st, ix', st', nI f', nI D', sto', srt, bas, len, dig, dcm, sgn, tim, sig, op, opX, opY, opZ, tgt, sta, ins, opn, pE', pL', pI', pB', out', pw, wk') → wX_step_126 post (nI (cd op p)) (opX p) (opY p) (nI N) xpa xop pl ck (nI P) (nI p) st ix (-1) (nI f) (nI D) sto srt bas len dig dcm sgn tim sig op opX opY opZ tgt sta ins opn pE pL pI pB out pw wk) ∧ (∀ post : Int32 → SY → Prop, (∃ n, wY_run_49 post n (nI N) pl ck (nI P') ya' st ix' (nI D') yen' (nI f') yju' sto' srt bas yle dcm tim sig ysg op opX opY opZ out' ych' yot' ylo' pE' pL' yba' yfr' yva') → ∃ n, wY_step_137 (fun u => match u with | (cn, pl, ck, ypf, yat, st, ix, ds, yen, tl, yju, sto, srt, bas, yle, dcm, tim, sig, ysg, op, opX, opY, opZ, out, ych, yot, ylo, pE, pL, yba, yfr, yva) => wY_run_49 post n cn pl ck ypf yat st ix ds yen tl yju sto srt bas yle dcm tim sig ysg op opX opY opZ out ych yot ylo pE pL yba yfr yva) (nI (cd op p)) (opX p) (opY p) (opZ p) (nI N) pl ck (nI P) (nI p) st ix (nI D) (-1) (nI f) 0 sto srt bas yle dcm tim sig ysg op opX opY opZ out ych yot ylo pE pL yba yfr yva) := by
  have hN := wf.2.1
  have hin : vp_in (nI p) 48 := vp_in_nI (by omega) (by omega)
  have hc : (nI p).toNatClampNeg = p := nI_clamp (by omega)
  have s4 := wf.2.2.2.2.2.2
  obtain ⟨a, b, ea, eb, ab, bN⟩ := gx
  obtain ⟨j, j1, j2, j3, j4⟩ := s4 a (by omega)
  have plN := pc_le op N
  obtain ⟨v, v1, ev⟩ : ∃ v : Nat, v ≤ 1 ∧ v = (if cd op p = 16 then 1 else 0) := by
    by_cases z : cd op p = 16
    · exact ⟨1, by omega, by rw [if_pos z]⟩
    · exact ⟨0, by omega, by rw [if_neg z]⟩
  have XH : ∀ post : SX → Prop, wX_step_276 post (nI v) (nI N) xpa xop pl ck (nI P) (nI p) st ix (-1) (nI f) (nI D) sto srt bas len dig dcm sgn tim sig op opX opY opZ tgt sta ins opn pE pL pI pB out pw wk → wX_step_126 post (nI (cd op p)) (opX p) (opY p) (nI N) xpa xop pl ck (nI P) (nI p) st ix (-1) (nI f) (nI D) sto srt bas len dig dcm sgn tim sig op opX opY opZ tgt sta ins opn pE pL pI pB out pw wk := by
    intro post K
    unfold wX_step_126
    refine ⟨hin, nm_e ?_⟩
    generalize cd op p = o at o1 ev ⊢
    rcases o1 with rfl | rfl
    · have ev' : v = 0 := ev
      rw [ev'] at K
      repeat (first | exact K | refine br_t (by decide) ?_ | refine br_f (by decide) ?_)
    · have ev' : v = 1 := ev
      rw [ev'] at K
      repeat (first | exact K | refine br_t (by decide) ?_ | refine br_f (by decide) ?_)
  have YH : ∀ post : SY → Prop, wY_step_161 post (opX p) (opY p) (opZ p) (nI v) (nI N) pl ck (nI P) (nI p) st ix (nI D) (-1) (nI f) 0 sto srt bas yle dcm tim sig ysg op opX opY opZ out ych yot ylo pE pL yba yfr yva → wY_step_137 post (nI (cd op p)) (opX p) (opY p) (opZ p) (nI N) pl ck (nI P) (nI p) st ix (nI D) (-1) (nI f) 0 sto srt bas yle dcm tim sig ysg op opX opY opZ out ych yot ylo pE pL yba yfr yva := by
    intro post K
    unfold wY_step_137
    generalize cd op p = o at o1 ev ⊢
    rcases o1 with rfl | rfl
    · have ev' : v = 0 := ev
      rw [ev'] at K
      repeat (first | exact K | refine br_t (by decide) ?_ | refine br_f (by decide) ?_)
    · have ev' : v = 1 := ev
      rw [ev'] at K
      repeat (first | exact K | refine br_t (by decide) ?_ | refine br_f (by decide) ?_)
  by_cases z1 : 1 ≤ opZ p
  · obtain ⟨m, m1, ez⟩ : ∃ m : Nat, m < 2 ^ 31 ∧ opZ p = nI m := by
      refine nI_of (fun y => ?_)
      have h1 := Int32.le_iff_toInt_le.mp z1
      have h2 := Int32.lt_iff_toInt_lt.mp y
      rw [show (0 : Int32).toInt = 0 from by decide] at h2
      rw [show (1 : Int32).toInt = 1 from by decide] at h1
      omega
    have m0 : 1 ≤ m := by
      rw [ez, show (1 : Int32) = nI 1 from rfl, nI_leI (by omega) m1] at z1
      exact z1
    by_cases P6 : P = 6
    · refine ⟨P, p, D, f, ix, 3, 3, 0, nI p, nI p, sto, out, pE, pL, pI, pB, wk, ych, yot, ylo, yba, yfr, yva, sok, f1, by omega, Or.inr ⟨3, by omega, rfl, rfl⟩, fun post hP => XH post ?_, fun post h => ?_⟩
      · unfold wX_step_276 wpX_perform
        refine ⟨hin, ?_⟩
        rw [hc]
        exact nm_e (br_t z1 (br_t (by rw [P6]; rfl) hP))
      · obtain ⟨n, hn⟩ := h
        refine ⟨n, YH _ ?_⟩
        unfold wY_step_161 wpY_perform
        exact br_t z1 (br_t (by rw [P6]; rfl) hn)
    · have hinP : vp_in (nI P) 6 := vp_in_nI (by omega) (by omega)
      have hcP : (nI P).toNatClampNeg = P := nI_clamp (by omega)
      have nP6 : ¬ nI P = 6 := nn_e (b := 6) P6 (by omega) (by omega)
      have enb : vp_nar .byte ((nI b).toInt8.toInt32) = nI b := nb_w (by omega)
      have enp : vp_nar .byte ((nI p).toInt8.toInt32) = nI p := nb_w (by omega)
      refine ⟨P + 1, j, D, f, (if v = 0 then ix else 1), -1, -1, 1, nI j, nI j, sto, out, upd pE P (nI b), upd pL P (nI m), upd pI P (nI v), upd pB P (nI p), wk, ych, yot, upd ylo P (nI a), upd yba P (nI (p + 1)), upd yfr P (nI 1), upd yva P (nI v), sok, f1, by omega, Or.inl ⟨rfl, rfl, by omega, ?_, j1, rfl, rfl, Or.inl rfl⟩, fun post hP => XH post ?_, fun post h => ?_⟩
      · intro k hk
        by_cases e : k = P
        · subst e
          refine ⟨a, b, p, 1, v, m, ⟨pk_us, bN⟩, ⟨pk_us, by omega⟩, ⟨pk_us, pN, ea, pk_us⟩, ⟨pk_us, m0, by omega⟩, ⟨pk_us, by omega, by omega⟩, ⟨pk_us, v1, ?_⟩⟩
          rw [pk_us]
          by_cases z : v = 1
          · rw [if_pos z, z]
          · rw [if_neg z, show v = 0 by omega]
        · obtain ⟨lo, hi, b', f', v', m', t1, t2, t3, t4, ⟨t5, t5a, t5b⟩, t6⟩ := stk k (by omega)
          unfold q_Fk
          rw [pk_un e, pk_un e, pk_un e, pk_un e, pk_un e, pk_un e, pk_un e, pk_un e]
          exact ⟨lo, hi, b', f', v', m', t1, t2, t3, t4, ⟨t5, t5a, by omega⟩, t6⟩
      · have K96 : wX_perform_96 post (nI v) (nI v) (nI P) (nI N) xpa xop pl ck (nI P) (nI p) st ix (-1) (nI f) (nI D) sto srt bas len dig dcm sgn tim sig op opX opY opZ tgt sta ins opn (upd pE P (nI b)) (upd pL P (nI m)) pI pB out pw wk := by
          unfold wX_perform_96
          refine ⟨hinP, ?_⟩
          rw [hcP, enp]
          refine nm_e (nm_r (nI_1 _) ⟨hinP, nm_e ?_⟩)
          rcases (by omega : v = 0 ∨ v = 1) with rfl | rfl
          · refine br_t rfl ?_
            unfold wX_perform_127
            refine ⟨hin, ?_⟩
            rw [hc, ea, nI_clamp (n := a) (by omega), j2]
            exact ⟨vp_in_nI (by omega) (by omega), nm_e hP⟩
          · refine br_f (by decide) ?_
            unfold wX_perform_127
            refine ⟨hin, ?_⟩
            rw [hc, ea, nI_clamp (n := a) (by omega), j2]
            exact ⟨vp_in_nI (by omega) (by omega), nm_e hP⟩
        unfold wX_step_276 wpX_perform
        refine ⟨hin, ?_⟩
        rw [hc, hcP, eb, enb]
        refine nm_e (br_t z1 (br_f nP6 ⟨hin, hinP, nm_e ⟨hinP, ?_⟩⟩))
        rw [ez]
        refine nm_e ?_
        rcases (by omega : v = 0 ∨ v = 1) with rfl | rfl
        · exact br_t rfl K96
        · exact br_f (by decide) K96
      · obtain ⟨n, hn⟩ := h
        refine ⟨n, YH _ ?_⟩
        unfold wY_step_161 wpY_perform
        refine br_t z1 (br_f nP6 ⟨hinP, ?_⟩)
        rw [hcP, ea, eb, ez, nI_1 p, nb_bz v1]
        refine nm_e ⟨hinP, nm_e ⟨hinP, nm_e ⟨hinP, nm_e ⟨hinP, nm_e ⟨hinP, nm_e (nm_r (nI_1 _) ?_)⟩⟩⟩⟩⟩
        rcases (by omega : v = 0 ∨ v = 1) with rfl | rfl
        · refine br_t rfl ?_
          unfold wY_perform_117
          exact yb_beg hop (by omega) j3 j4 hn
        · refine br_f (by decide) ?_
          unfold wY_perform_117
          exact yb_beg hop (by omega) j3 j4 hn
  · obtain ⟨P', i', D', f', ix', st', yen', yju', pc', ya', sto', out', pE', pL', pI', pB', wk', ych', yot', ylo', yba', yfr', yva', c1, c2, c3, c4, cX, cY⟩ := go_sim (i := p + 1) (D := D) (xpa := xpa) (xop := xop) (pl := pl) (ck := ck) (st := st) (ix := ix) (sto := sto) (srt := srt) (bas := bas) (len := len) (dig := dig) (dcm := dcm) (sgn := sgn) (tim := tim) (sig := sig) (op := op) (opX := opX) (opY := opY) (opZ := opZ) (tgt := tgt) (sta := sta) (ins := ins) (opn := opn) (pE := pE) (pL := pL) (pI := pI) (pB := pB) (out := out) (pw := pw) (wk := wk) (yle := yle) (ysg := ysg) (ych := ych) (yot := yot) (ylo := ylo) (yba := yba) (yfr := yfr) (yva := yva) hop wf sok hw f1 hP6 stk pN hS (by omega) rfl
    refine ⟨P', i', D', f', ix', st', yen', yju', pc', ya', sto', out', pE', pL', pI', pB', wk', ych', yot', ylo', yba', yfr', yva', c1, c2, by omega, c4, fun post hP => XH post ?_, fun post h => ?_⟩
    · unfold wX_step_276 wpX_perform
      refine ⟨hin, ?_⟩
      rw [hc, nI_1 p]
      exact nm_e (br_f z1 ⟨hin, cX _ hP⟩)
    · obtain ⟨n, hn⟩ := cY post h
      refine ⟨n, YH _ ?_⟩
      unfold wY_step_161 wpY_perform
      exact br_f z1 (nm_r (nI_1 _) hn)
end
end
section
section
variable {cn : Int32} {xpa : Int32} {xop : Int32} {pl : Int32} {ck : Int32} {pf : Int32} {pc : Int32} {st : Int32} {ix : Int32} {xst : Int32} {tl : Int32} {ds : Int32} {sto : Nat → Int32} {srt : Nat → Int32} {bas : Nat → Int32} {len : Nat → Int32} {dig : Nat → Int32} {dcm : Nat → Int32} {sgn : Nat → Int32} {tim : Nat → Int32} {sig : Nat → Int32} {op : Nat → Int32} {opX : Nat → Int32} {opY : Nat → Int32} {opZ : Nat → Int32} {tgt : Nat → Int32} {sta : Nat → Int32} {ins : Nat → Int32} {opn : Nat → Int32} {pE : Nat → Int32} {pL : Nat → Int32} {pI : Nat → Int32} {pB : Nat → Int32} {out : Nat → Int32} {pw : Nat → Int64} {wk : Nat → Int32} {ypf : Int32} {yat : Int32} {yen : Int32} {yju : Int32} {yle : Nat → Int32} {ysg : Nat → Int32} {ych : Nat → Int32} {yot : Nat → Int32} {ylo : Nat → Int32} {yba : Nat → Int32} {yfr : Nat → Int32} {yva : Nat → Int32}
theorem sq_sim {N S P p D f : Nat} (hop : OpOK op) (wf : q_WF op opX opY opZ srt tgt sta ins N) (sok : StOK sto) (hw : PwOK pw) (f1 : f ≤ 1) (hP6 : P ≤ 6) (stk : q_Stk op opX pE pL pI pB ylo yba yfr yva N P (S + 1)) (pN : p < N) (hS : S < 501) (its : q_Its srt bas len dig dcm sgn tim sig yle ysg) (hs : SrtOK srt) (hD : D < 49000) (ux : (1 ≤ cd op p ∧ cd op p ≤ 10) ∨ cd op p = 12 ∨ cd op p = 19 ∨ cd op p = 20 ∨ cd op p = 22 → opX p = 16 ∨ q_Use srt bas len dig dcm sgn tim sig yle ysg ix (opX p) (fun k => k = q_kx srt (opX p))) (uy : (1 ≤ cd op p ∧ cd op p ≤ 10) ∨ cd op p = 22 → q_Use srt bas len dig dcm sgn tim sig yle ysg ix (opY p) (fun k => k = q_kx srt (opY p))) : ∃ (P' i' D' f' : Nat) (ix' st' yen' yju' pc' ya' : Int32) (sto' out' pE' pL' pI' pB' wk' ych' yot' ylo' yba' yfr' yva' : Nat → Int32), StOK sto' ∧ f' ≤ 1 ∧ D' ≤ D + 12 ∧ ((st' = -1 ∧ yen' = -1 ∧ P' ≤ 6 ∧ q_Stk op opX pE' pL' pI' pB' ylo' yba' yfr' yva' N P' (S + 2) ∧ i' < N ∧ pc' = nI i' ∧ ya' = nI i' ∧ q_Rdy op pE' N P' i' yju') ∨ (∃ ρ : Nat, ρ ≤ 3 ∧ st' = nI ρ ∧ yen' = nI ρ)) ∧ (∀ post : SX → Prop, post (nI N, xpa, xop, pl, ck, nI P', pc', st, ix', st', nI f', nI D', sto', srt, bas, len, dig, dcm, sgn, tim, sig, op, opX, opY, opZ, tgt, sta, ins, opn, pE', pL', pI', pB', out', pw, wk') → wX_step_126 post (nI (cd op p)) (opX p) (opY p) (nI N) xpa xop pl ck (nI P) (nI p) st ix (-1) (nI f) (nI D) sto srt bas len dig dcm sgn tim sig op opX opY opZ tgt sta ins opn pE pL pI pB out pw wk) ∧ (∀ post : Int32 → SY → Prop, (∃ n, wY_run_49 post n (nI N) pl ck (nI P') ya' st ix' (nI D') yen' (nI f') yju' sto' srt bas yle dcm tim sig ysg op opX opY opZ out' ych' yot' ylo' pE' pL' yba' yfr' yva') → ∃ n, wY_step_137 (fun u => match u with | (cn, pl, ck, ypf, yat, st, ix, ds, yen, tl, yju, sto, srt, bas, yle, dcm, tim, sig, ysg, op, opX, opY, opZ, out, ych, yot, ylo, pE, pL, yba, yfr, yva) => wY_run_49 post n cn pl ck ypf yat st ix ds yen tl yju sto srt bas yle dcm tim sig ysg op opX opY opZ out ych yot ylo pE pL yba yfr yva) (nI (cd op p)) (opX p) (opY p) (opZ p) (nI N) pl ck (nI P) (nI p) st ix (nI D) (-1) (nI f) 0 sto srt bas yle dcm tim sig ysg op opX opY opZ out ych yot ylo pE pL yba yfr yva) := by
  have hl := oc_l hop p
  obtain ⟨g1, g2, g10, g12, g15, g17, g19, g20, g22⟩ := wf.2.2.2.1 p pN
  rcases (by clear g1 g2 g10 g12 g15 g17 g19 g20 g22 ux uy; omega : (cd op p = 0 ∨ cd op p = 14) ∨ cd op p = 1 ∨ (2 ≤ cd op p ∧ cd op p ≤ 9) ∨ (10 ≤ cd op p ∧ cd op p ≤ 13) ∨ (cd op p = 15 ∨ cd op p = 16) ∨ cd op p = 17 ∨ cd op p = 18 ∨ cd op p = 19 ∨ cd op p = 20 ∨ cd op p = 21 ∨ cd op p = 22) with c | c | c | c | c | c | c | c | c | c | c
  · exact gp_sim hop wf sok hw f1 hP6 stk pN hS (by omega) (pl_014 (cn := nI N) (xpa := xpa) (xop := xop) (pl := pl) (ck := ck) (pf := nI P) (pc := nI p) (st := st) (ix := ix) (xst := -1) (sto := sto) (srt := srt) (bas := bas) (len := len) (dig := dig) (dcm := dcm) (sgn := sgn) (tim := tim) (sig := sig) (op := op) (opX := opX) (opY := opY) (opZ := opZ) (tgt := tgt) (sta := sta) (ins := ins) (opn := opn) (pE := pE) (pL := pL) (pI := pI) (pB := pB) (out := out) (pw := pw) (wk := wk) (ypf := nI P) (yen := -1) (yju := 0) (yle := yle) (ysg := ysg) (ych := ych) (yot := yot) (ylo := ylo) (yba := yba) (yfr := yfr) (yva := yva) c sok f1)
  · exact gp_sim hop wf sok hw f1 hP6 stk pN hS (by omega) (pl_1 (cn := nI N) (xpa := xpa) (xop := xop) (pl := pl) (ck := ck) (pf := nI P) (pc := nI p) (st := st) (ix := ix) (xst := -1) (sto := sto) (srt := srt) (bas := bas) (len := len) (dig := dig) (dcm := dcm) (sgn := sgn) (tim := tim) (sig := sig) (op := op) (opX := opX) (opY := opY) (opZ := opZ) (tgt := tgt) (sta := sta) (ins := ins) (opn := opn) (pE := pE) (pL := pL) (pI := pI) (pB := pB) (out := out) (pw := pw) (wk := wk) (ypf := nI P) (yen := -1) (yju := 0) (yle := yle) (ysg := ysg) (ych := ych) (yot := yot) (ylo := ylo) (yba := yba) (yfr := yfr) (yva := yva) c sok hw f1 ((ux (by omega)).imp id (fun h => us_w h (fun _ _ => trivial))) (us_w (uy (by omega)) (fun _ _ => trivial)))
  · obtain ⟨e1, e2⟩ := g2 c
    refine gp_sim hop wf sok hw f1 hP6 stk pN hS (by omega) (pl_29 (cn := nI N) (xpa := xpa) (xop := xop) (pl := pl) (ck := ck) (pf := nI P) (pc := nI p) (st := st) (ix := ix) (xst := -1) (sto := sto) (srt := srt) (bas := bas) (len := len) (dig := dig) (dcm := dcm) (sgn := sgn) (tim := tim) (sig := sig) (op := op) (opX := opX) (opY := opY) (opZ := opZ) (tgt := tgt) (sta := sta) (ins := ins) (opn := opn) (pE := pE) (pL := pL) (pI := pI) (pB := pB) (out := out) (pw := pw) (wk := wk) (ypf := nI P) (yen := -1) (yju := 0) (yle := yle) (ysg := ysg) (ych := ych) (yot := yot) (ylo := ylo) (yba := yba) (yfr := yfr) (yva := yva) c.1 c.2 sok hw ?_ (us_w (uy (by omega)) (fun k hk => by rw [hk]; exact e1)))
    rcases e2 with q | q
    · exact Or.inl q
    · exact (ux (by omega)).imp id (fun h => us_w h (fun k hk => by rw [hk]; exact q))
  · refine gc_sim hop wf sok hw f1 hP6 stk pN hS its c.1 c.2 (fun y => ?_) (fun y => ?_)
    · have n16 : q_kx srt (opX p) = 1 ∨ q_kx srt (opX p) = 2 := by
        rcases y with y | y
        · exact (g10 y).1
        · exact g12 y
      rcases ux (by omega) with q | q
      · rw [q] at n16
        have : q_kx srt 16 = 0 := by
          unfold q_kx
          rw [if_neg (by decide)]
        omega
      · exact us_w q (fun k hk => by rw [hk]; exact n16)
    · obtain ⟨e1, e2, e3⟩ := g10 y
      exact ⟨us_w (uy (by omega)) (fun k hk => by rw [hk]; exact e2), e3⟩
  · exact gf_sim hop wf sok hw f1 hP6 stk pN hS c (g15 c)
  · exact gg_sim hop wf sok hw f1 hP6 stk pN hS c (g17 c)
  · exact gs_sim hop wf sok hw f1 hP6 stk pN hS c
  · exact gp_sim hop wf sok hw f1 hP6 stk pN hS (by omega) (pl_19 (cn := nI N) (xpa := xpa) (xop := xop) (pl := pl) (ck := ck) (pf := nI P) (pc := nI p) (st := st) (ix := ix) (xst := -1) (sto := sto) (srt := srt) (bas := bas) (len := len) (dig := dig) (dcm := dcm) (sgn := sgn) (tim := tim) (sig := sig) (op := op) (opX := opX) (opY := opY) (opZ := opZ) (tgt := tgt) (sta := sta) (ins := ins) (opn := opn) (pE := pE) (pL := pL) (pI := pI) (pB := pB) (out := out) (pw := pw) (wk := wk) (ypf := nI P) (yen := -1) (yju := 0) (yle := yle) (ysg := ysg) (ych := ych) (yot := yot) (ylo := ylo) (yba := yba) (yfr := yfr) (yva := yva) c sok f1 (by omega) ((ux (by omega)).imp id (fun h => us_w h (fun _ _ => trivial))))
  · refine gp_sim hop wf sok hw f1 hP6 stk pN hS (by omega) (pl_20 (cn := nI N) (xpa := xpa) (xop := xop) (pl := pl) (ck := ck) (pf := nI P) (pc := nI p) (st := st) (ix := ix) (xst := -1) (sto := sto) (srt := srt) (bas := bas) (len := len) (dig := dig) (dcm := dcm) (sgn := sgn) (tim := tim) (sig := sig) (op := op) (opX := opX) (opY := opY) (opZ := opZ) (tgt := tgt) (sta := sta) (ins := ins) (opn := opn) (pE := pE) (pL := pL) (pI := pI) (pB := pB) (out := out) (pw := pw) (wk := wk) (ypf := nI P) (yen := -1) (yju := 0) (yle := yle) (ysg := ysg) (ych := ych) (yot := yot) (ylo := ylo) (yba := yba) (yfr := yfr) (yva := yva) c sok hw f1 ?_)
    rcases g20 c with q | q
    · exact Or.inl q
    · exact (ux (by omega)).imp id (fun h => us_w h (fun k hk => by rw [hk]; exact q))
  · exact gp_sim hop wf sok hw f1 hP6 stk pN hS (by omega) (pl_21 (cn := nI N) (xpa := xpa) (xop := xop) (pl := pl) (ck := ck) (pf := nI P) (pc := nI p) (st := st) (ix := ix) (xst := -1) (sto := sto) (srt := srt) (bas := bas) (len := len) (dig := dig) (dcm := dcm) (sgn := sgn) (tim := tim) (sig := sig) (op := op) (opX := opX) (opY := opY) (opZ := opZ) (tgt := tgt) (sta := sta) (ins := ins) (opn := opn) (pE := pE) (pL := pL) (pI := pI) (pB := pB) (out := out) (pw := pw) (wk := wk) (ypf := nI P) (yen := -1) (yju := 0) (yle := yle) (ysg := ysg) (ych := ych) (yot := yot) (ylo := ylo) (yba := yba) (yfr := yfr) (yva := yva) c sok f1)
  · obtain ⟨e1, e2⟩ := g22 c
    refine gp_sim hop wf sok hw f1 hP6 stk pN hS (by omega) (pl_22 (cn := nI N) (xpa := xpa) (xop := xop) (pl := pl) (ck := ck) (pf := nI P) (pc := nI p) (st := st) (ix := ix) (xst := -1) (sto := sto) (srt := srt) (bas := bas) (len := len) (dig := dig) (dcm := dcm) (sgn := sgn) (tim := tim) (sig := sig) (op := op) (opX := opX) (opY := opY) (opZ := opZ) (tgt := tgt) (sta := sta) (ins := ins) (opn := opn) (pE := pE) (pL := pL) (pI := pI) (pB := pB) (out := out) (pw := pw) (wk := wk) (ypf := nI P) (yen := -1) (yju := 0) (yle := yle) (ysg := ysg) (ych := ych) (yot := yot) (ylo := ylo) (yba := yba) (yfr := yfr) (yva := yva) c sok hw f1 ?_ (us_w (uy (by omega)) (fun k hk => by rw [hk]; exact e2)))
    rcases ux (by omega) with q | q
    · rw [q] at e1
      have : q_kx srt 16 = 0 := by
        unfold q_kx
        rw [if_neg (by decide)]
      omega
    · exact us_w q (fun _ _ => trivial)
theorem sp_sim {N S P p D f : Nat} (hop : OpOK op) (wf : q_WF op opX opY opZ srt tgt sta ins N) (sok : StOK sto) (hw : PwOK pw) (f1 : f ≤ 1) (hP6 : P ≤ 6) (stk : q_Stk op opX pE pL pI pB ylo yba yfr yva N P (S + 1)) (pN : p < N) (hS : S < 501) (its : q_Its srt bas len dig dcm sgn tim sig yle ysg) (hs : SrtOK srt) (hD : D < 49000) :
    ∃ (P' i' D' f' : Nat) (ix' st' yen' yju' pc' ya' : Int32) (sto' out' pE' pL' pI' pB' wk' ych' yot' ylo' yba' yfr' yva' : Nat → Int32), StOK sto' ∧ f' ≤ 1 ∧ D' ≤ D + 12 ∧ ((st' = -1 ∧ yen' = -1 ∧ P' ≤ 6 ∧ q_Stk op opX pE' pL' pI' pB' ylo' yba' yfr' yva' N P' (S + 2) ∧ i' < N ∧ pc' = nI i' ∧ ya' = nI i' ∧ q_Rdy op pE' N P' i' yju') ∨ (∃ ρ : Nat, ρ ≤ 3 ∧ st' = nI ρ ∧ yen' = nI ρ)) ∧ (∀ post : SX → Prop, post (nI N, xpa, xop, pl, ck, nI P', pc', st, ix', st', nI f', nI D', sto', srt, bas, len, dig, dcm, sgn, tim, sig, op, opX, opY, opZ, tgt, sta, ins, opn, pE', pL', pI', pB', out', pw, wk') → wpX_step post (nI N, xpa, xop, pl, ck, nI P, nI p, st, ix, -1, nI f, nI D, sto, srt, bas, len, dig, dcm, sgn, tim, sig, op, opX, opY, opZ, tgt, sta, ins, opn, pE, pL, pI, pB, out, pw, wk)) ∧ (∀ post : Int32 → SY → Prop, (∃ n, wY_run_49 post n (nI N) pl ck (nI P') ya' st ix' (nI D') yen' (nI f') yju' sto' srt bas yle dcm tim sig ysg op opX opY opZ out' ych' yot' ylo' pE' pL' yba' yfr' yva') → ∃ n, wpY_step (fun u => match u with | (cn, pl, ck, ypf, yat, st, ix, ds, yen, tl, yju, sto, srt, bas, yle, dcm, tim, sig, ysg, op, opX, opY, opZ, out, ych, yot, ylo, pE, pL, yba, yfr, yva) => wY_run_49 post n cn pl ck ypf yat st ix ds yen tl yju sto srt bas yle dcm tim sig ysg op opX opY opZ out ych yot ylo pE pL yba yfr yva) (nI N, pl, ck, nI P, nI p, st, ix, nI D, -1, nI f, 0, sto, srt, bas, yle, dcm, tim, sig, ysg, op, opX, opY, opZ, out, ych, yot, ylo, pE, pL, yba, yfr, yva)) := by
  have hN := wf.2.1
  rcases pr_sim (p := p) (N := N) (cn := nI N) (xpa := xpa) (xop := xop) (pl := pl) (ck := ck) (pf := nI P) (st := st) (ix := ix) (xst := -1) (tl := nI f) (ds := nI D) (sto := sto) (srt := srt) (bas := bas) (len := len) (dig := dig) (dcm := dcm) (sgn := sgn) (tim := tim) (sig := sig) (op := op) (opX := opX) (opY := opY) (opZ := opZ) (tgt := tgt) (sta := sta) (ins := ins) (opn := opn) (pE := pE) (pL := pL) (pI := pI) (pB := pB) (out := out) (pw := pw) (wk := wk) (ypf := nI P) (yen := -1) (yju := 0) (yle := yle) (ysg := ysg) (ych := ych) (yot := yot) (ylo := ylo) (yba := yba) (yfr := yfr) (yva := yva) (by omega) its hs hop (wf.2.2.2.1 p pN) with ⟨fX, fY⟩ | ⟨ux, uy, kX, kY⟩
  · refine ⟨P, p, D, f, ix, 2, 2, 0, nI p, nI p, sto, out, pE, pL, pI, pB, wk, ych, yot, ylo, yba, yfr, yva, sok, f1, by omega, Or.inr ⟨2, by omega, rfl, rfl⟩, fun post hP => fX post hP, fun post h => ?_⟩
    obtain ⟨n, hn⟩ := h
    exact ⟨n, fY _ hn⟩
  · obtain ⟨P', i', D', f', ix', st', yen', yju', pc', ya', sto', out', pE', pL', pI', pB', wk', ych', yot', ylo', yba', yfr', yva', c1, c2, c3, c4, cX, cY⟩ := sq_sim (xpa := xpa) (xop := xop) (pl := pl) (ck := ck) (st := st) (ix := ix) (sto := sto) (srt := srt) (bas := bas) (len := len) (dig := dig) (dcm := dcm) (sgn := sgn) (tim := tim) (sig := sig) (op := op) (opX := opX) (opY := opY) (opZ := opZ) (tgt := tgt) (sta := sta) (ins := ins) (opn := opn) (pE := pE) (pL := pL) (pI := pI) (pB := pB) (out := out) (pw := pw) (wk := wk) (yle := yle) (ysg := ysg) (ych := ych) (yot := yot) (ylo := ylo) (yba := yba) (yfr := yfr) (yva := yva) hop wf sok hw f1 hP6 stk pN hS its hs hD ux uy
    refine ⟨P', i', D', f', ix', st', yen', yju', pc', ya', sto', out', pE', pL', pI', pB', wk', ych', yot', ylo', yba', yfr', yva', c1, c2, c3, c4, fun post hP => kX post (cX post hP), fun post h => ?_⟩
    obtain ⟨n, hn⟩ := cY post h
    exact ⟨n, kY _ hn⟩
end
end
section
section
variable {cn : Int32} {xpa : Int32} {xop : Int32} {pl : Int32} {ck : Int32} {pf : Int32} {pc : Int32} {st : Int32} {ix : Int32} {xst : Int32} {tl : Int32} {ds : Int32} {sto : Nat → Int32} {srt : Nat → Int32} {bas : Nat → Int32} {len : Nat → Int32} {dig : Nat → Int32} {dcm : Nat → Int32} {sgn : Nat → Int32} {tim : Nat → Int32} {sig : Nat → Int32} {op : Nat → Int32} {opX : Nat → Int32} {opY : Nat → Int32} {opZ : Nat → Int32} {tgt : Nat → Int32} {sta : Nat → Int32} {ins : Nat → Int32} {opn : Nat → Int32} {pE : Nat → Int32} {pL : Nat → Int32} {pI : Nat → Int32} {pB : Nat → Int32} {out : Nat → Int32} {pw : Nat → Int64} {wk : Nat → Int32} {ypf : Int32} {yat : Int32} {yen : Int32} {yju : Int32} {yle : Nat → Int32} {ysg : Nat → Int32} {ych : Nat → Int32} {yot : Nat → Int32} {ylo : Nat → Int32} {yba : Nat → Int32} {yfr : Nat → Int32} {yva : Nat → Int32}
theorem rn_l {N : Nat} (hop : OpOK op) (wf : q_WF op opX opY opZ srt tgt sta ins N) (hw : PwOK pw) (its : q_Its srt bas len dig dcm sgn tim sig yle ysg) (hs : SrtOK srt) : ∀ (r S : Nat), S + r = 500 → ∀ (P p D f : Nat) (ix yju : Int32) (sto out pE pL pI pB wk ych yot ylo yba yfr yva : Nat → Int32), StOK sto → f ≤ 1 → D ≤ 12 * S → P ≤ 6 → q_Stk op opX pE pL pI pB ylo yba yfr yva N P (S + 1) → p < N → q_Rdy op pE N P p yju →
    ∃ (ρ D' f' : Nat) (pf' pc' st' ix' yat' yju' : Int32) (sto' out' pE' pL' pI' pB' wk' ych' yot' ylo' yba' yfr' yva' : Nat → Int32), StOK sto' ∧ f' ≤ 1 ∧ D' ≤ 6000 ∧ (∀ post : Int32 → SX → Prop, post (nI ρ) (nI N, xpa, xop, pl, ck, pf', pc', st', ix', nI ρ, nI f', nI D', sto', srt, bas, len, dig, dcm, sgn, tim, sig, op, opX, opY, opZ, tgt, sta, ins, opn, pE', pL', pI', pB', out', pw, wk') → ∃ n, wX_run_44 post n (nI N) xpa xop pl ck (nI P) (nI p) (nI S) ix (-1) (nI f) (nI D) sto srt bas len dig dcm sgn tim sig op opX opY opZ tgt sta ins opn pE pL pI pB out pw wk) ∧ (∀ post : Int32 → SY → Prop, post (nI ρ) (nI N, pl, ck, pf', yat', st', ix', nI D', nI ρ, nI f', yju', sto', srt, bas, yle, dcm, tim, sig, ysg, op, opX, opY, opZ, out', ych', yot', ylo', pE', pL', yba', yfr', yva') → ∃ n, wY_run_49 post n (nI N) pl ck (nI P) (nI p) (nI S) ix (nI D) (-1) (nI f) yju sto srt bas yle dcm tim sig ysg op opX opY opZ out ych yot ylo pE pL yba yfr yva) := by
  have hN := wf.2.1
  intro r
  induction r with
  | zero =>
    intro S hS P p D f ix yju sto out pE pL pI pB wk ych yot ylo yba yfr yva sok f1 hD hP6 stk pN rdy
    obtain rfl : S = 500 := by omega
    refine ⟨1, D, f, nI P, nI p, nI 500, ix, nI p, yju, sto, out, pE, pL, pI, pB, wk, ych, yot, ylo, yba, yfr, yva, sok, f1, by omega, fun post hP => ⟨2, ?_⟩, fun post hP => ⟨2, ?_⟩⟩
    · exact br_f (by decide) (br_t rfl (br_t (by decide) hP))
    · refine yr_96 hN hP6 hop (by omega) rdy ?_
      unfold wY_run_96 wY_run_97
      exact br_t rfl (br_t (nI_lt pN (by omega)) (br_t rfl (br_t (by decide) hP)))
  | succ r ih =>
    intro S hS P p D f ix yju sto out pE pL pI pB wk ych yot ylo yba yfr yva sok f1 hD hP6 stk pN rdy
    have nS : ¬ nI S = 500 := nn_e (b := 500) (by omega) (by omega) (by omega)
    obtain ⟨P', i', D', f', ix', st', yen', yju', pc', ya', sto', out', pE', pL', pI', pB', wk', ych', yot', ylo', yba', yfr', yva', c1, c2, c3, c4, cX, cY⟩ := sp_sim (D := D) (xpa := xpa) (xop := xop) (pl := pl) (ck := ck) (st := nI (S + 1)) (ix := ix) (sto := sto) (srt := srt) (bas := bas) (len := len) (dig := dig) (dcm := dcm) (sgn := sgn) (tim := tim) (sig := sig) (op := op) (opX := opX) (opY := opY) (opZ := opZ) (tgt := tgt) (sta := sta) (ins := ins) (opn := opn) (pE := pE) (pL := pL) (pI := pI) (pB := pB) (out := out) (pw := pw) (wk := wk) (yle := yle) (ysg := ysg) (ych := ych) (yot := yot) (ylo := ylo) (yba := yba) (yfr := yfr) (yva := yva) hop wf sok hw f1 hP6 stk pN (by omega) its hs (by omega)
    have X1 : ∀ (post : Int32 → SX → Prop), (∃ n, wX_run_44 post n (nI N) xpa xop pl ck (nI P') pc' (nI (S + 1)) ix' st' (nI f') (nI D') sto' srt bas len dig dcm sgn tim sig op opX opY opZ tgt sta ins opn pE' pL' pI' pB' out' pw wk') → ∃ n, wX_run_44 post n (nI N) xpa xop pl ck (nI P) (nI p) (nI S) ix (-1) (nI f) (nI D) sto srt bas len dig dcm sgn tim sig op opX opY opZ tgt sta ins opn pE pL pI pB out pw wk := by
      intro post h
      obtain ⟨n, hn⟩ := h
      exact ⟨n + 1, br_f (by decide) (br_f nS (nm_r (nI_1 _) (cX _ hn)))⟩
    have Y1 : ∀ (post : Int32 → SY → Prop), (∃ n, wY_run_49 post n (nI N) pl ck (nI P') ya' (nI (S + 1)) ix' (nI D') yen' (nI f') yju' sto' srt bas yle dcm tim sig ysg op opX opY opZ out' ych' yot' ylo' pE' pL' yba' yfr' yva') → ∃ n, wY_run_49 post n (nI N) pl ck (nI P) (nI p) (nI S) ix (nI D) (-1) (nI f) yju sto srt bas yle dcm tim sig ysg op opX opY opZ out ych yot ylo pE pL yba yfr yva := by
      intro post h
      obtain ⟨n, hn⟩ := cY post h
      refine ⟨n + 1, yr_96 hN hP6 hop (by omega) rdy ?_⟩
      unfold wY_run_96 wY_run_97
      exact br_t rfl (br_t (nI_lt pN (by omega)) (br_f nS (nm_r (nI_1 _) hn)))
    rcases c4 with ⟨e1, e2, e3, e4, e5, e6, e7, e8⟩ | ⟨ρ, r3, e1, e2⟩
    · subst e1 e2 e6 e7
      obtain ⟨ρ, D2, f2, pf2, pc2, st2, ix2, yat2, yju2, sto2, out2, pE2, pL2, pI2, pB2, wk2, ych2, yot2, ylo2, yba2, yfr2, yva2, k1, k2, k3, kX, kY⟩ := ih (S + 1) (by omega) P' i' D' f' ix' yju' sto' out' pE' pL' pI' pB' wk' ych' yot' ylo' yba' yfr' yva' c1 c2 (by omega) e3 e4 e5 e8
      exact ⟨ρ, D2, f2, pf2, pc2, st2, ix2, yat2, yju2, sto2, out2, pE2, pL2, pI2, pB2, wk2, ych2, yot2, ylo2, yba2, yfr2, yva2, k1, k2, k3, fun post hP => X1 post (kX post hP), fun post hP => Y1 post (kY post hP)⟩
    · subst e1 e2
      exact ⟨ρ, D', f', nI P', pc', nI (S + 1), ix', ya', yju', sto', out', pE', pL', pI', pB', wk', ych', yot', ylo', yba', yfr', yva', c1, c2, by omega, fun post hP => X1 post ⟨1, br_t (nI_pos' (by omega)) hP⟩, fun post hP => Y1 post ⟨1, br_t (nI_pos' (by omega)) hP⟩⟩
theorem rn_sim {N : Nat} (hop : OpOK op) (wf : q_WF op opX opY opZ srt tgt sta ins N) (hw : PwOK pw) (its : q_Its srt bas len dig dcm sgn tim sig yle ysg) (hs : SrtOK srt) (sok : StOK sto) (hck : ¬ ck = 0) :
    ∃ (ρ D' f' : Nat) (pf' pc' st' ix' yat' yju' : Int32) (sto' out' pE' pL' pI' pB' wk' ych' yot' ylo' yba' yfr' yva' : Nat → Int32), StOK sto' ∧ f' ≤ 1 ∧ D' ≤ 6000 ∧ (∀ post : Int32 → SX → Prop, post (nI ρ) (nI N, xpa, xop, pl, ck, pf', pc', st', ix', nI ρ, nI f', nI D', sto', srt, bas, len, dig, dcm, sgn, tim, sig, op, opX, opY, opZ, tgt, sta, ins, opn, pE', pL', pI', pB', out', pw, wk') → wpX_run post (nI N, xpa, xop, pl, ck, pf, pc, st, ix, xst, tl, ds, sto, srt, bas, len, dig, dcm, sgn, tim, sig, op, opX, opY, opZ, tgt, sta, ins, opn, pE, pL, pI, pB, out, pw, wk)) ∧ (∀ post : Int32 → SY → Prop, post (nI ρ) (nI N, pl, ck, pf', yat', st', ix', nI D', nI ρ, nI f', yju', sto', srt, bas, yle, dcm, tim, sig, ysg, op, opX, opY, opZ, out', ych', yot', ylo', pE', pL', yba', yfr', yva') → wpY_run post (nI N, pl, ck, ypf, yat, st, ix, ds, yen, tl, yju, sto, srt, bas, yle, dcm, tim, sig, ysg, op, opX, opY, opZ, out, ych, yot, ylo, pE, pL, yba, yfr, yva)) := by
  obtain ⟨ρ, D2, f2, pf2, pc2, st2, ix2, yat2, yju2, sto2, out2, pE2, pL2, pI2, pB2, wk2, ych2, yot2, ylo2, yba2, yfr2, yva2, k1, k2, k3, kX, kY⟩ := rn_l (xpa := xpa) (xop := xop) (pl := pl) (ck := ck) (srt := srt) (bas := bas) (len := len) (dig := dig) (dcm := dcm) (sgn := sgn) (tim := tim) (sig := sig) (op := op) (opX := opX) (opY := opY) (opZ := opZ) (tgt := tgt) (sta := sta) (ins := ins) (opn := opn) (pw := pw) (yle := yle) (ysg := ysg) hop wf hw its hs 500 0 (by omega) 0 0 0 0 1 1 sto out pE pL pI pB wk ych yot ylo yba yfr yva sok (by omega) (by omega) (by omega) (fun k hk => by omega) wf.1 (Or.inl rfl)
  refine ⟨ρ, D2, f2, pf2, pc2, st2, ix2, yat2, yju2, sto2, out2, pE2, pL2, pI2, pB2, wk2, ych2, yot2, ylo2, yba2, yfr2, yva2, k1, k2, k3, fun post hP => ?_, fun post hP => ?_⟩
  · unfold wpX_run
    exact br_f hck (kX post hP)
  · unfold wpY_run
    exact br_f hck (kY post hP)
end
end
section
/-- what holds at rest -/
def q_F (srt bas len dig dcm sgn tim sig yle ysg op opX opY opZ tgt sta ins sto : Nat → Int32) (pw : Nat → Int64) (N c : Nat) : Prop := StOK sto ∧ PwOK pw ∧ SrtOK srt ∧ OpOK op ∧ q_Its srt bas len dig dcm sgn tim sig yle ysg ∧ (∀ j, ∃ h, h ≤ 1 ∧ ysg j = nI h) ∧ (c = 1 → q_WF op opX opY opZ srt tgt sta ins N)
/-- the relation at the head of a turn -/
def i_Rel (k : Nat) (u : SX) (v : SY) : Prop := match u, v with
  | (cn, xpa, xop, pl, ck, pf, pc, st, ix, xst, tl, ds, sto, srt, bas, len, dig, dcm, sgn, tim, sig, op, opX, opY, opZ, tgt, sta, ins, opn, pE, pL, pI, pB, out, pw, wk), (z_cn, z_pl, z_ck, ypf, yat, z_st, z_ix, z_ds, yen, z_tl, yju, z_sto, z_srt, z_bas, yle, z_dcm, z_tim, z_sig, ysg, z_op, z_opX, z_opY, z_opZ, z_out, ych, yot, ylo, z_pE, z_pL, yba, yfr, yva) => z_cn = cn ∧ z_pl = pl ∧ z_ck = ck ∧ z_st = st ∧ z_ix = ix ∧ z_ds = ds ∧ z_tl = tl ∧ z_sto = sto ∧ z_srt = srt ∧ z_bas = bas ∧ z_dcm = dcm ∧ z_tim = tim ∧ z_sig = sig ∧ z_op = op ∧ z_opX = opX ∧ z_opY = opY ∧ z_opZ = opZ ∧ z_out = out ∧ z_pE = pE ∧ z_pL = pL ∧ ∃ N D f c : Nat, cn = nI N ∧ N ≤ 48 ∧ tl = nI f ∧ f ≤ 1 ∧ ds = nI D ∧ D ≤ 6000 ∧ ck = nI c ∧ c ≤ 1 ∧ q_F srt bas len dig dcm sgn tim sig yle ysg op opX opY opZ tgt sta ins sto pw N c
theorem zz_el {k : Nat} {u : SX} {v : SY} {R : SX → SY → Prop} (h : ∀ (xpa : Int32) (xop : Int32) (pl : Int32) (pf : Int32) (pc : Int32) (st : Int32) (ix : Int32) (xst : Int32) (sto : Nat → Int32) (srt : Nat → Int32) (bas : Nat → Int32) (len : Nat → Int32) (dig : Nat → Int32) (dcm : Nat → Int32) (sgn : Nat → Int32) (tim : Nat → Int32) (sig : Nat → Int32) (op : Nat → Int32) (opX : Nat → Int32) (opY : Nat → Int32) (opZ : Nat → Int32) (tgt : Nat → Int32) (sta : Nat → Int32) (ins : Nat → Int32) (opn : Nat → Int32) (pE : Nat → Int32) (pL : Nat → Int32) (pI : Nat → Int32) (pB : Nat → Int32) (out : Nat → Int32) (pw : Nat → Int64) (wk : Nat → Int32) (ypf : Int32) (yat : Int32) (yen : Int32) (yju : Int32) (yle : Nat → Int32) (ysg : Nat → Int32) (ych : Nat → Int32) (yot : Nat → Int32) (ylo : Nat → Int32) (yba : Nat → Int32) (yfr : Nat → Int32) (yva : Nat → Int32) (N D f c : Nat), N ≤ 48 → f ≤ 1 → D ≤ 6000 → c ≤ 1 → q_F srt bas len dig dcm sgn tim sig yle ysg op opX opY opZ tgt sta ins sto pw N c → R (nI N, xpa, xop, pl, nI c, pf, pc, st, ix, xst, nI f, nI D, sto, srt, bas, len, dig, dcm, sgn, tim, sig, op, opX, opY, opZ, tgt, sta, ins, opn, pE, pL, pI, pB, out, pw, wk) (nI N, pl, nI c, ypf, yat, st, ix, nI D, yen, nI f, yju, sto, srt, bas, yle, dcm, tim, sig, ysg, op, opX, opY, opZ, out, ych, yot, ylo, pE, pL, yba, yfr, yva)) (I : i_Rel k u v) : R u v := by
  obtain ⟨cn, xpa, xop, pl, ck, pf, pc, st, ix, xst, tl, ds, sto, srt, bas, len, dig, dcm, sgn, tim, sig, op, opX, opY, opZ, tgt, sta, ins, opn, pE, pL, pI, pB, out, pw, wk⟩ := u
  obtain ⟨z_cn, z_pl, z_ck, ypf, yat, z_st, z_ix, z_ds, yen, z_tl, yju, z_sto, z_srt, z_bas, yle, z_dcm, z_tim, z_sig, ysg, z_op, z_opX, z_opY, z_opZ, z_out, ych, yot, ylo, z_pE, z_pL, yba, yfr, yva⟩ := v
  obtain ⟨h_cn, h_pl, h_ck, h_st, h_ix, h_ds, h_tl, h_sto, h_srt, h_bas, h_dcm, h_tim, h_sig, h_op, h_opX, h_opY, h_opZ, h_out, h_pE, h_pL, N, D, f, c, e1, e2, e3, e4, e5, e6, e7, e8, F⟩ := I
  subst h_cn h_pl h_ck h_st h_ix h_ds h_tl h_sto h_srt h_bas h_dcm h_tim h_sig h_op h_opX h_opY h_opZ h_out h_pE h_pL e1 e3 e5 e7
  exact h _ _ _ _ _ _ _ _ _ _ _ _ _ _ _ _ _ _ _ _ _ _ _ _ _ _ _ _ _ _ _ _ _ _ _ _ _ _ _ _ _ _ _ _ N D f c e2 e4 e6 e8 F
section
variable {cn : Int32} {xpa : Int32} {xop : Int32} {pl : Int32} {ck : Int32} {pf : Int32} {pc : Int32} {st : Int32} {ix : Int32} {xst : Int32} {tl : Int32} {ds : Int32} {sto : Nat → Int32} {srt : Nat → Int32} {bas : Nat → Int32} {len : Nat → Int32} {dig : Nat → Int32} {dcm : Nat → Int32} {sgn : Nat → Int32} {tim : Nat → Int32} {sig : Nat → Int32} {op : Nat → Int32} {opX : Nat → Int32} {opY : Nat → Int32} {opZ : Nat → Int32} {tgt : Nat → Int32} {sta : Nat → Int32} {ins : Nat → Int32} {opn : Nat → Int32} {pE : Nat → Int32} {pL : Nat → Int32} {pI : Nat → Int32} {pB : Nat → Int32} {out : Nat → Int32} {pw : Nat → Int64} {wk : Nat → Int32} {ypf : Int32} {yat : Int32} {yen : Int32} {yju : Int32} {yle : Nat → Int32} {ysg : Nat → Int32} {ych : Nat → Int32} {yot : Nat → Int32} {ylo : Nat → Int32} {yba : Nat → Int32} {yfr : Nat → Int32} {yva : Nat → Int32}
theorem zz_mk {k N D f c : Nat} (h1 : N ≤ 48) (h2 : f ≤ 1) (h3 : D ≤ 6000) (h4 : c ≤ 1) (F : q_F srt bas len dig dcm sgn tim sig yle ysg op opX opY opZ tgt sta ins sto pw N c) : i_Rel k (nI N, xpa, xop, pl, nI c, pf, pc, st, ix, xst, nI f, nI D, sto, srt, bas, len, dig, dcm, sgn, tim, sig, op, opX, opY, opZ, tgt, sta, ins, opn, pE, pL, pI, pB, out, pw, wk) (nI N, pl, nI c, ypf, yat, st, ix, nI D, yen, nI f, yju, sto, srt, bas, yle, dcm, tim, sig, ysg, op, opX, opY, opZ, out, ych, yot, ylo, pE, pL, yba, yfr, yva) := by
  unfold i_Rel
  exact ⟨rfl, rfl, rfl, rfl, rfl, rfl, rfl, rfl, rfl, rfl, rfl, rfl, rfl, rfl, rfl, rfl, rfl, rfl, rfl, rfl, N, D, f, c, rfl, h1, rfl, h2, rfl, h3, rfl, h4, F⟩
end
theorem i_up {k : Nat} {u : SX} {v : SY} (h : i_Rel k u v) : i_Rel (k + 7) u v := h
end
section
section
variable {cn : Int32} {xpa : Int32} {xop : Int32} {pl : Int32} {ck : Int32} {pf : Int32} {pc : Int32} {st : Int32} {ix : Int32} {xst : Int32} {tl : Int32} {ds : Int32} {sto : Nat → Int32} {srt : Nat → Int32} {bas : Nat → Int32} {len : Nat → Int32} {dig : Nat → Int32} {dcm : Nat → Int32} {sgn : Nat → Int32} {tim : Nat → Int32} {sig : Nat → Int32} {op : Nat → Int32} {opX : Nat → Int32} {opY : Nat → Int32} {opZ : Nat → Int32} {tgt : Nat → Int32} {sta : Nat → Int32} {ins : Nat → Int32} {opn : Nat → Int32} {pE : Nat → Int32} {pL : Nat → Int32} {pI : Nat → Int32} {pB : Nat → Int32} {out : Nat → Int32} {pw : Nat → Int64} {wk : Nat → Int32} {ypf : Int32} {yat : Int32} {yen : Int32} {yju : Int32} {yle : Nat → Int32} {ysg : Nat → Int32} {ych : Nat → Int32} {yot : Nat → Int32} {ylo : Nat → Int32} {yba : Nat → Int32} {yfr : Nat → Int32} {yva : Nat → Int32}
theorem in_232 {post : SX → Prop} (hP : ∀ pw, PwOK pw → post (cn, xpa, xop, pl, ck, pf, pc, st, ix, xst, tl, ds, sto, srt, bas, len, dig, dcm, sgn, tim, sig, op, opX, opY, opZ, tgt, sta, ins, opn, pE, pL, pI, pB, out, pw, wk)) : ∀ r m n : Nat, m + r = 19 → r < n → ∀ pw : Nat → Int64, (∀ j, j < m → pw j = zL (pTen j : Nat)) → wX_init_232 post cn xpa xop pl ck pf pc st ix xst tl ds n (zL (pTen m : Nat)) (nI m) sto srt bas len dig dcm sgn tim sig op opX opY opZ tgt sta ins opn pE pL pI pB out pw wk := by
  intro r
  induction r with
  | zero =>
    intro m n hm hn pw hp
    obtain ⟨n, rfl⟩ : ∃ q, n = q + 1 := ⟨n - 1, by omega⟩
    obtain rfl : m = 19 := by omega
    exact br_t (by decide) (hP pw hp)
  | succ r ih =>
    intro m n hm hn pw hp
    obtain ⟨n, rfl⟩ : ∃ q, n = q + 1 := ⟨n - 1, by omega⟩
    refine br_f (nI_ge (b := 19) (by omega) (by omega)) ⟨vp_in_nI (by omega) (by omega), ?_⟩
    rw [nI_clamp (n := m) (by omega)]
    refine nm_e (nm_r (e' := zL (pTen (m + 1) : Nat)) ?_ (nm_r (nI_1 _) (ih (m + 1) n (by omega) (by omega) _ (fun j hj => ?_))))
    · rw [zl_10, zl_mul, pt_s]
      exact congrArg zL (by omega)
    · by_cases e : j = m
      · rw [e, pk_uLs]
      · rw [pk_uLn e]; exact hp j (by omega)
theorem in_208 {post : SX → Prop} (hP : ∃ n, wX_init_232 post cn xpa xop pl ck pf pc st ix xst tl ds n 1 0 (bk sto 0 96 (fun _ => 10)) srt bas len dig dcm sgn tim sig op opX opY opZ tgt sta ins opn pE pL pI pB out pw wk) : ∀ r m n : Nat, m + r = 96 → r < n → wX_init_208 post cn xpa xop pl ck pf pc st ix xst tl ds n (nI m) (bk sto 0 m (fun _ => 10)) srt bas len dig dcm sgn tim sig op opX opY opZ tgt sta ins opn pE pL pI pB out pw wk := by
  intro r
  induction r with
  | zero =>
    intro m n hm hn
    obtain ⟨n, rfl⟩ : ∃ q, n = q + 1 := ⟨n - 1, by omega⟩
    obtain rfl : m = 96 := by omega
    exact br_t (by decide) hP
  | succ r ih =>
    intro m n hm hn
    obtain ⟨n, rfl⟩ : ∃ q, n = q + 1 := ⟨n - 1, by omega⟩
    refine br_f (nI_ge (b := 96) (by omega) (by omega)) ⟨vp_in_nI (by omega) (by omega), ?_⟩
    rw [nI_clamp (n := m) (by omega)]
    exact nm_r (bk_s (by omega) (nb_v (c := 10) (by omega))) (nm_r (nI_1 _) (ih (m + 1) n (by omega) (by omega)))
theorem in_184 {post : SY → Prop} (hP : post (cn, pl, ck, ypf, yat, st, ix, ds, yen, tl, yju, bk sto 0 96 (fun _ => 10), srt, bas, yle, dcm, tim, sig, ysg, op, opX, opY, opZ, out, ych, yot, ylo, pE, pL, yba, yfr, yva)) : ∀ r m n : Nat, m + r = 96 → r < n → wY_init_184 post cn pl ck ypf yat st ix ds yen tl yju n (nI m) (bk sto 0 m (fun _ => 10)) srt bas yle dcm tim sig ysg op opX opY opZ out ych yot ylo pE pL yba yfr yva := by
  intro r
  induction r with
  | zero =>
    intro m n hm hn
    obtain ⟨n, rfl⟩ : ∃ q, n = q + 1 := ⟨n - 1, by omega⟩
    obtain rfl : m = 96 := by omega
    exact br_t (by decide) hP
  | succ r ih =>
    intro m n hm hn
    obtain ⟨n, rfl⟩ : ∃ q, n = q + 1 := ⟨n - 1, by omega⟩
    refine br_f (nI_ge (b := 96) (by omega) (by omega)) ⟨vp_in_nI (by omega) (by omega), ?_⟩
    rw [nI_clamp (n := m) (by omega)]
    exact nm_r (bk_s (by omega) rfl) (nm_r (nI_1 _) (ih (m + 1) n (by omega) (by omega)))
end
theorem f_0 {pw : Nat → Int64} (hw : PwOK pw) : q_F (fun _ => 0) (fun _ => 0) (fun _ => 0) (fun _ => 0) (fun _ => 0) (fun _ => 0) (fun _ => 0) (fun _ => 0) (fun _ => 0) (fun _ => 0) (fun _ => 0) (fun _ => 0) (fun _ => 0) (fun _ => 0) (fun _ => 0) (fun _ => 0) (fun _ => 0) (bk (fun _ => 0) 0 96 (fun _ => 10)) pw 0 0 := by
  refine ⟨so_b (fun j => ⟨0, by omega, rfl⟩) (fun j _ _ => ⟨10, by omega, rfl⟩), hw, fun j => ⟨0, by omega, rfl⟩, fun j => ⟨0, by omega, rfl⟩, fun i hi => Or.inl rfl, fun j => ⟨0, by omega, rfl⟩, fun z => by omega⟩
theorem i_vc0 : wpX_init (fun u => wpY_init (fun v => i_Rel 0 u v)) := by
  unfold wpX_init
  refine ⟨97, ?_⟩
  have K := fun post hP => in_208 (post := post) (cn := 0) (xpa := 0) (xop := 0) (pl := -1) (ck := 0) (pf := 0) (pc := 0) (st := 0) (ix := 1) (xst := 0) (tl := 0) (ds := 0) (sto := fun _ => 0) (srt := fun _ => 0) (bas := fun _ => 0) (len := fun _ => 0) (dig := fun _ => 0) (dcm := fun _ => 0) (sgn := fun _ => 0) (tim := fun _ => 0) (sig := fun _ => 0) (op := fun _ => 0) (opX := fun _ => 0) (opY := fun _ => 0) (opZ := fun _ => 0) (tgt := fun _ => 0) (sta := fun _ => 0) (ins := fun _ => 0) (opn := fun _ => 0) (pE := fun _ => 0) (pL := fun _ => 0) (pI := fun _ => 0) (pB := fun _ => 0) (out := fun _ => 0) (pw := fun _ => 0) (wk := fun _ => 0) hP 96 0 97 (by omega) (by omega)
  rw [bk_0] at K
  refine K _ ⟨20, in_232 (fun pw hw => ?_) 19 0 20 (by omega) (by omega) (fun _ => 0) (fun j hj => by omega)⟩
  unfold wpY_init
  refine ⟨97, ?_⟩
  have KY := fun post hP => in_184 (post := post) (cn := 0) (pl := -1) (ck := 0) (ypf := 0) (yat := 0) (st := 0) (ix := 1) (ds := 0) (yen := 0) (tl := 0) (yju := 0) (sto := fun _ => 0) (srt := fun _ => 0) (bas := fun _ => 0) (yle := fun _ => 0) (dcm := fun _ => 0) (tim := fun _ => 0) (sig := fun _ => 0) (ysg := fun _ => 0) (op := fun _ => 0) (opX := fun _ => 0) (opY := fun _ => 0) (opZ := fun _ => 0) (out := fun _ => 0) (ych := fun _ => 0) (yot := fun _ => 0) (ylo := fun _ => 0) (pE := fun _ => 0) (pL := fun _ => 0) (yba := fun _ => 0) (yfr := fun _ => 0) (yva := fun _ => 0) hP 96 0 97 (by omega) (by omega)
  rw [bk_0] at KY
  refine KY _ ?_
  exact zz_mk (N := 0) (D := 0) (f := 0) (c := 0) (by omega) (by omega) (by omega) (by omega) (f_0 hw)
theorem i_vc_place {k : Nat} {u : SX} {v : SY} (I : i_Rel k u v) (hk : k + 7 ≤ 3584) : wpX_place (fun r => wpY_place (fun r' => r' = r ∧ i_Rel (k + 7) u v) v) u := by
  refine zz_el (R := fun u v => wpX_place (fun r => wpY_place (fun r' => r' = r ∧ i_Rel (k + 7) u v) v) u) ?_ I
  intro xpa xop pl pf pc st ix xst sto srt bas len dig dcm sgn tim sig op opX opY opZ tgt sta ins opn pE pL pI pB out pw wk ypf yat yen yju yle ysg ych yot ylo yba yfr yva N D f c h1 h2 h3 h4 F
  exact And.intro rfl (zz_mk h1 h2 h3 h4 F)
theorem i_vc_steps {k : Nat} {u : SX} {v : SY} (I : i_Rel k u v) (hk : k + 7 ≤ 3584) : wpX_steps (fun r => wpY_steps (fun r' => r' = r ∧ i_Rel (k + 7) u v) v) u := by
  refine zz_el (R := fun u v => wpX_steps (fun r => wpY_steps (fun r' => r' = r ∧ i_Rel (k + 7) u v) v) u) ?_ I
  intro xpa xop pl pf pc st ix xst sto srt bas len dig dcm sgn tim sig op opX opY opZ tgt sta ins opn pE pL pI pB out pw wk ypf yat yen yju yle ysg ych yot ylo yba yfr yva N D f c h1 h2 h3 h4 F
  exact And.intro rfl (zz_mk h1 h2 h3 h4 F)
theorem i_vc_index {k : Nat} {u : SX} {v : SY} (I : i_Rel k u v) (hk : k + 7 ≤ 3584) : wpX_index (fun r => wpY_index (fun r' => r' = r ∧ i_Rel (k + 7) u v) v) u := by
  refine zz_el (R := fun u v => wpX_index (fun r => wpY_index (fun r' => r' = r ∧ i_Rel (k + 7) u v) v) u) ?_ I
  intro xpa xop pl pf pc st ix xst sto srt bas len dig dcm sgn tim sig op opX opY opZ tgt sta ins opn pE pL pI pB out pw wk ypf yat yen yju yle ysg ych yot ylo yba yfr yva N D f c h1 h2 h3 h4 F
  exact And.intro rfl (zz_mk h1 h2 h3 h4 F)
theorem i_vc_displayed {k : Nat} {u : SX} {v : SY} (I : i_Rel k u v) (hk : k + 7 ≤ 3584) : wpX_displayed (fun r => wpY_displayed (fun r' => r' = r ∧ i_Rel (k + 7) u v) v) u := by
  refine zz_el (R := fun u v => wpX_displayed (fun r => wpY_displayed (fun r' => r' = r ∧ i_Rel (k + 7) u v) v) u) ?_ I
  intro xpa xop pl pf pc st ix xst sto srt bas len dig dcm sgn tim sig op opX opY opZ tgt sta ins opn pE pL pI pB out pw wk ypf yat yen yju yle ysg ych yot ylo yba yfr yva N D f c h1 h2 h3 h4 F
  exact And.intro rfl (zz_mk h1 h2 h3 h4 F)
theorem i_vc_size {k : Nat} {u : SX} {v : SY} (I : i_Rel k u v) (hk : k + 7 ≤ 3584) : wpX_size (fun r => wpY_size (fun r' => r' = r ∧ i_Rel (k + 7) u v) v) u := by
  refine zz_el (R := fun u v => wpX_size (fun r => wpY_size (fun r' => r' = r ∧ i_Rel (k + 7) u v) v) u) ?_ I
  intro xpa xop pl pf pc st ix xst sto srt bas len dig dcm sgn tim sig op opX opY opZ tgt sta ins opn pE pL pI pB out pw wk ypf yat yen yju yle ysg ych yot ylo yba yfr yva N D f c h1 h2 h3 h4 F
  have e : narrow .boolean (.int (nI f)) = .int (nI f) := by
    rcases (by omega : f = 0 ∨ f = 1) with rfl | rfl <;> rfl
  exact And.intro e (And.intro e (And.intro rfl (zz_mk h1 h2 h3 h4 F)))
theorem i_vc_drop {k : Nat} {u : SX} {v : SY} (I : i_Rel k u v) (hk : k + 7 ≤ 3584) : wpX_drop (fun r u' => wpY_drop (fun r' v' => r' = r ∧ i_Rel (k + 7) u' v') v) u := by
  refine zz_el (R := fun u v => wpX_drop (fun r u' => wpY_drop (fun r' v' => r' = r ∧ i_Rel (k + 7) u' v') v) u) ?_ I
  intro xpa xop pl pf pc st ix xst sto srt bas len dig dcm sgn tim sig op opX opY opZ tgt sta ins opn pE pL pI pB out pw wk ypf yat yen yju yle ysg ych yot ylo yba yfr yva N D f c h1 h2 h3 h4 F
  obtain ⟨F1, F2, F3, F4, F5, F6, F7⟩ := F
  exact And.intro rfl (zz_mk (N := 0) (c := 0) (by omega) h2 h3 (by omega) ⟨F1, F2, F3, F4, F5, F6, fun z => by omega⟩)
theorem i_vc_check {k : Nat} {u : SX} {v : SY} (I : i_Rel k u v) (hk : k + 7 ≤ 3584) : wpX_check (fun r u' => wpY_check (fun r' v' => r' = r ∧ i_Rel (k + 7) u' v') v) u := by
  refine zz_el (R := fun u v => wpX_check (fun r u' => wpY_check (fun r' v' => r' = r ∧ i_Rel (k + 7) u' v') v) u) ?_ I
  intro xpa xop pl pf pc st ix xst sto srt bas len dig dcm sgn tim sig op opX opY opZ tgt sta ins opn pE pL pI pB out pw wk ypf yat yen yju yle ysg ych yot ylo yba yfr yva N D f c h1 h2 h3 h4 F
  obtain ⟨F1, F2, F3, F4, F5, F6, F7⟩ := F
  obtain ⟨ρ, G, xpa', xop', tgt', sta', ins', opn', r1, r2, rX, rY⟩ := ck_sim (xpa := xpa) (xop := xop) (pl := pl) (ck := nI c) (pf := pf) (pc := pc) (st := st) (ix := ix) (xst := xst) (tl := nI f) (ds := nI D) (sto := sto) (srt := srt) (bas := bas) (len := len) (dig := dig) (dcm := dcm) (sgn := sgn) (tim := tim) (sig := sig) (op := op) (opX := opX) (opY := opY) (opZ := opZ) (tgt := tgt) (sta := sta) (ins := ins) (opn := opn) (pE := pE) (pL := pL) (pI := pI) (pB := pB) (out := out) (pw := pw) (wk := wk) (ypf := ypf) (yat := yat) (yen := yen) (yju := yju) (yle := yle) (ysg := ysg) (ych := ych) (yot := yot) (ylo := ylo) (yba := yba) (yfr := yfr) (yva := yva) h1 F4 F3
  exact rX _ (rY _ (And.intro rfl (zz_mk h1 h2 h3 r1 ⟨F1, F2, F3, F4, F5, F6, r2⟩)))
theorem i_vc_run {k : Nat} {u : SX} {v : SY} (I : i_Rel k u v) (hk : k + 7 ≤ 3584) : wpX_run (fun r u' => wpY_run (fun r' v' => r' = r ∧ i_Rel (k + 7) u' v') v) u := by
  refine zz_el (R := fun u v => wpX_run (fun r u' => wpY_run (fun r' v' => r' = r ∧ i_Rel (k + 7) u' v') v) u) ?_ I
  intro xpa xop pl pf pc st ix xst sto srt bas len dig dcm sgn tim sig op opX opY opZ tgt sta ins opn pE pL pI pB out pw wk ypf yat yen yju yle ysg ych yot ylo yba yfr yva N D f c h1 h2 h3 h4 F
  by_cases c0 : c = 0
  · subst c0
    exact br_t rfl (br_t rfl (And.intro rfl (zz_mk h1 h2 h3 h4 F)))
  · obtain rfl : c = 1 := by omega
    obtain ⟨F1, F2, F3, F4, F5, F6, F7⟩ := F
    have wf := F7 rfl
    obtain ⟨ρ, D2, f2, pf2, pc2, st2, ix2, yat2, yju2, sto2, out2, pE2, pL2, pI2, pB2, wk2, ych2, yot2, ylo2, yba2, yfr2, yva2, k1, k2, k3, kX, kY⟩ := rn_sim (xpa := xpa) (xop := xop) (pl := pl) (ck := nI 1) (pf := pf) (pc := pc) (st := st) (ix := ix) (xst := xst) (tl := nI f) (ds := nI D) (sto := sto) (srt := srt) (bas := bas) (len := len) (dig := dig) (dcm := dcm) (sgn := sgn) (tim := tim) (sig := sig) (op := op) (opX := opX) (opY := opY) (opZ := opZ) (tgt := tgt) (sta := sta) (ins := ins) (opn := opn) (pE := pE) (pL := pL) (pI := pI) (pB := pB) (out := out) (pw := pw) (wk := wk) (ypf := ypf) (yat := yat) (yen := yen) (yju := yju) (yle := yle) (ysg := ysg) (ych := ych) (yot := yot) (ylo := ylo) (yba := yba) (yfr := yfr) (yva := yva) F4 wf F2 F5 F3 F1 (by decide)
    exact kX _ (kY _ (And.intro rfl (zz_mk (D := D2) (f := f2) (c := 1) h1 k2 k3 (by omega) ⟨k1, F2, F3, F4, F5, F6, F7⟩)))
theorem i_vc_peek {k : Nat} {u : SX} {v : SY} (I : i_Rel k u v) (hk : k + 7 ≤ 3584) (v1 : Int32) : wpX_peek (fun r => wpY_peek (fun r' => r' = r ∧ i_Rel (k + 7) u v) v v1) u v1 := by
  refine zz_el (R := fun u v => wpX_peek (fun r => wpY_peek (fun r' => r' = r ∧ i_Rel (k + 7) u v) v v1) u v1) ?_ I
  intro xpa xop pl pf pc st ix xst sto srt bas len dig dcm sgn tim sig op opX opY opZ tgt sta ins opn pE pL pI pB out pw wk ypf yat yen yju yle ysg ych yot ylo yba yfr yva N D f c h1 h2 h3 h4 F
  have R := zz_mk (k := k + 7) (xpa := xpa) (xop := xop) (pl := pl) (pf := pf) (pc := pc) (st := st) (ix := ix) (xst := xst) (sto := sto) (srt := srt) (bas := bas) (len := len) (dig := dig) (dcm := dcm) (sgn := sgn) (tim := tim) (sig := sig) (op := op) (opX := opX) (opY := opY) (opZ := opZ) (tgt := tgt) (sta := sta) (ins := ins) (opn := opn) (pE := pE) (pL := pL) (pI := pI) (pB := pB) (out := out) (pw := pw) (wk := wk) (ypf := ypf) (yat := yat) (yen := yen) (yju := yju) (yle := yle) (ysg := ysg) (ych := ych) (yot := yot) (ylo := ylo) (yba := yba) (yfr := yfr) (yva := yva) h1 h2 h3 h4 F
  unfold wpX_peek
  rcases pk_ix v1 (n := 96) (by omega) with a | a | ⟨j, j1, rfl⟩
  · refine br_t a ?_
    unfold wpY_peek wpY_in
    exact br_t a (br_t rfl ⟨rfl, R⟩)
  · obtain ⟨b1, b2⟩ := ge_c (n := 95) (by omega) a
    refine br_f b1 (br_f (fun z => absurd b2 (Int32.not_lt.mpr z)) ?_)
    unfold wpY_peek wpY_in
    exact br_f b1 (br_t b2 (br_t rfl ⟨rfl, R⟩))
  · refine br_f (nI_pos (by omega)) (br_t (nI_le (b := 95) (by omega) (by omega)) ⟨vp_in_nI j1 (by omega), ?_⟩)
    unfold wpY_peek
    exact yi_t (lo := 0) (hi := 95) (by omega) (by omega) (by omega) (br_f (by decide) ⟨vp_in_nI j1 (by omega), rfl, R⟩)
theorem i_vc_output {k : Nat} {u : SX} {v : SY} (I : i_Rel k u v) (hk : k + 7 ≤ 3584) (v1 : Int32) : wpX_output (fun r => wpY_output (fun r' => r' = r ∧ i_Rel (k + 7) u v) v v1) u v1 := by
  refine zz_el (R := fun u v => wpX_output (fun r => wpY_output (fun r' => r' = r ∧ i_Rel (k + 7) u v) v v1) u v1) ?_ I
  intro xpa xop pl pf pc st ix xst sto srt bas len dig dcm sgn tim sig op opX opY opZ tgt sta ins opn pE pL pI pB out pw wk ypf yat yen yju yle ysg ych yot ylo yba yfr yva N D f c h1 h2 h3 h4 F
  have R := zz_mk (k := k + 7) (xpa := xpa) (xop := xop) (pl := pl) (pf := pf) (pc := pc) (st := st) (ix := ix) (xst := xst) (sto := sto) (srt := srt) (bas := bas) (len := len) (dig := dig) (dcm := dcm) (sgn := sgn) (tim := tim) (sig := sig) (op := op) (opX := opX) (opY := opY) (opZ := opZ) (tgt := tgt) (sta := sta) (ins := ins) (opn := opn) (pE := pE) (pL := pL) (pI := pI) (pB := pB) (out := out) (pw := pw) (wk := wk) (ypf := ypf) (yat := yat) (yen := yen) (yju := yju) (yle := yle) (ysg := ysg) (ych := ych) (yot := yot) (ylo := ylo) (yba := yba) (yfr := yfr) (yva := yva) h1 h2 h3 h4 F
  unfold wpX_output wpY_output
  by_cases a : v1 < 0
  · exact br_t a (br_t a ⟨rfl, R⟩)
  · obtain ⟨j, j1, rfl⟩ := nI_of a
    refine br_f a (pk_lt 95 j (fun b => ?_) (fun b => ?_))
    · exact br_f a (pk_le D j (fun _ => ⟨rfl, R⟩) (fun _ => br_f (nI_ge (a := 95) b (by omega)) ⟨rfl, R⟩))
    · refine pk_lt j D (fun e => ⟨vp_in_nI (by omega) (by omega), ?_⟩) (fun e => ?_)
      · exact br_f a (br_f (nI_ge e (by omega)) (br_t (nI_le (b := 95) b (by omega)) ⟨vp_in_nI (by omega) (by omega), rfl, R⟩))
      · exact br_f a (br_t (nI_le e (by omega)) ⟨rfl, R⟩)
theorem i_vc_poke {k : Nat} {u : SX} {v : SY} (I : i_Rel k u v) (hk : k + 7 ≤ 3584) (v1 : Int32) (v2 : Int32) : wpX_poke (fun r u' => wpY_poke (fun r' v' => r' = r ∧ i_Rel (k + 7) u' v') v v1 v2) u v1 v2 := by
  refine zz_el (R := fun u v => wpX_poke (fun r u' => wpY_poke (fun r' v' => r' = r ∧ i_Rel (k + 7) u' v') v v1 v2) u v1 v2) ?_ I
  intro xpa xop pl pf pc st ix xst sto srt bas len dig dcm sgn tim sig op opX opY opZ tgt sta ins opn pE pL pI pB out pw wk ypf yat yen yju yle ysg ych yot ylo yba yfr yva N D f c h1 h2 h3 h4 F
  have R := zz_mk (k := k + 7) (xpa := xpa) (xop := xop) (pl := pl) (pf := pf) (pc := pc) (st := st) (ix := ix) (xst := xst) (sto := sto) (srt := srt) (bas := bas) (len := len) (dig := dig) (dcm := dcm) (sgn := sgn) (tim := tim) (sig := sig) (op := op) (opX := opX) (opY := opY) (opZ := opZ) (tgt := tgt) (sta := sta) (ins := ins) (opn := opn) (pE := pE) (pL := pL) (pI := pI) (pB := pB) (out := out) (pw := pw) (wk := wk) (ypf := ypf) (yat := yat) (yen := yen) (yju := yju) (yle := yle) (ysg := ysg) (ych := ych) (yot := yot) (ylo := ylo) (yba := yba) (yfr := yfr) (yva := yva) h1 h2 h3 h4 F
  unfold wpX_poke wpY_poke
  rcases pk_ix v1 (n := 96) (by omega) with a | a | ⟨j, j1, rfl⟩
  · refine br_t a ?_
    unfold wpY_in
    exact br_t a (br_t rfl ⟨rfl, R⟩)
  · obtain ⟨b1, b2⟩ := ge_c (n := 95) (by omega) a
    refine br_f b1 (br_t b2 ?_)
    unfold wpY_in
    exact br_f b1 (br_t b2 (br_t rfl ⟨rfl, R⟩))
  · refine br_f (nI_pos (by omega)) (br_f (nI_nlt (a := 95) (by omega) (by omega)) ?_)
    rcases pk_ix v2 (n := 42) (by omega) with a | a | ⟨i, i1, rfl⟩
    · refine br_t a (yi_t (lo := 0) (hi := 95) (by omega) (by omega) (by omega) (br_f (by decide) ?_))
      unfold wpY_in
      exact br_t a (br_t rfl ⟨rfl, R⟩)
    · obtain ⟨b1, b2⟩ := ge_c (n := 41) (by omega) a
      refine br_f b1 (br_f (fun z => absurd b2 (Int32.not_lt.mpr z)) (yi_t (lo := 0) (hi := 95) (by omega) (by omega) (by omega) (br_f (by decide) ?_)))
      unfold wpY_in
      exact br_f b1 (br_t b2 (br_t rfl ⟨rfl, R⟩))
    · obtain ⟨F1, F2, F3, F4, F5, F6, F7⟩ := F
      refine br_f (nI_pos (by omega)) (br_t (nI_le (b := 41) (by omega) (by omega)) ⟨vp_in_nI j1 (by omega), ?_⟩)
      rw [nI_clamp (n := j) (by omega), nb_w (by omega)]
      refine nm_e (yi_t (lo := 0) (hi := 95) (by omega) (by omega) (by omega) (br_f (by decide) (yi_t (lo := 0) (hi := 41) (by omega) (by omega) (by omega) (br_f (by decide) ⟨vp_in_nI j1 (by omega), nm_e ⟨rfl, ?_⟩⟩))))
      exact zz_mk h1 h2 h3 h4 ⟨so_u F1 ⟨i, by omega, rfl⟩, F2, F3, F4, F5, F6, F7⟩
theorem i_vc_add {k : Nat} {u : SX} {v : SY} (I : i_Rel k u v) (hk : k + 7 ≤ 3584) (v1 : Int32) (v2 : Int32) (v3 : Int32) (v4 : Int32) : wpX_add (fun r u' => wpY_add (fun r' v' => r' = r ∧ i_Rel (k + 7) u' v') v v1 v2 v3 v4) u v1 v2 v3 v4 := by
  refine zz_el (R := fun u v => wpX_add (fun r u' => wpY_add (fun r' v' => r' = r ∧ i_Rel (k + 7) u' v') v v1 v2 v3 v4) u v1 v2 v3 v4) ?_ I
  intro xpa xop pl pf pc st ix xst sto srt bas len dig dcm sgn tim sig op opX opY opZ tgt sta ins opn pE pL pI pB out pw wk ypf yat yen yju yle ysg ych yot ylo yba yfr yva N D f c h1 h2 h3 h4 F
  have R := zz_mk (k := k + 7) (xpa := xpa) (xop := xop) (pl := pl) (pf := pf) (pc := pc) (st := st) (ix := ix) (xst := xst) (sto := sto) (srt := srt) (bas := bas) (len := len) (dig := dig) (dcm := dcm) (sgn := sgn) (tim := tim) (sig := sig) (op := op) (opX := opX) (opY := opY) (opZ := opZ) (tgt := tgt) (sta := sta) (ins := ins) (opn := opn) (pE := pE) (pL := pL) (pI := pI) (pB := pB) (out := out) (pw := pw) (wk := wk) (ypf := ypf) (yat := yat) (yen := yen) (yju := yju) (yle := yle) (ysg := ysg) (ych := ych) (yot := yot) (ylo := ylo) (yba := yba) (yfr := yfr) (yva := yva) h1 h2 h3 h4 F
  unfold wpX_add wpY_add
  rcases pk_ix v1 (n := 23) (by omega) with a | a | ⟨o, o1, rfl⟩
  · refine br_t a ?_
    unfold wpY_in
    exact br_t a (br_t rfl ⟨rfl, R⟩)
  · obtain ⟨b1, b2⟩ := ge_c (n := 22) (by omega) a
    refine br_f b1 (br_t b2 ?_)
    unfold wpY_in
    exact br_f b1 (br_t b2 (br_t rfl ⟨rfl, R⟩))
  · refine br_f (nI_pos (by omega)) (br_f (nI_nlt (a := 22) (by omega) (by omega)) (pk_eq N 48 (fun e => ?_) (fun e => ?_)))
    · exact yi_t (lo := 0) (hi := 22) (by omega) (by omega) (by omega) (br_f (by decide) (br_t (by rw [e]; rfl) ⟨rfl, R⟩))
    · have hin : vp_in (nI N) 48 := vp_in_nI (by omega) (by omega)
      obtain ⟨F1, F2, F3, F4, F5, F6, F7⟩ := F
      rw [nI_clamp (n := N) (by omega), nb_w (by omega)]
      refine ⟨hin, nm_e ⟨hin, nm_e ⟨hin, nm_e ⟨hin, nm_e (nm_r (nI_1 _) (yi_t (lo := 0) (hi := 22) (by omega) (by omega) (by omega) (br_f (by decide) (br_f (nn_e (b := 48) e (by omega) (by omega)) ⟨hin, nm_e ⟨hin, nm_e ⟨hin, nm_e ⟨hin, nm_e (nm_r (nI_1 _) ⟨nI_pred N, ?_⟩)⟩⟩⟩⟩))))⟩⟩⟩⟩
      rw [nI_clamp (n := N) (by omega)]
      refine zz_mk (N := N + 1) (c := 0) (by omega) h2 h3 (by omega) ⟨F1, F2, F3, ?_, F5, F6, fun z => by omega⟩
      intro j
      by_cases ej : j = N
      · rw [ej, pk_us]; exact ⟨o, by omega, rfl⟩
      · rw [pk_un ej]; exact F4 j
end
section
theorem i_vc_value {k : Nat} {u : SX} {v : SY} (I : i_Rel k u v) (hk : k + 7 ≤ 3584) (v1 : Int32) (v2 : Int32) : wpX_value (fun r => wpY_value (fun r' => r' = r ∧ i_Rel (k + 7) u v) v v1 v2) u v1 v2 := by
  refine zz_el (R := fun u v => wpX_value (fun r => wpY_value (fun r' => r' = r ∧ i_Rel (k + 7) u v) v v1 v2) u v1 v2) ?_ I
  intro xpa xop pl pf pc st ix xst sto srt bas len dig dcm sgn tim sig op opX opY opZ tgt sta ins opn pE pL pI pB out pw wk ypf yat yen yju yle ysg ych yot ylo yba yfr yva N D f c h1 h2 h3 h4 F
  have R := zz_mk (k := k + 7) (xpa := xpa) (xop := xop) (pl := pl) (pf := pf) (pc := pc) (st := st) (ix := ix) (xst := xst) (sto := sto) (srt := srt) (bas := bas) (len := len) (dig := dig) (dcm := dcm) (sgn := sgn) (tim := tim) (sig := sig) (op := op) (opX := opX) (opY := opY) (opZ := opZ) (tgt := tgt) (sta := sta) (ins := ins) (opn := opn) (pE := pE) (pL := pL) (pI := pI) (pB := pB) (out := out) (pw := pw) (wk := wk) (ypf := ypf) (yat := yat) (yen := yen) (yju := yju) (yle := yle) (ysg := ysg) (ych := ych) (yot := yot) (ylo := ylo) (yba := yba) (yfr := yfr) (yva := yva) h1 h2 h3 h4 F
  obtain ⟨F1, F2, F3, F4, F5, F6, F7⟩ := F
  unfold wpX_value wpY_value
  by_cases kx : q_kx srt v1 = 0
  · exact xi_it0 F3 kx (br_t rfl (yi_it0 F3 kx (br_t rfl ⟨rfl, R⟩)))
  · obtain ⟨i, b, w, d, e, g, t, l, h, ex, H⟩ := it_get F5 F3 kx
    have hi : i < 12 := H.2.1.1
    have ht := H.1.2.2.2.2.2.2.1
    have t9 : 1 ≤ t ∧ t ≤ 9 := by have := H.2.1; omega
    have hin : vp_in v1 12 := by rw [ex]; exact vp_in_nI hi (by omega)
    have hc : v1.toNatClampNeg = i := by rw [ex]; exact nI_clamp (by omega)
    refine xi_it1 F3 kx (br_f (by decide) ?_)
    by_cases c1 : v2 < 1
    · refine br_t c1 (yi_it1 F3 kx (br_f (by decide) ⟨hin, ?_⟩))
      unfold wpY_in
      exact br_t c1 (br_t rfl ⟨rfl, R⟩)
    · refine br_f c1 ⟨hin, ?_⟩
      rw [hc, ht]
      by_cases c2 : v2 ≤ nI t
      · have c0 : ¬ v2 < 0 := by
          intro z
          apply c1
          rw [Int32.lt_iff_toInt_lt] at z ⊢
          rw [show (0 : Int32).toInt = 0 from by decide] at z
          rw [show (1 : Int32).toInt = 1 from by decide]
          omega
        obtain ⟨el, hel, rfl⟩ := nI_of c0
        have e1 : 1 ≤ el := by
          have : ¬ el < 1 := fun z => c1 ((nI_ltI (b := 1) (by omega) (by omega)).mpr z)
          omega
        have e2 : el ≤ t := (nI_leI (by omega) (by omega)).mp c2
        have A : q_At b w t (nI el) el (b + (el - 1) * w) := ⟨e1, e2, rfl, Or.inr rfl⟩
        have hp := aq_in H.2.1.2.2.2.1 A
        generalize q_kx srt v1 = kk at H
        subst ex
        refine br_t c2 (xa_at H A (xa_val H F1 hp (yi_it1 F3 kx (br_f (by decide) ⟨hin, ?_⟩))))
        first | rw [hc, ht] | rw [ht] | skip
        exact yi_t (lo := 1) e1 e2 (by omega) (br_f (by decide) (ya_val H F1 e1 hp ⟨rfl, R⟩))
      · refine br_f c2 (yi_it1 F3 kx (br_f (by decide) ⟨hin, ?_⟩))
        first | rw [hc, ht] | rw [ht] | skip
        unfold wpY_in
        exact br_f c1 (br_t (Int32.not_le.mp c2) (br_t rfl ⟨rfl, R⟩))
/-! where an item may lie -/
section
variable {cn : Int32} {xpa : Int32} {xop : Int32} {pl : Int32} {ck : Int32} {pf : Int32} {pc : Int32} {st : Int32} {ix : Int32} {xst : Int32} {tl : Int32} {ds : Int32} {sto : Nat → Int32} {srt : Nat → Int32} {bas : Nat → Int32} {len : Nat → Int32} {dig : Nat → Int32} {dcm : Nat → Int32} {sgn : Nat → Int32} {tim : Nat → Int32} {sig : Nat → Int32} {op : Nat → Int32} {opX : Nat → Int32} {opY : Nat → Int32} {opZ : Nat → Int32} {tgt : Nat → Int32} {sta : Nat → Int32} {ins : Nat → Int32} {opn : Nat → Int32} {pE : Nat → Int32} {pL : Nat → Int32} {pI : Nat → Int32} {pB : Nat → Int32} {out : Nat → Int32} {pw : Nat → Int64} {wk : Nat → Int32} {ypf : Int32} {yat : Int32} {yen : Int32} {yju : Int32} {yle : Nat → Int32} {ysg : Nat → Int32} {ych : Nat → Int32} {yot : Nat → Int32} {ylo : Nat → Int32} {yba : Nat → Int32} {yfr : Nat → Int32} {yva : Nat → Int32}
theorem ft_sim {v1 v2 v6 : Int32} {w : Nat} (hw1 : 1 ≤ w) (hw12 : w ≤ 12) :
    ((∀ post : Int32 → Prop, post 0 → wpX_fits post (cn, xpa, xop, pl, ck, pf, pc, st, ix, xst, tl, ds, sto, srt, bas, len, dig, dcm, sgn, tim, sig, op, opX, opY, opZ, tgt, sta, ins, opn, pE, pL, pI, pB, out, pw, wk) v1 v2 (nI w) v6) ∧ (∀ post : Int32 → Prop, post 0 → wpY_lies post (cn, pl, ck, ypf, yat, st, ix, ds, yen, tl, yju, sto, srt, bas, yle, dcm, tim, sig, ysg, op, opX, opY, opZ, out, ych, yot, ylo, pE, pL, yba, yfr, yva) v1 v2 (nI w) v6)) ∨ (∃ i b t : Nat, v1 = nI i ∧ i < 12 ∧ v2 = nI b ∧ v6 = nI t ∧ 1 ≤ t ∧ t ≤ 9 ∧ b + w * t ≤ 96 ∧ (∀ post : Int32 → Prop, post 1 → wpX_fits post (cn, xpa, xop, pl, ck, pf, pc, st, ix, xst, tl, ds, sto, srt, bas, len, dig, dcm, sgn, tim, sig, op, opX, opY, opZ, tgt, sta, ins, opn, pE, pL, pI, pB, out, pw, wk) v1 v2 (nI w) v6) ∧ (∀ post : Int32 → Prop, post 1 → wpY_lies post (cn, pl, ck, ypf, yat, st, ix, ds, yen, tl, yju, sto, srt, bas, yle, dcm, tim, sig, ysg, op, opX, opY, opZ, out, ych, yot, ylo, pE, pL, yba, yfr, yva) v1 v2 (nI w) v6)) := by
  unfold wpX_fits wpY_lies
  rcases pk_ix v1 (n := 12) (by omega) with a | a | ⟨i, i1, rfl⟩
  · left
    refine ⟨fun post hP => br_t a hP, fun post hP => ?_⟩
    unfold wpY_in
    exact br_t a (br_t rfl hP)
  · left
    obtain ⟨b1, b2⟩ := ge_c (n := 11) (by omega) a
    refine ⟨fun post hP => br_f b1 (br_t a hP), fun post hP => ?_⟩
    unfold wpY_in
    exact br_f b1 (br_t b2 (br_t rfl hP))
  · have x1 : ¬ nI i < 0 := nI_pos (by omega)
    have x2 : ¬ 12 ≤ nI i := nI_ge (b := 12) i1 (by omega)
    have Y1 : ∀ post : Int32 → Prop, post 1 → wpY_in post (nI i) 0 11 := fun post hP => yi_t (lo := 0) (hi := 11) (by omega) (by omega) (by omega) hP
    rcases pk_ix v6 (n := 10) (by omega) with a | a | ⟨t, t1, rfl⟩
    · left
      have a1 : v6 ≤ 0 := by
        rw [Int32.lt_iff_toInt_lt] at a
        rw [Int32.le_iff_toInt_le]
        omega
      have a2 : v6 < 1 := by
        rw [Int32.lt_iff_toInt_lt] at a ⊢
        rw [show (0 : Int32).toInt = 0 from by decide] at a
        rw [show (1 : Int32).toInt = 1 from by decide]
        omega
      refine ⟨fun post hP => br_f x1 (br_f x2 (br_t a1 hP)), fun post hP => Y1 _ (br_f (by decide) ?_)⟩
      unfold wpY_in
      exact br_t a2 (br_t rfl hP)
    · left
      obtain ⟨b1, b2⟩ := ge_c (n := 9) (by omega) a
      have b3 : ¬ v6 ≤ 0 := by
        rw [Int32.le_iff_toInt_le]
        rw [Int32.lt_iff_toInt_lt, nI_toInt (by omega)] at b2
        rw [show (0 : Int32).toInt = 0 from by decide]
        omega
      have b4 : ¬ v6 < 1 := by
        rw [Int32.lt_iff_toInt_lt]
        rw [Int32.lt_iff_toInt_lt, nI_toInt (by omega)] at b2
        rw [show (1 : Int32).toInt = 1 from by decide]
        omega
      refine ⟨fun post hP => br_f x1 (br_f x2 (br_f b3 (br_t a hP))), fun post hP => Y1 _ (br_f (by decide) ?_)⟩
      unfold wpY_in
      exact br_f b4 (br_t b2 (br_t rfl hP))
    · by_cases t0 : t = 0
      · left
        subst t0
        refine ⟨fun post hP => br_f x1 (br_f x2 (br_t (by decide) hP)), fun post hP => Y1 _ (br_f (by decide) ?_)⟩
        exact yi_f (v := 0) (lo := 1) (hi := 9) (by omega) (by omega) (by omega) (by omega) (br_t rfl hP)
      · have x3 : ¬ nI t ≤ 0 := nI_nle (by omega) (by omega)
        have x4 : ¬ 10 ≤ nI t := nI_ge (b := 10) t1 (by omega)
        have Y2 : ∀ post : Int32 → Prop, post 1 → wpY_in post (nI t) 1 9 := fun post hP => yi_t (lo := 1) (hi := 9) (by omega) (by omega) (by omega) hP
        by_cases b0 : v2 < 0
        · left
          exact ⟨fun post hP => br_f x1 (br_f x2 (br_f x3 (br_f x4 (br_t b0 hP)))), fun post hP => Y1 _ (br_f (by decide) (Y2 _ (br_f (by decide) (br_t b0 hP))))⟩
        · obtain ⟨b, b1, rfl⟩ := nI_of b0
          have wt : w * t ≤ 12 * 9 := Nat.mul_le_mul hw12 (by omega)
          have e1 : (96 - nI w * nI t : Int32) < nI b ↔ 96 < b + w * t := by
            rw [pk_mul, show (96 : Int32) = nI 96 from rfl, Int32.lt_iff_toInt_lt, pk_sub_toInt (by omega) (by omega), nI_toInt (by omega)]
            omega
          by_cases big : 96 < b + w * t
          · left
            refine ⟨fun post hP => br_f x1 (br_f x2 (br_f x3 (br_f x4 (br_f b0 (br_t (e1.mpr big) hP))))), fun post hP => Y1 _ (br_f (by decide) (Y2 _ (br_f (by decide) (br_f b0 (pk_lt 96 b (fun _ => hP) (fun z => ?_))))))⟩
            rw [pk_mul, nI_add]
            exact br_t (nI_lt (a := 96) big (by omega)) hP
          · right
            refine ⟨i, b, t, rfl, i1, rfl, rfl, by omega, by omega, by omega, fun post hP => br_f x1 (br_f x2 (br_f x3 (br_f x4 (br_f b0 (br_f (fun z => big (e1.mp z)) hP))))), fun post hP => Y1 _ (br_f (by decide) (Y2 _ (br_f (by decide) (br_f b0 (br_f (nI_nlt (a := 96) (by omega) (by omega)) ?_)))))⟩
            rw [pk_mul, nI_add]
            exact br_f (nI_nlt (a := 96) (by omega) (by omega)) hP
theorem xl_lay {post : SX → Prop} {i kd b w t : Nat} (hi : i < 12) (hk : kd < 128) (hb : b < 128) (hw : w < 128) (ht : t < 128) (hP : post (cn, xpa, xop, pl, 0, pf, pc, st, ix, xst, tl, ds, sto, upd srt i (nI kd), upd bas i (nI b), upd len i (nI w), dig, dcm, upd sgn i (nI 0), upd tim i (nI t), sig, op, opX, opY, opZ, tgt, sta, ins, opn, pE, pL, pI, pB, out, pw, wk)) : wpX_lay post (cn, xpa, xop, pl, ck, pf, pc, st, ix, xst, tl, ds, sto, srt, bas, len, dig, dcm, sgn, tim, sig, op, opX, opY, opZ, tgt, sta, ins, opn, pE, pL, pI, pB, out, pw, wk) (nI i) (nI kd) (nI b) (nI w) (nI t) := by
  have hin : vp_in (nI i) 12 := vp_in_nI hi (by omega)
  unfold wpX_lay
  refine ⟨hin, ?_⟩
  rw [nI_clamp (n := i) (by omega), nb_w hk, nb_w hb, nb_w hw, nb_w ht]
  exact nm_e ⟨hin, nm_e ⟨hin, nm_e ⟨hin, nm_e ⟨hin, nm_e hP⟩⟩⟩⟩
theorem yl_make {post : SY → Prop} {i : Nat} {a1 a2 a3 a4 a5 : Int32} (hi : i < 12) (hP : post (cn, pl, 0, ypf, yat, st, ix, ds, yen, tl, yju, sto, upd srt i a1, upd bas i a2, upd yle i a3, upd dcm i a4, upd tim i a5, sig, ysg, op, opX, opY, opZ, out, ych, yot, ylo, pE, pL, yba, yfr, yva)) : wpY_make post (cn, pl, ck, ypf, yat, st, ix, ds, yen, tl, yju, sto, srt, bas, yle, dcm, tim, sig, ysg, op, opX, opY, opZ, out, ych, yot, ylo, pE, pL, yba, yfr, yva) (nI i) a1 a2 a3 a4 a5 := by
  have hin : vp_in (nI i) 12 := vp_in_nI hi (by omega)
  unfold wpY_make
  refine ⟨hin, ?_⟩
  rw [nI_clamp (n := i) (by omega)]
  exact nm_e ⟨hin, nm_e ⟨hin, nm_e ⟨hin, nm_e ⟨hin, nm_e hP⟩⟩⟩⟩
end
theorem its_u {srt bas len dig dcm sgn tim sig yle ysg srt' bas' len' dig' dcm' sgn' tim' sig' yle' ysg' : Nat → Int32} {i k b w d e g t l h : Nat} (its : q_Its srt bas len dig dcm sgn tim sig yle ysg) (hu : ∀ j, j ≠ i → srt' j = srt j ∧ bas' j = bas j ∧ len' j = len j ∧ dig' j = dig j ∧ dcm' j = dcm j ∧ sgn' j = sgn j ∧ tim' j = tim j ∧ yle' j = yle j ∧ ysg' j = ysg j) (hs : ∀ j m, j ≠ i → m < 8 → sig' (8 * j + m) = sig (8 * j + m)) (H : q_It srt' bas' len' dig' dcm' sgn' tim' sig' yle' ysg' i k b w d e g t l h) : q_Its srt' bas' len' dig' dcm' sgn' tim' sig' yle' ysg' := by
  intro j hj
  by_cases ej : j = i
  · subst ej
    exact Or.inr ⟨k, b, w, d, e, g, t, l, h, H⟩
  · obtain ⟨u1, u2, u3, u4, u5, u6, u7, u8, u9⟩ := hu j ej
    rcases its j hj with z | ⟨k, b, w, d, e, g, t, l, h, ⟨q1, q2, q3, q4, q5, q6, q7, q8, q9⟩, H2, H3⟩
    · exact Or.inl (by rw [u1]; exact z)
    · refine Or.inr ⟨k, b, w, d, e, g, t, l, h, ⟨by rw [u1]; exact q1, by rw [u2]; exact q2, by rw [u3]; exact q3, by rw [u4]; exact q4, by rw [u5]; exact q5, by rw [u6]; exact q6, by rw [u7]; exact q7, by rw [u8]; exact q8, by rw [u9]; exact q9⟩, H2, ?_⟩
      rcases H3 with z | z | ⟨z1, z2, z3, z4, z5, z6, z7, z8⟩
      · exact Or.inl z
      · exact Or.inr (Or.inl z)
      · refine Or.inr (Or.inr ⟨z1, z2, z3, z4, z5, z6, ?_, fun m hm => ?_⟩)
        · rw [ct_c w (fun m hm => hs j m ej (by omega))]
          exact z7
        · rw [hs j m ej (by omega)]
          exact z8 m hm
theorem srt_u {srt : Nat → Int32} {i k : Nat} (h : SrtOK srt) (hk : k ≤ 3) : SrtOK (upd srt i (nI k)) := by
  intro j
  by_cases e : j = i
  · rw [e, pk_us]; exact ⟨k, hk, rfl⟩
  · rw [pk_un e]; exact h j
theorem i_vc_text {k : Nat} {u : SX} {v : SY} (I : i_Rel k u v) (hk : k + 7 ≤ 3584) (v1 : Int32) (v2 : Int32) (v3 : Int32) (v4 : Int32) : wpX_text (fun r u' => wpY_text (fun r' v' => r' = r ∧ i_Rel (k + 7) u' v') v v1 v2 v3 v4) u v1 v2 v3 v4 := by
  refine zz_el (R := fun u v => wpX_text (fun r u' => wpY_text (fun r' v' => r' = r ∧ i_Rel (k + 7) u' v') v v1 v2 v3 v4) u v1 v2 v3 v4) ?_ I
  intro xpa xop pl pf pc st ix xst sto srt bas len dig dcm sgn tim sig op opX opY opZ tgt sta ins opn pE pL pI pB out pw wk ypf yat yen yju yle ysg ych yot ylo yba yfr yva N D f c h1 h2 h3 h4 F
  have R := zz_mk (k := k + 7) (xpa := xpa) (xop := xop) (pl := pl) (pf := pf) (pc := pc) (st := st) (ix := ix) (xst := xst) (sto := sto) (srt := srt) (bas := bas) (len := len) (dig := dig) (dcm := dcm) (sgn := sgn) (tim := tim) (sig := sig) (op := op) (opX := opX) (opY := opY) (opZ := opZ) (tgt := tgt) (sta := sta) (ins := ins) (opn := opn) (pE := pE) (pL := pL) (pI := pI) (pB := pB) (out := out) (pw := pw) (wk := wk) (ypf := ypf) (yat := yat) (yen := yen) (yju := yju) (yle := yle) (ysg := ysg) (ych := ych) (yot := yot) (ylo := ylo) (yba := yba) (yfr := yfr) (yva := yva) h1 h2 h3 h4 F
  obtain ⟨F1, F2, F3, F4, F5, F6, F7⟩ := F
  unfold wpX_text wpY_text
  by_cases c1 : v3 < 1
  · refine br_t c1 ?_
    unfold wpY_in
    exact br_t c1 (br_t rfl ⟨rfl, R⟩)
  · by_cases c2 : 12 < v3
    · refine br_f c1 (br_t c2 ?_)
      unfold wpY_in
      exact br_f c1 (br_t c2 (br_t rfl ⟨rfl, R⟩))
    · have c0 : ¬ v3 < 0 := by
        intro z
        apply c1
        rw [Int32.lt_iff_toInt_lt] at z ⊢
        rw [show (0 : Int32).toInt = 0 from by decide] at z
        rw [show (1 : Int32).toInt = 1 from by decide]
        omega
      obtain ⟨w, hw, rfl⟩ := nI_of c0
      have w1 : 1 ≤ w := by
        have : ¬ w < 1 := fun z => c1 ((nI_ltI (b := 1) (by omega) (by omega)).mpr z)
        omega
      have w2 : w ≤ 12 := by
        have : ¬ 12 < w := fun z => c2 ((nI_ltI (a := 12) (by omega) (by omega)).mpr z)
        omega
      refine br_f c1 (br_f c2 ?_)
      have Y1 : ∀ post : Int32 → Prop, post 1 → wpY_in post (nI w) 1 12 := fun post hP => yi_t (lo := 1) (hi := 12) w1 w2 (by omega) hP
      rcases ft_sim (v1 := v1) (v2 := v2) (v6 := v4) (cn := nI N) (xpa := xpa) (xop := xop) (pl := pl) (ck := nI c) (pf := pf) (pc := pc) (st := st) (ix := ix) (xst := xst) (tl := nI f) (ds := nI D) (sto := sto) (srt := srt) (bas := bas) (len := len) (dig := dig) (dcm := dcm) (sgn := sgn) (tim := tim) (sig := sig) (op := op) (opX := opX) (opY := opY) (opZ := opZ) (tgt := tgt) (sta := sta) (ins := ins) (opn := opn) (pE := pE) (pL := pL) (pI := pI) (pB := pB) (out := out) (pw := pw) (wk := wk) (ypf := ypf) (yat := yat) (yen := yen) (yju := yju) (yle := yle) (ysg := ysg) (ych := ych) (yot := yot) (ylo := ylo) (yba := yba) (yfr := yfr) (yva := yva) w1 w2 with ⟨fX, fY⟩ | ⟨i, b, t, rfl, i12, rfl, rfl, t1, t9, bw, fX, fY⟩
      · exact fX _ (br_t rfl (Y1 _ (br_f (by decide) (fY _ (br_t rfl ⟨rfl, R⟩)))))
      · have hin : vp_in (nI i) 12 := vp_in_nI i12 (by omega)
        have wt : b < 128 := by omega
        refine fX _ (br_f (by decide) (xl_lay (kd := 2) i12 (by omega) (by omega) (by omega) (by omega) ⟨hin, ?_⟩))
        rw [nI_clamp (n := i) (by omega), show vp_nar .byte 0 = nI 0 from nb_v (c := 0) (by omega)]
        refine nm_e ⟨hin, nm_e (Y1 _ (br_f (by decide) (fY _ (br_f (by decide) (yl_make i12 ⟨rfl, ?_⟩)))))⟩
        obtain ⟨h', h'1, eh⟩ := F6 i
        refine zz_mk (c := 0) h1 h2 h3 (by omega) ⟨F1, F2, srt_u (k := 2) F3 (by omega), F4, ?_, F6, fun z => by omega⟩
        refine its_u (i := i) (k := 2) (b := b) (w := w) (d := 0) (e := 0) (g := 0) (t := t) (l := w) (h := h') F5 (fun j ej => ?_) (fun j m ej _ => rfl) ⟨⟨pk_us, pk_us, pk_us, pk_us, pk_us, pk_us, pk_us, pk_us, eh⟩, ⟨i12, t1, t9, bw, w1, w2, by omega, by omega⟩, Or.inr (Or.inl ⟨rfl, rfl, rfl, rfl, h'1⟩)⟩
        exact ⟨pk_un ej, pk_un ej, pk_un ej, pk_un ej, pk_un ej, pk_un ej, pk_un ej, pk_un ej, rfl⟩
theorem i_vc_number {k : Nat} {u : SX} {v : SY} (I : i_Rel k u v) (hk : k + 7 ≤ 3584) (v1 : Int32) (v2 : Int32) (v3 : Int32) (v4 : Int32) (v5 : Int32) (v6 : Int32) : wpX_number (fun r u' => wpY_number (fun r' v' => r' = r ∧ i_Rel (k + 7) u' v') v v1 v2 v3 v4 (lw_bz v5) v6) u v1 v2 v3 v4 (lw_bz v5) v6 := by
  refine zz_el (R := fun u v => wpX_number (fun r u' => wpY_number (fun r' v' => r' = r ∧ i_Rel (k + 7) u' v') v v1 v2 v3 v4 (lw_bz v5) v6) u v1 v2 v3 v4 (lw_bz v5) v6) ?_ I
  intro xpa xop pl pf pc st ix xst sto srt bas len dig dcm sgn tim sig op opX opY opZ tgt sta ins opn pE pL pI pB out pw wk ypf yat yen yju yle ysg ych yot ylo yba yfr yva N D f c h1 h2 h3 h4 F
  obtain ⟨g, g1, eg⟩ : ∃ g : Nat, g ≤ 1 ∧ lw_bz v5 = nI g := by
    rcases lw_bz_01 v5 with z | z
    · exact ⟨0, by omega, z⟩
    · exact ⟨1, by omega, z⟩
  rw [eg]
  have R := zz_mk (k := k + 7) (xpa := xpa) (xop := xop) (pl := pl) (pf := pf) (pc := pc) (st := st) (ix := ix) (xst := xst) (sto := sto) (srt := srt) (bas := bas) (len := len) (dig := dig) (dcm := dcm) (sgn := sgn) (tim := tim) (sig := sig) (op := op) (opX := opX) (opY := opY) (opZ := opZ) (tgt := tgt) (sta := sta) (ins := ins) (opn := opn) (pE := pE) (pL := pL) (pI := pI) (pB := pB) (out := out) (pw := pw) (wk := wk) (ypf := ypf) (yat := yat) (yen := yen) (yju := yju) (yle := yle) (ysg := ysg) (ych := ych) (yot := yot) (ylo := ylo) (yba := yba) (yfr := yfr) (yva := yva) h1 h2 h3 h4 F
  obtain ⟨F1, F2, F3, F4, F5, F6, F7⟩ := F
  unfold wpX_number wpY_number
  by_cases c1 : v3 < 1
  · refine br_t c1 ?_
    unfold wpY_in
    exact br_t c1 (br_t rfl ⟨rfl, R⟩)
  · by_cases c2 : 9 < v3
    · refine br_f c1 (br_t c2 ?_)
      unfold wpY_in
      exact br_f c1 (br_t c2 (br_t rfl ⟨rfl, R⟩))
    · have c0 : ¬ v3 < 0 := by
        intro z
        apply c1
        rw [Int32.lt_iff_toInt_lt] at z ⊢
        rw [show (0 : Int32).toInt = 0 from by decide] at z
        rw [show (1 : Int32).toInt = 1 from by decide]
        omega
      obtain ⟨d, hd, rfl⟩ := nI_of c0
      have d1 : 1 ≤ d := by
        have : ¬ d < 1 := fun z => c1 ((nI_ltI (b := 1) (by omega) (by omega)).mpr z)
        omega
      have d2 : d ≤ 9 := by
        have : ¬ 9 < d := fun z => c2 ((nI_ltI (a := 9) (by omega) (by omega)).mpr z)
        omega
      refine br_f c1 (br_f c2 ?_)
      have Y1 : ∀ post : Int32 → Prop, post 1 → wpY_in post (nI d) 1 9 := fun post hP => yi_t (lo := 1) (hi := 9) d1 d2 (by omega) hP
      by_cases c3 : v4 < 0
      · refine br_t c3 (Y1 _ (br_f (by decide) ?_))
        unfold wpY_in
        exact br_t c3 (br_t rfl ⟨rfl, R⟩)
      · obtain ⟨e, he, rfl⟩ := nI_of c3
        by_cases c4 : e ≤ d
        · refine br_f c3 (br_t (nI_le c4 (by omega)) ?_)
          have Y2 : ∀ post : Int32 → Prop, post 1 → wpY_in post (nI e) 0 (nI d) := fun post hP => yi_t (lo := 0) (by omega) c4 (by omega) hP
          have FX : ∀ z0 : Int32, z0 = nI g → wX_number_35 (fun r u' => wpY_number (fun r' v' => r' = r ∧ i_Rel (k + 7) u' v') (nI N, pl, nI c, ypf, yat, st, ix, nI D, yen, nI f, yju, sto, srt, bas, yle, dcm, tim, sig, ysg, op, opX, opY, opZ, out, ych, yot, ylo, pE, pL, yba, yfr, yva) v1 v2 (nI d) (nI e) (nI g) v6) v1 v2 (nI d) (nI e) (nI g) v6 z0 (nI d) (nI N) xpa xop pl (nI c) pf pc st ix xst (nI f) (nI D) sto srt bas len dig dcm sgn tim sig op opX opY opZ tgt sta ins opn pE pL pI pB out pw wk := by
            intro z0 ez0
            subst ez0
            unfold wX_number_35
            refine nm_r (nI_add _ _) ?_
            have YY : ∀ post : Int32 → SY → Prop, wY_number_35 post v1 v2 (nI d) (nI e) (nI g) v6 (nI (d + g)) v2 v1 (nI N) pl (nI c) ypf yat st ix (nI D) yen (nI f) yju sto srt bas yle dcm tim sig ysg op opX opY opZ out ych yot ylo pE pL yba yfr yva → wpY_number post (nI N, pl, nI c, ypf, yat, st, ix, nI D, yen, nI f, yju, sto, srt, bas, yle, dcm, tim, sig, ysg, op, opX, opY, opZ, out, ych, yot, ylo, pE, pL, yba, yfr, yva) v1 v2 (nI d) (nI e) (nI g) v6 := by
              intro post K
              unfold wpY_number
              refine Y1 _ (br_f (by decide) (Y2 _ (br_f (by decide) ?_)))
              rcases (by omega : g = 0 ∨ g = 1) with rfl | rfl
              · exact br_t rfl K
              · refine br_f (by decide) ?_
                rw [nI_1 d]
                exact K
            rcases ft_sim (v1 := v1) (v2 := v2) (v6 := v6) (w := d + g) (cn := nI N) (xpa := xpa) (xop := xop) (pl := pl) (ck := nI c) (pf := pf) (pc := pc) (st := st) (ix := ix) (xst := xst) (tl := nI f) (ds := nI D) (sto := sto) (srt := srt) (bas := bas) (len := len) (dig := dig) (dcm := dcm) (sgn := sgn) (tim := tim) (sig := sig) (op := op) (opX := opX) (opY := opY) (opZ := opZ) (tgt := tgt) (sta := sta) (ins := ins) (opn := opn) (pE := pE) (pL := pL) (pI := pI) (pB := pB) (out := out) (pw := pw) (wk := wk) (ypf := ypf) (yat := yat) (yen := yen) (yju := yju) (yle := yle) (ysg := ysg) (ych := ych) (yot := yot) (ylo := ylo) (yba := yba) (yfr := yfr) (yva := yva) (by omega) (by omega) with ⟨fX, fY⟩ | ⟨i, b, t, rfl, i12, rfl, rfl, t1, t9, bw, fX, fY⟩
            · refine fX _ (br_t rfl (YY _ ?_))
              unfold wY_number_35
              exact fY _ (br_t rfl ⟨rfl, R⟩)
            · have hin : vp_in (nI i) 12 := vp_in_nI i12 (by omega)
              refine fX _ (br_f (by decide) (xl_lay (kd := 1) i12 (by omega) (by omega) (by omega) (by omega) ⟨hin, ?_⟩))
              rw [nI_clamp (n := i) (by omega), nb_w (c := d) (by omega), nb_w (c := e) (by omega), nb_bz g1]
              refine nm_e ⟨hin, nm_e ⟨hin, nm_e (YY _ ?_)⟩⟩
              unfold wY_number_35
              refine fY _ (br_f (by decide) (yl_make i12 ⟨hin, ?_⟩))
              rw [nI_clamp (n := i) (by omega), nb_bz g1]
              refine nm_e ⟨rfl, ?_⟩
              refine zz_mk (c := 0) h1 h2 h3 (by omega) ⟨F1, F2, srt_u (k := 1) F3 (by omega), F4, ?_, fun j => ?_, fun z => by omega⟩
              · refine its_u (i := i) (k := 1) (b := b) (w := d + g) (d := d) (e := e) (g := g) (t := t) (l := d) (h := g) F5 (fun j ej => ?_) (fun j m ej _ => rfl) ⟨⟨pk_us, pk_us, pk_us, pk_us, pk_us, pk_us, pk_us, pk_us, pk_us⟩, ⟨i12, t1, t9, bw, by omega, by omega, c4, d2⟩, Or.inl ⟨rfl, d1, g1, rfl, rfl, rfl⟩⟩
                exact ⟨pk_un ej, pk_un ej, pk_un ej, pk_un ej, pk_un ej, by rw [pk_un ej, pk_un ej], pk_un ej, pk_un ej, pk_un ej⟩
              · by_cases ej : j = i
                · rw [ej, pk_us]; exact ⟨g, g1, rfl⟩
                · rw [pk_un ej]; exact F6 j
          rcases (by omega : g = 0 ∨ g = 1) with rfl | rfl
          · exact br_t rfl (FX 0 rfl)
          · exact br_f (by decide) (FX 1 rfl)
        · refine br_f c3 (br_f (nI_ge (by omega) (by omega)) (Y1 _ (br_f (by decide) ?_)))
          unfold wpY_in
          exact br_f c3 (br_t (nI_lt (by omega) (by omega)) (br_t rfl ⟨rfl, R⟩))
end
section
/-! pictures: their signs from the right (T) and from the left (S) -/
def q_og (P n : Nat) : Nat := P / 8 ^ n % 8
def q_an (c : Nat → Bool) : Nat → Nat
  | 0 => 0
  | k + 1 => if c k = true then 1 else q_an c k
theorem an_le (c : Nat → Bool) : ∀ k, q_an c k ≤ 1
  | 0 => Nat.zero_le 1
  | k + 1 => by
    have := an_le c k
    show (if c k = true then 1 else q_an c k) ≤ 1
    by_cases h : c k = true
    · rw [if_pos h]; omega
    · rw [if_neg h]; exact this
theorem an_s (c : Nat → Bool) (k : Nat) : q_an c (k + 1) = if c k = true then 1 else q_an c k := rfl
theorem an_1 {c : Nat → Bool} {j : Nat} (hj : c j = true) : ∀ k, j < k → q_an c k = 1
  | 0, h => by omega
  | k + 1, h => by
    rw [an_s]
    by_cases e : c k = true
    · rw [if_pos e]
    · rw [if_neg e]
      have : j ≠ k := fun z => e (z ▸ hj)
      exact an_1 hj k (by omega)
theorem an_ex {c : Nat → Bool} : ∀ k, q_an c k = 1 → ∃ j, j < k ∧ c j = true
  | 0, h => absurd h (by decide : (0 : Nat) ≠ 1)
  | k + 1, h => by
    rw [an_s] at h
    by_cases e : c k = true
    · exact ⟨k, by omega, e⟩
    · rw [if_neg e] at h
      obtain ⟨j, j1, j2⟩ := an_ex k h
      exact ⟨j, by omega, j2⟩
def q_dc (S : Nat → Nat) : Nat → Nat
  | 0 => 0
  | k + 1 => if S k < 4 then q_dc S k + 1 else q_dc S k
theorem dc_s (S : Nat → Nat) (k : Nat) : q_dc S (k + 1) = if S k < 4 then q_dc S k + 1 else q_dc S k := rfl
theorem dc_le (S : Nat → Nat) : ∀ k, q_dc S k ≤ k
  | 0 => Nat.le_refl 0
  | k + 1 => by
    have := dc_le S k
    rw [dc_s]
    by_cases h : S k < 4
    · rw [if_pos h]; omega
    · rw [if_neg h]; omega
theorem dc_1 {S : Nat → Nat} {j : Nat} (hj : S j < 4) : ∀ k, j < k → 0 < q_dc S k
  | 0, h => by omega
  | k + 1, h => by
    rw [dc_s]
    by_cases e : S k < 4
    · rw [if_pos e]; omega
    · rw [if_neg e]
      have : j ≠ k := fun z => e (z ▸ hj)
      exact dc_1 hj k (by omega)
theorem dc_ex {S : Nat → Nat} : ∀ k, 0 < q_dc S k → ∃ j, j < k ∧ S j < 4
  | 0, h => absurd h (Nat.lt_irrefl 0)
  | k + 1, h => by
    rw [dc_s] at h
    by_cases e : S k < 4
    · exact ⟨k, by omega, e⟩
    · rw [if_neg e] at h
      obtain ⟨j, j1, j2⟩ := dc_ex k h
      exact ⟨j, by omega, j2⟩
def q_pf (S : Nat → Nat) (k : Nat) : Nat := q_an (fun j => decide (S j = 5)) k
def q_fx (S : Nat → Nat) (k : Nat) : Nat := q_an (fun j => decide (S j = 2 ∨ S j = 3)) k
def q_f1 (S : Nat → Nat) (k : Nat) : Nat := q_an (fun j => decide (S j = 1)) k
def q_bh (S : Nat → Nat) : Nat → Nat
  | 0 => 0
  | k + 1 => if S k < 4 ∧ q_pf S k = 1 then q_bh S k + 1 else q_bh S k
theorem bh_s (S : Nat → Nat) (k : Nat) : q_bh S (k + 1) = if S k < 4 ∧ q_pf S k = 1 then q_bh S k + 1 else q_bh S k := rfl
theorem bh_le (S : Nat → Nat) : ∀ k, q_bh S k ≤ q_dc S k
  | 0 => Nat.le_refl 0
  | k + 1 => by
    have := bh_le S k
    rw [dc_s, bh_s]
    by_cases h : S k < 4
    · rw [if_pos h]
      by_cases h2 : S k < 4 ∧ q_pf S k = 1
      · rw [if_pos h2]; omega
      · rw [if_neg h2]; omega
    · rw [if_neg h, if_neg (fun z => h z.1)]; exact this
/-- from the right -/
def q_AT (T : Nat → Nat) (w n : Nat) : Prop := (∀ j, j < n → T j ≠ 0 ∧ (5 < T j → j + 1 = w)) ∧ (∀ j m, m < j → j < n → ¬ (T j = 5 ∧ (T m = 5 ∨ T m = 2 ∨ T m = 3)) ∧ ¬ (T j = 1 ∧ (T m = 2 ∨ T m = 3)))
/-- from the left -/
def q_AS (S : Nat → Nat) (k : Nat) : Prop := (∀ j, j < k → S j ≠ 0 ∧ (5 < S j → j = 0)) ∧ (∀ j m, j < m → m < k → ¬ (S j = 5 ∧ (S m = 5 ∨ S m = 2 ∨ S m = 3)) ∧ ¬ (S j = 1 ∧ (S m = 2 ∨ S m = 3)))
theorem as_at {T : Nat → Nat} {w : Nat} : q_AS (fun k => T (w - 1 - k)) w ↔ q_AT T w w := by
  constructor
  · rintro ⟨a, b⟩
    refine ⟨fun j hj => ?_, fun j m h1 h2 => ?_⟩
    · have := a (w - 1 - j) (by omega)
      dsimp only at this
      rw [show w - 1 - (w - 1 - j) = j by omega] at this
      exact ⟨this.1, fun z => by have := this.2 z; omega⟩
    · have := b (w - 1 - j) (w - 1 - m) (by omega) (by omega)
      dsimp only at this
      rw [show w - 1 - (w - 1 - j) = j by omega, show w - 1 - (w - 1 - m) = m by omega] at this
      exact this
  · rintro ⟨a, b⟩
    refine ⟨fun j hj => ?_, fun j m h1 h2 => ?_⟩
    · have := a (w - 1 - j) (by omega)
      exact ⟨this.1, fun z => by have := this.2 z; omega⟩
    · exact b (w - 1 - j) (w - 1 - m) (by omega) (by omega)
theorem dc_rev {T : Nat → Nat} {w : Nat} : 0 < q_dc (fun k => T (w - 1 - k)) w ↔ 0 < q_dc T w := by
  constructor
  · intro h
    obtain ⟨j, j1, j2⟩ := dc_ex w h
    exact dc_1 (j := w - 1 - j) j2 w (by omega)
  · intro h
    obtain ⟨j, j1, j2⟩ := dc_ex w h
    refine dc_1 (j := w - 1 - j) ?_ w (by omega)
    show T (w - 1 - (w - 1 - j)) < 4
    rw [show w - 1 - (w - 1 - j) = j by omega]
    exact j2
theorem og_lt (P n : Nat) : q_og P n < 8 := Nat.mod_lt _ (by decide)
theorem og_s (P n : Nat) : P / 8 ^ n / 8 = P / 8 ^ (n + 1) := by rw [Nat.div_div_eq_div_mul, Nat.pow_succ]
theorem e8_s {n : Nat} (hn : n < 2147483648) : ((nI n).toUInt32 >>> ((3 : Int32).toUInt32 &&& Int32.toUInt32 31)).toInt32 = nI (n / 8) := pk_ushrN (by omega) 3 3 (by decide)
theorem e8_a {n : Nat} (hn : n < 2147483648) : nI n &&& 7 = nI (n % 8) := pk_andN (by omega) 3 (by decide)
theorem e8_sh {P m : Nat} (hP : P < 2147483648) (hm : m < 8) : (nI P >>> ((3 * nI m) &&& 31)) &&& 7 = nI (q_og P m) := by
  rw [show (3 : Int32) * nI m = nI (3 * m) from pk_mul 3 m, pk_shrN hP (nI (3 * m) &&& 31) (3 * m) (s_l (3 * m) (by omega)), Nat.pow_mul]
  exact e8_a (Nat.lt_of_le_of_lt (Nat.div_le_self _ _) hP)
/-- the component's look at a picture -/
theorem xs_115 {post : Int32 → Prop} {w dc : Nat} (hw : w ≤ 8) (hd : dc ≤ 8) (h1 : 0 < dc → post (nI w)) (h0 : dc = 0 → post 0) : wX_signs_115 post (nI w) (nI dc) := by
  unfold wX_signs_115
  exact br_f (nI_nlt (a := 8) (by omega) (by omega)) (pk_eq dc 0 h0 (fun z => h1 (by omega)))
theorem xs_12 {post : Int32 → Prop} {P w : Nat} (hP : P < 2147483648) (hw8 : w ≤ 8) (hw : P < 8 ^ w) (hw' : ∀ n, n < w → 0 < P / 8 ^ n) (h1 : q_AT (q_og P) w w → 0 < q_dc (q_og P) w → post (nI w)) (h0 : ¬ (q_AT (q_og P) w w ∧ 0 < q_dc (q_og P) w) → post 0) : ∀ r n m : Nat, n + r = w → r < m → q_AT (q_og P) w n → wX_signs_12 post m (nI n) (nI (P / 8 ^ n)) (nI (q_pf (q_og P) n)) (nI (q_fx (q_og P) n)) (nI (q_dc (q_og P) n)) := by
  intro r
  induction r with
  | zero =>
    intro n m hn hm hA
    obtain ⟨m, rfl⟩ : ∃ q, m = q + 1 := ⟨m - 1, by omega⟩
    obtain rfl : n = w := by omega
    rw [Nat.div_eq_of_lt hw]
    have dl := dc_le (q_og P) n
    refine br_t (by decide) (xs_115 hw8 (by omega) (h1 hA) (fun z => h0 (fun y => by omega)))
  | succ r ih =>
    intro n m hn hm hA
    obtain ⟨m, rfl⟩ : ∃ q, m = q + 1 := ⟨m - 1, by omega⟩
    have p0 := hw' n (by omega)
    have pl : P / 8 ^ n < 2147483648 := Nat.lt_of_le_of_lt (Nat.div_le_self _ _) hP
    have pl1 : P / 8 ^ (n + 1) < 2147483648 := Nat.lt_of_le_of_lt (Nat.div_le_self _ _) hP
    have ol := og_lt P n
    have fp := an_le (fun j => decide (q_og P j = 5)) n
    have ff := an_le (fun j => decide (q_og P j = 2 ∨ q_og P j = 3)) n
    have dl := dc_le (q_og P) n
    have bad : ¬ (q_og P n ≠ 0 ∧ (5 < q_og P n → n + 1 = w)) → post 0 := fun z => h0 (fun y => z (y.1.1 n (by omega)))
    have badp : (∃ j, j < n ∧ ¬ (¬ (q_og P n = 5 ∧ (q_og P j = 5 ∨ q_og P j = 2 ∨ q_og P j = 3)) ∧ ¬ (q_og P n = 1 ∧ (q_og P j = 2 ∨ q_og P j = 3)))) → post 0 := fun ⟨j, j1, j2⟩ => h0 (fun y => j2 (y.1.2 n j j1 (by omega)))
    refine br_f (nI_nle p0 pl) (br_f (nI_ge (b := 9) (by omega) (by omega)) ?_)
    rw [e8_a pl, e8_s pl, og_s]
    refine nm_e (nm_e (nm_r (nI_1 _) ?_))
    show ((nI (q_og P n) = 0 → post 0) ∧ _)
    have K : (q_og P n ≠ 0) → (5 < q_og P n → n + 1 = w) → wX_signs_50 post (wX_signs_12 post m) (nI (n + 1)) (nI (P / 8 ^ (n + 1))) (nI (q_pf (q_og P) n)) (nI (q_fx (q_og P) n)) (nI (q_dc (q_og P) n)) (nI (q_og P n)) := by
      intro o0 o5
      have next : (∀ j, j < n → ¬ (q_og P n = 5 ∧ (q_og P j = 5 ∨ q_og P j = 2 ∨ q_og P j = 3)) ∧ ¬ (q_og P n = 1 ∧ (q_og P j = 2 ∨ q_og P j = 3))) → wX_signs_12 post m (nI (n + 1)) (nI (P / 8 ^ (n + 1))) (nI (q_pf (q_og P) (n + 1))) (nI (q_fx (q_og P) (n + 1))) (nI (q_dc (q_og P) (n + 1))) := by
        intro hj
        refine ih (n + 1) m (by omega) (by omega) ⟨fun j j1 => ?_, fun j k k1 j1 => ?_⟩
        · by_cases e : j = n
          · rw [e]; exact ⟨o0, o5⟩
          · exact hA.1 j (by omega)
        · by_cases e : j = n
          · rw [e]; rw [e] at k1; exact hj k k1
          · exact hA.2 j k k1 (by omega)
      have pfs : q_pf (q_og P) (n + 1) = if q_og P n = 5 then 1 else q_pf (q_og P) n := by
        unfold q_pf; rw [an_s]
        by_cases e : q_og P n = 5
        · rw [if_pos e, if_pos (decide_eq_true e)]
        · rw [if_neg e, if_neg (by simp [e])]
      have fxs : q_fx (q_og P) (n + 1) = if q_og P n = 2 ∨ q_og P n = 3 then 1 else q_fx (q_og P) n := by
        unfold q_fx; rw [an_s]
        by_cases e : q_og P n = 2 ∨ q_og P n = 3
        · rw [if_pos e, if_pos (decide_eq_true e)]
        · rw [if_neg e, if_neg (by simp only [decide_eq_true_eq]; exact e)]
      -- the rest behind the tests of the point
      have K67 : (q_og P n = 5 → q_pf (q_og P) n = 0 ∧ q_fx (q_og P) n = 0) → wX_signs_67 post (wX_signs_12 post m) (nI (n + 1)) (nI (P / 8 ^ (n + 1))) (nI (q_pf (q_og P) n)) (nI (q_fx (q_og P) n)) (nI (q_dc (q_og P) n)) (nI (q_og P n)) := by
        intro h5
        have K99 : wX_signs_99 post (wX_signs_12 post m) (nI (n + 1)) (nI (P / 8 ^ (n + 1))) (nI (q_pf (q_og P) (n + 1))) (nI (q_fx (q_og P) (n + 1))) (nI (q_dc (q_og P) (n + 1))) (nI (q_og P n)) := by
          have ok : ¬ (q_og P n = 1 ∧ q_fx (q_og P) n = 1) → ∀ j, j < n → ¬ (q_og P n = 5 ∧ (q_og P j = 5 ∨ q_og P j = 2 ∨ q_og P j = 3)) ∧ ¬ (q_og P n = 1 ∧ (q_og P j = 2 ∨ q_og P j = 3)) := by
            intro hx j j1
            refine ⟨fun z => ?_, fun z => ?_⟩
            · obtain ⟨h6, h7⟩ := h5 z.1
              rcases z.2 with y | y
              · have : q_pf (q_og P) n = 1 := an_1 (j := j) (decide_eq_true y) n j1
                omega
              · have : q_fx (q_og P) n = 1 := an_1 (j := j) (decide_eq_true y) n j1
                omega
            · exact hx ⟨z.1, an_1 (j := j) (decide_eq_true z.2) n j1⟩
          unfold wX_signs_99
          refine pk_eq (q_og P n) 1 (fun o1 => ?_) (fun o1 => next (ok (fun z => o1 z.1)))
          have e2 : q_fx (q_og P) (n + 1) = q_fx (q_og P) n := by rw [fxs, if_neg (by omega)]
          by_cases fx0 : q_fx (q_og P) n = 0
          · refine br_t (by rw [e2, fx0]; rfl) (next (ok (fun z => by omega)))
          · have fx1 : q_fx (q_og P) n = 1 := by unfold q_fx at fx0 ⊢; omega
            refine br_f (by rw [e2, fx1]; decide) (badp ?_)
            obtain ⟨j, j1, j2⟩ := an_ex n fx1
            exact ⟨j, j1, fun y => y.2 ⟨o1, of_decide_eq_true j2⟩⟩
        have K90 : wX_signs_90 post (wX_signs_12 post m) (nI (n + 1)) (nI (P / 8 ^ (n + 1))) (nI (q_pf (q_og P) (n + 1))) (nI (q_fx (q_og P) (n + 1))) (nI (q_dc (q_og P) n)) (nI (q_og P n)) := by
          unfold wX_signs_90
          refine pk_le 4 (q_og P n) (fun z => ?_) (fun z => ?_)
          · rw [dc_s, if_neg (by omega)] at K99
            exact K99
          · rw [dc_s, if_pos z] at K99
            exact nm_r (nI_1 _) K99
        have K75 : wX_signs_75 post (wX_signs_12 post m) (nI (n + 1)) (nI (P / 8 ^ (n + 1))) (nI (q_pf (q_og P) (n + 1))) (nI (q_fx (q_og P) n)) (nI (q_dc (q_og P) n)) (nI (q_og P n)) := by
          unfold wX_signs_75
          refine pk_eq (q_og P n) 2 (fun z => ?_) (fun z => pk_eq (q_og P n) 3 (fun y => ?_) (fun y => ?_))
          · rw [fxs, if_pos (Or.inl z)] at K90
            unfold wX_signs_87
            exact K90
          · rw [fxs, if_pos (Or.inr y)] at K90
            unfold wX_signs_87
            exact K90
          · rw [fxs, if_neg (by omega)] at K90
            exact K90
        unfold wX_signs_67
        refine pk_eq (q_og P n) 5 (fun z => ?_) (fun z => ?_)
        · rw [pfs, if_pos z] at K75
          exact K75
        · rw [pfs, if_neg z] at K75
          exact K75
      unfold wX_signs_50
      refine pk_eq (q_og P n) 5 (fun z => ?_) (fun z => K67 (fun y => absurd y z))
      by_cases pf0 : q_pf (q_og P) n = 0
      · refine br_t (by rw [pf0]; rfl) ?_
        by_cases fx0 : q_fx (q_og P) n = 0
        · exact br_t (by rw [fx0]; rfl) (K67 (fun _ => ⟨pf0, fx0⟩))
        · have fx1 : q_fx (q_og P) n = 1 := by unfold q_fx at fx0 ⊢; omega
          refine br_f (by rw [fx1]; decide) (badp ?_)
          obtain ⟨j, j1, j2⟩ := an_ex n fx1
          exact ⟨j, j1, fun y => y.1 ⟨z, Or.inr (of_decide_eq_true j2)⟩⟩
      · have pf1 : q_pf (q_og P) n = 1 := by unfold q_pf at pf0 ⊢; omega
        refine br_f (by rw [pf1]; decide) (badp ?_)
        obtain ⟨j, j1, j2⟩ := an_ex n pf1
        exact ⟨j, j1, fun y => y.1 ⟨z, Or.inl (of_decide_eq_true j2)⟩⟩
    refine pk_eq (q_og P n) 0 (fun z => bad (fun y => y.1 z)) (fun z => pk_le (q_og P n) 5 (fun y => K z (fun q => by omega)) (fun y => ?_))
    refine pk_lt 0 (P / 8 ^ (n + 1)) (fun q => bad (fun t => ?_)) (fun q => K z (fun _ => ?_))
    · have := t.2 y
      subst this
      rw [Nat.div_eq_of_lt hw] at q
      omega
    · refine Classical.byContradiction (fun t => ?_)
      have := hw' (n + 1) (by omega)
      omega
/-- a picture of nine signs or more -/
theorem xs_big {post : Int32 → Prop} {P : Nat} (hP : P < 2147483648) (hb : 16777216 ≤ P) (h0 : post 0) : ∀ r n m : Nat, n + r = 9 → r < m → ∀ x3 x4 x5 : Int32, wX_signs_12 post m (nI n) (nI (P / 8 ^ n)) x3 x4 x5 := by
  intro r
  induction r with
  | zero =>
    intro n m hn hm x3 x4 x5
    obtain ⟨m, rfl⟩ : ∃ q, m = q + 1 := ⟨m - 1, by omega⟩
    obtain rfl : n = 9 := by omega
    have K : wX_signs_115 post (nI 9) x5 := by
      unfold wX_signs_115
      exact br_t (by decide) h0
    exact br_c (fun _ => K) (fun _ => br_t (by decide) K)
  | succ r ih =>
    intro n m hn hm x3 x4 x5
    obtain ⟨m, rfl⟩ : ∃ q, m = q + 1 := ⟨m - 1, by omega⟩
    have p8 : 8 ^ n ≤ 8 ^ 8 := Nat.pow_le_pow_right (by decide) (by omega)
    have p0 : 0 < P / 8 ^ n := Nat.div_pos (Nat.le_trans p8 hb) (Nat.pow_pos (by decide))
    have pl : P / 8 ^ n < 2147483648 := Nat.lt_of_le_of_lt (Nat.div_le_self _ _) hP
    refine br_f (nI_nle p0 pl) (br_f (nI_ge (b := 9) (by omega) (by omega)) ?_)
    rw [e8_s pl, og_s]
    refine fun x6 _ => nm_e (nm_r (nI_1 _) ?_)
    have K := ih (n + 1) m (by omega) (by omega)
    have K99 : ∀ y3 y4 y5, wX_signs_99 post (wX_signs_12 post m) (nI (n + 1)) (nI (P / 8 ^ (n + 1))) y3 y4 y5 x6 := by
      intro y3 y4 y5
      unfold wX_signs_99
      exact br_c (fun _ => br_c (fun _ => K y3 y4 y5) (fun _ => h0)) (fun _ => K y3 y4 y5)
    have K90 : ∀ y3 y4 y5, wX_signs_90 post (wX_signs_12 post m) (nI (n + 1)) (nI (P / 8 ^ (n + 1))) y3 y4 y5 x6 := by
      intro y3 y4 y5
      unfold wX_signs_90
      exact br_c (fun _ => K99 y3 y4 y5) (fun _ => nm_e (K99 y3 y4 _))
    have K75 : ∀ y3 y4 y5, wX_signs_75 post (wX_signs_12 post m) (nI (n + 1)) (nI (P / 8 ^ (n + 1))) y3 y4 y5 x6 := by
      intro y3 y4 y5
      unfold wX_signs_75 wX_signs_87
      exact br_c (fun _ => K90 y3 1 y5) (fun _ => br_c (fun _ => K90 y3 1 y5) (fun _ => K90 y3 y4 y5))
    have K67 : ∀ y3 y4 y5, wX_signs_67 post (wX_signs_12 post m) (nI (n + 1)) (nI (P / 8 ^ (n + 1))) y3 y4 y5 x6 := by
      intro y3 y4 y5
      unfold wX_signs_67
      exact br_c (fun _ => K75 1 y4 y5) (fun _ => K75 y3 y4 y5)
    have K50 : ∀ y3 y4 y5, wX_signs_50 post (wX_signs_12 post m) (nI (n + 1)) (nI (P / 8 ^ (n + 1))) y3 y4 y5 x6 := by
      intro y3 y4 y5
      unfold wX_signs_50
      exact br_c (fun _ => br_c (fun _ => br_c (fun _ => K67 y3 y4 y5) (fun _ => h0)) (fun _ => h0)) (fun _ => K67 y3 y4 y5)
    exact br_c (fun _ => h0) (fun _ => br_c (fun _ => K50 x3 x4 x5) (fun _ => br_c (fun _ => h0) (fun _ => K50 x3 x4 x5)))
end
section
section
variable {cn : Int32} {xpa : Int32} {xop : Int32} {pl : Int32} {ck : Int32} {pf : Int32} {pc : Int32} {st : Int32} {ix : Int32} {xst : Int32} {tl : Int32} {ds : Int32} {sto : Nat → Int32} {srt : Nat → Int32} {bas : Nat → Int32} {len : Nat → Int32} {dig : Nat → Int32} {dcm : Nat → Int32} {sgn : Nat → Int32} {tim : Nat → Int32} {sig : Nat → Int32} {op : Nat → Int32} {opX : Nat → Int32} {opY : Nat → Int32} {opZ : Nat → Int32} {tgt : Nat → Int32} {sta : Nat → Int32} {ins : Nat → Int32} {opn : Nat → Int32} {pE : Nat → Int32} {pL : Nat → Int32} {pI : Nat → Int32} {pB : Nat → Int32} {out : Nat → Int32} {pw : Nat → Int64} {wk : Nat → Int32} {ypf : Int32} {yat : Int32} {yen : Int32} {yju : Int32} {yle : Nat → Int32} {ysg : Nat → Int32} {ych : Nat → Int32} {yot : Nat → Int32} {ylo : Nat → Int32} {yba : Nat → Int32} {yfr : Nat → Int32} {yva : Nat → Int32}
/-- the reference's test of one sign -/
theorem ye_b {post : Int32 → SY → Prop} {J : Int32 → Int32 → Int32 → Int32 → Int32 → Prop} {x1 x2 x3 x4 x5 : Int32} {S : Nat → Nat} {k : Nat} (hk : k < 8) (hS : S k < 8) (hA : q_AS S k) (h0 : ¬ q_AS S (k + 1) → post 0 (cn, pl, ck, ypf, yat, st, ix, ds, yen, tl, yju, sto, srt, bas, yle, dcm, tim, sig, ysg, op, opX, opY, opZ, out, ych, yot, ylo, pE, pL, yba, yfr, yva)) (K : q_AS S (k + 1) → J (nI (q_bh S (k + 1))) (nI (q_dc S (k + 1))) (nI (q_pf S (k + 1))) (nI (q_f1 S (k + 1))) (nI (k + 1))) :
    ((nI (S k) = 0 → (post 0 (cn, pl, ck, ypf, yat, st, ix, ds, yen, tl, yju, sto, srt, bas, yle, dcm, tim, sig, ysg, op, opX, opY, opZ, out, ych, yot, ylo, pE, pL, yba, yfr, yva))) ∧ (¬ nI (S k) = 0 → ((nI (S k) = 5 → ((nI (q_pf S k) = 0 → wY_edited_91 post J x1 x2 x3 x4 x5 (nI (q_bh S k)) (nI (q_dc S k)) (nI (q_pf S k)) (nI (q_f1 S k)) (nI k) (nI (S k)) cn pl ck ypf yat st ix ds yen tl yju sto srt bas yle dcm tim sig ysg op opX opY opZ out ych yot ylo pE pL yba yfr yva) ∧ (¬ nI (q_pf S k) = 0 → post 0 (cn, pl, ck, ypf, yat, st, ix, ds, yen, tl, yju, sto, srt, bas, yle, dcm, tim, sig, ysg, op, opX, opY, opZ, out, ych, yot, ylo, pE, pL, yba, yfr, yva)))) ∧ (¬ nI (S k) = 5 → wY_edited_91 post J x1 x2 x3 x4 x5 (nI (q_bh S k)) (nI (q_dc S k)) (nI (q_pf S k)) (nI (q_f1 S k)) (nI k) (nI (S k)) cn pl ck ypf yat st ix ds yen tl yju sto srt bas yle dcm tim sig ysg op opX opY opZ out ych yot ylo pE pL yba yfr yva)))) := by
  have fp : q_pf S k ≤ 1 := an_le _ k
  have f1 : q_f1 S k ≤ 1 := an_le _ k
  have dl := dc_le S k
  have bl := bh_le S k
  have pfs : q_pf S (k + 1) = if S k = 5 then 1 else q_pf S k := by
    unfold q_pf; rw [an_s]
    by_cases e : S k = 5
    · rw [if_pos e, if_pos (decide_eq_true e)]
    · rw [if_neg e, if_neg (by simp [e])]
  have f1s : q_f1 S (k + 1) = if S k = 1 then 1 else q_f1 S k := by
    unfold q_f1; rw [an_s]
    by_cases e : S k = 1
    · rw [if_pos e, if_pos (decide_eq_true e)]
    · rw [if_neg e, if_neg (by simp [e])]
  have or0 : ∀ f : Nat, f ≤ 1 → nI f ||| 0 = nI f := by decide
  have or1 : ∀ f : Nat, f ≤ 1 → nI f ||| 1 = nI 1 := by decide
  have bad1 : ¬ (S k ≠ 0 ∧ (5 < S k → k = 0)) → post 0 (cn, pl, ck, ypf, yat, st, ix, ds, yen, tl, yju, sto, srt, bas, yle, dcm, tim, sig, ysg, op, opX, opY, opZ, out, ych, yot, ylo, pE, pL, yba, yfr, yva) := fun z => h0 (fun y => z (y.1 k (by omega)))
  have badp : (∃ j, j < k ∧ ¬ (¬ (S j = 5 ∧ (S k = 5 ∨ S k = 2 ∨ S k = 3)) ∧ ¬ (S j = 1 ∧ (S k = 2 ∨ S k = 3)))) → post 0 (cn, pl, ck, ypf, yat, st, ix, ds, yen, tl, yju, sto, srt, bas, yle, dcm, tim, sig, ysg, op, opX, opY, opZ, out, ych, yot, ylo, pE, pL, yba, yfr, yva) := fun ⟨j, j1, j2⟩ => h0 (fun y => j2 (y.2 j k j1 (by omega)))
  have K126 : S k ≠ 0 → (5 < S k → k = 0) → (S k = 5 → q_pf S k = 0) → ((S k = 2 ∨ S k = 3) → q_pf S k = 0 ∧ q_f1 S k = 0) → wY_edited_126 post J x1 x2 x3 x4 x5 (nI (q_bh S k)) (nI (q_dc S k)) (nI (q_pf S k)) (nI (q_f1 S k)) (nI k) (nI (S k)) cn pl ck ypf yat st ix ds yen tl yju sto srt bas yle dcm tim sig ysg op opX opY opZ out ych yot ylo pE pL yba yfr yva := by
    intro a1 a2 a3 a4
    have hA' : q_AS S (k + 1) := by
      refine ⟨fun j hj => ?_, fun j m h1 h2 => ?_⟩
      · by_cases e : j = k
        · rw [e]; exact ⟨a1, a2⟩
        · exact hA.1 j (by omega)
      · by_cases e : m = k
        · subst e
          refine ⟨fun z => ?_, fun z => ?_⟩
          · have p1 : q_pf S m = 1 := an_1 (j := j) (decide_eq_true z.1) m h1
            rcases z.2 with y | y
            · have := a3 y; omega
            · have := (a4 y).1; omega
          · have p1 : q_f1 S m = 1 := an_1 (j := j) (decide_eq_true z.1) m h1
            have := (a4 z.2).2; omega
        · exact hA.2 j m h1 (by omega)
    have K' := K hA'
    have K167 : wY_edited_167 post J x1 x2 x3 x4 x5 (nI (q_bh S k)) (nI (q_dc S (k + 1))) (nI (q_pf S (k + 1))) (nI (q_f1 S (k + 1))) (nI k) (nI (S k)) cn pl ck ypf yat st ix ds yen tl yju sto srt bas yle dcm tim sig ysg op opX opY opZ out ych yot ylo pE pL yba yfr yva := by
      unfold wY_edited_167
      refine pk_le 4 (S k) (fun z => ?_) (fun z => ?_)
      · rw [bh_s, if_neg (by omega)] at K'
        exact nm_r (nI_1 _) K'
      · have e5 : q_pf S (k + 1) = q_pf S k := by rw [pfs, if_neg (by omega)]
        by_cases p0 : q_pf S k = 0
        · rw [bh_s, if_neg (by omega)] at K'
          exact br_t (by rw [e5, p0]; rfl) (nm_r (nI_1 _) K')
        · rw [bh_s, if_pos ⟨z, by omega⟩] at K'
          exact br_f (by rw [e5, show q_pf S k = 1 by omega]; decide) (nm_r (nI_1 _) (nm_r (nI_1 _) K'))
    have K155 : ∀ z0 : Int32, nI (q_f1 S k) ||| z0 = nI (q_f1 S (k + 1)) → wY_edited_155 post J x1 x2 x3 x4 x5 (nI (q_bh S k)) (nI (q_dc S k)) (nI (q_pf S (k + 1))) (nI k) (nI (S k)) z0 (nI (q_f1 S k)) cn pl ck ypf yat st ix ds yen tl yju sto srt bas yle dcm tim sig ysg op opX opY opZ out ych yot ylo pE pL yba yfr yva := by
      intro z0 ez
      unfold wY_edited_155
      refine nm_r ez (pk_le 4 (S k) (fun z => ?_) (fun z => ?_))
      · rw [dc_s, if_neg (by omega)] at K167
        exact K167
      · rw [dc_s, if_pos z] at K167
        exact nm_r (nI_1 _) K167
    have K139 : ∀ z0 : Int32, nI (q_pf S k) ||| z0 = nI (q_pf S (k + 1)) → wY_edited_139 post J x1 x2 x3 x4 x5 (nI (q_bh S k)) (nI (q_dc S k)) (nI (q_f1 S k)) (nI k) (nI (S k)) z0 (nI (q_pf S k)) cn pl ck ypf yat st ix ds yen tl yju sto srt bas yle dcm tim sig ysg op opX opY opZ out ych yot ylo pE pL yba yfr yva := by
      intro z0 ez
      unfold wY_edited_139
      refine nm_r ez (pk_eq (S k) 1 (fun z => K155 1 ?_) (fun z => K155 0 ?_))
      · rw [or1 _ f1, f1s, if_pos z]
      · rw [or0 _ f1, f1s, if_neg z]
    unfold wY_edited_126
    refine pk_eq (S k) 5 (fun z => K139 1 ?_) (fun z => K139 0 ?_)
    · rw [or1 _ fp, pfs, if_pos z]
    · rw [or0 _ fp, pfs, if_neg z]
  have K91 : S k ≠ 0 → (S k = 5 → q_pf S k = 0) → wY_edited_91 post J x1 x2 x3 x4 x5 (nI (q_bh S k)) (nI (q_dc S k)) (nI (q_pf S k)) (nI (q_f1 S k)) (nI k) (nI (S k)) cn pl ck ypf yat st ix ds yen tl yju sto srt bas yle dcm tim sig ysg op opX opY opZ out ych yot ylo pE pL yba yfr yva := by
    intro a1 a3
    have K102 : (5 < S k → k = 0) → wY_edited_102 post J x1 x2 x3 x4 x5 (nI (q_bh S k)) (nI (q_dc S k)) (nI (q_pf S k)) (nI (q_f1 S k)) (nI k) (nI (S k)) cn pl ck ypf yat st ix ds yen tl yju sto srt bas yle dcm tim sig ysg op opX opY opZ out ych yot ylo pE pL yba yfr yva := by
      intro a2
      have K114 : (S k = 2 ∨ S k = 3) → wY_edited_114 post J x1 x2 x3 x4 x5 (nI (q_bh S k)) (nI (q_dc S k)) (nI (q_pf S k)) (nI (q_f1 S k)) (nI k) (nI (S k)) cn pl ck ypf yat st ix ds yen tl yju sto srt bas yle dcm tim sig ysg op opX opY opZ out ych yot ylo pE pL yba yfr yva := by
        intro c
        unfold wY_edited_114
        by_cases z1 : q_f1 S k = 0
        · refine br_t (by rw [z1]; rfl) ?_
          by_cases z2 : q_pf S k = 0
          · exact br_t (by rw [z2]; rfl) (K126 a1 a2 a3 (fun _ => ⟨z2, z1⟩))
          · refine br_f (by rw [show q_pf S k = 1 by omega]; decide) (badp ?_)
            obtain ⟨j, j1, j2⟩ := an_ex k (show q_pf S k = 1 by omega)
            exact ⟨j, j1, fun y => y.1 ⟨of_decide_eq_true j2, Or.inr c⟩⟩
        · refine br_f (by rw [show q_f1 S k = 1 by omega]; decide) (badp ?_)
          obtain ⟨j, j1, j2⟩ := an_ex k (show q_f1 S k = 1 by omega)
          exact ⟨j, j1, fun y => y.2 ⟨of_decide_eq_true j2, c⟩⟩
      unfold wY_edited_102
      exact pk_eq (S k) 2 (fun z => K114 (Or.inl z)) (fun z => pk_eq (S k) 3 (fun y => K114 (Or.inr y)) (fun y => K126 a1 a2 a3 (fun c => by omega)))
    unfold wY_edited_91
    refine pk_le (S k) 5 (fun z => K102 (fun y => by omega)) (fun z => pk_lt 0 k (fun y => bad1 (fun q => by have := q.2 z; omega)) (fun y => K102 (fun _ => by omega)))
  refine pk_eq (S k) 0 (fun z => bad1 (fun y => y.1 z)) (fun z => pk_eq (S k) 5 (fun y => ?_) (fun y => K91 z (fun q => absurd q y)))
  by_cases p0 : q_pf S k = 0
  · exact br_t (by rw [p0]; rfl) (K91 z (fun _ => p0))
  · refine br_f (by rw [show q_pf S k = 1 by omega]; decide) (badp ?_)
    obtain ⟨j, j1, j2⟩ := an_ex k (show q_pf S k = 1 by omega)
    exact ⟨j, j1, fun q => q.1 ⟨of_decide_eq_true j2, Or.inl y⟩⟩
theorem ye_52 {post : Int32 → SY → Prop} {P w : Nat} {x1 x2 x4 : Int32} (hP : P < 2147483648) (hw1 : 1 ≤ w) (hw8 : w ≤ 8) (h0 : ¬ q_AS (fun k => q_og P (w - 1 - k)) w → post 0 (cn, pl, ck, ypf, yat, st, ix, ds, yen, tl, yju, sto, srt, bas, yle, dcm, tim, sig, ysg, op, opX, opY, opZ, out, ych, yot, ylo, pE, pL, yba, yfr, yva)) (K : q_AS (fun k => q_og P (w - 1 - k)) w → ∀ n, wY_edited_52 post x1 x2 (nI P) x4 (nI w) cn pl ck ypf yat st ix ds yen tl yju sto srt bas yle dcm tim sig ysg op opX opY opZ out ych yot ylo pE pL yba yfr yva (n + 1) (nI (q_bh (fun k => q_og P (w - 1 - k)) w)) (nI (q_dc (fun k => q_og P (w - 1 - k)) w)) (nI (q_pf (fun k => q_og P (w - 1 - k)) w)) (nI (q_f1 (fun k => q_og P (w - 1 - k)) w)) (nI w)) : ∀ r k n : Nat, k + r = w → r < n → q_AS (fun k => q_og P (w - 1 - k)) k → wY_edited_52 post x1 x2 (nI P) x4 (nI w) cn pl ck ypf yat st ix ds yen tl yju sto srt bas yle dcm tim sig ysg op opX opY opZ out ych yot ylo pE pL yba yfr yva n (nI (q_bh (fun k => q_og P (w - 1 - k)) k)) (nI (q_dc (fun k => q_og P (w - 1 - k)) k)) (nI (q_pf (fun k => q_og P (w - 1 - k)) k)) (nI (q_f1 (fun k => q_og P (w - 1 - k)) k)) (nI k) := by
  intro r
  induction r with
  | zero =>
    intro k n hk hn hA
    obtain ⟨n, rfl⟩ : ∃ q, n = q + 1 := ⟨n - 1, by omega⟩
    obtain rfl : k = w := by omega
    exact K hA n
  | succ r ih =>
    intro k n hk hn hA
    obtain ⟨n, rfl⟩ : ∃ q, n = q + 1 := ⟨n - 1, by omega⟩
    refine br_f (nI_ge (by omega) (by omega)) ?_
    rw [show nI w - 1 = nI (w - 1) from pk_sub (b := 1) hw1, pk_sub (by omega), e8_sh hP (by omega)]
    refine nm_e ?_
    refine ye_b (S := fun k => q_og P (w - 1 - k)) (by omega) (og_lt _ _) hA (fun z => h0 (fun y => z ⟨fun j hj => y.1 j (by omega), fun j m h1 h2 => y.2 j m h1 (by omega)⟩)) (fun hA' => ih (k + 1) n (by omega) (by omega) hA')
theorem ye_31 {post : Int32 → SY → Prop} {P w : Nat} {x1 x2 x3 x4 x7 x8 x9 x10 : Int32} (hP : P < 2147483648) (hw8 : w ≤ 8) (hw : P < 8 ^ w) (hw' : ∀ n, n < w → 0 < P / 8 ^ n) (K : ∃ n52 : Nat, wY_edited_52 post x1 x2 x3 x4 (nI w) cn pl ck ypf yat st ix ds yen tl yju sto srt bas yle dcm tim sig ysg op opX opY opZ out ych yot ylo pE pL yba yfr yva n52 x7 x8 x9 x10 0) : ∀ r k n : Nat, k + r = w → r < n → wY_edited_31 post x1 x2 x3 x4 x7 x8 x9 x10 cn pl ck ypf yat st ix ds yen tl yju sto srt bas yle dcm tim sig ysg op opX opY opZ out ych yot ylo pE pL yba yfr yva n (nI k) (nI (P / 8 ^ k)) := by
  intro r
  induction r with
  | zero =>
    intro k n hk hn
    obtain ⟨n, rfl⟩ : ∃ q, n = q + 1 := ⟨n - 1, by omega⟩
    obtain rfl : k = w := by omega
    rw [Nat.div_eq_of_lt hw]
    exact br_t (by decide) K
  | succ r ih =>
    intro k n hk hn
    obtain ⟨n, rfl⟩ : ∃ q, n = q + 1 := ⟨n - 1, by omega⟩
    have p0 := hw' k (by omega)
    have pl : P / 8 ^ k < 2147483648 := Nat.lt_of_le_of_lt (Nat.div_le_self _ _) hP
    refine br_f (nI_nle p0 pl) ⟨by decide, nm_r (e' := nI (P / 8 ^ (k + 1))) ?_ (nm_r (nI_1 _) (ih (k + 1) n (by omega) (by omega)))⟩
    rw [show (8 : Int32) = nI 8 from rfl, pk_div pl (by omega) (by omega), og_s]
theorem ye_223 {post : Int32 → SY → Prop} {P w i : Nat} (hP : P < 2147483648) (hw1 : 1 ≤ w) (hw8 : w ≤ 8) (hi : i < 12) (h : post 1 (cn, pl, ck, ypf, yat, st, ix, ds, yen, tl, yju, sto, srt, bas, yle, dcm, tim, bk sig (8 * i) (8 * i + w) (fun j => nI (q_og P (w - 1 - (j - 8 * i)))), ysg, op, opX, opY, opZ, out, ych, yot, ylo, pE, pL, yba, yfr, yva)) : ∀ r k n : Nat, k + r = w → r < n → wY_edited_223 post (nI i) (nI P) (nI w) cn pl ck ypf yat st ix ds yen tl yju n (nI k) sto srt bas yle dcm tim (bk sig (8 * i) (8 * i + k) (fun j => nI (q_og P (w - 1 - (j - 8 * i))))) ysg op opX opY opZ out ych yot ylo pE pL yba yfr yva := by
  intro r
  induction r with
  | zero =>
    intro k n hk hn
    obtain ⟨n, rfl⟩ : ∃ q, n = q + 1 := ⟨n - 1, by omega⟩
    obtain rfl : k = w := by omega
    exact br_t (nI_le (by omega) (by omega)) h
  | succ r ih =>
    intro k n hk hn
    obtain ⟨n, rfl⟩ : ∃ q, n = q + 1 := ⟨n - 1, by omega⟩
    refine br_f (nI_ge (by omega) (by omega)) ?_
    rw [show 8 * nI i + nI k = nI (8 * i + k) by rw [show (8 : Int32) = nI 8 from rfl, pk_mul, nI_add], nI_clamp (n := 8 * i + k) (by omega), show nI w - 1 = nI (w - 1) from pk_sub (b := 1) hw1, pk_sub (by omega), e8_sh hP (by omega)]
    refine ⟨vp_in_nI (by omega) (by omega), nm_r (bk_s (by omega) ?_) (nm_r (nI_1 _) (ih (k + 1) n (by omega) (by omega)))⟩
    show _ = nI (q_og P (w - 1 - (8 * i + k - 8 * i)))
    rw [Nat.add_sub_cancel_left]
theorem xe_49 {post : Int32 → SX → Prop} {P w i : Nat} {S : Nat → Nat} (hS : ∀ k, S k = q_og P (w - 1 - k)) (hP : P < 2147483648) (hw1 : 1 ≤ w) (hw8 : w ≤ 8) (hi : i < 12) (h : post 1 (cn, xpa, xop, pl, ck, pf, pc, st, ix, xst, tl, ds, sto, srt, bas, len, upd dig i (nI (q_dc S w)), upd dcm i (nI (q_bh S w)), sgn, tim, bk sig (8 * i) (8 * i + w) (fun j => nI (S (j - 8 * i))), op, opX, opY, opZ, tgt, sta, ins, opn, pE, pL, pI, pB, out, pw, wk)) : ∀ r k n : Nat, k + r = w → r < n → wX_edited_49 post (nI i) (nI P) (nI w) cn xpa xop pl ck pf pc st ix xst tl ds n (nI (q_dc S k)) (nI (q_bh S k)) (nI (q_pf S k)) (nI k) sto srt bas len dig dcm sgn tim (bk sig (8 * i) (8 * i + k) (fun j => nI (S (j - 8 * i)))) op opX opY opZ tgt sta ins opn pE pL pI pB out pw wk := by
  have hin : vp_in (nI i) 12 := vp_in_nI hi (by omega)
  have hc : (nI i).toNatClampNeg = i := nI_clamp (by omega)
  intro r
  induction r with
  | zero =>
    intro k n hk hn
    obtain ⟨n, rfl⟩ : ∃ q, n = q + 1 := ⟨n - 1, by omega⟩
    obtain rfl : k = w := by omega
    have dl := dc_le S k
    have bl := bh_le S k
    refine br_t (nI_le (by omega) (by omega)) ⟨hin, ?_⟩
    rw [hc, nb_w (c := q_dc S k) (by omega), nb_w (c := q_bh S k) (by omega)]
    exact nm_e ⟨hin, nm_e h⟩
  | succ r ih =>
    intro k n hk hn
    obtain ⟨n, rfl⟩ : ∃ q, n = q + 1 := ⟨n - 1, by omega⟩
    have K := ih (k + 1) n (by omega) (by omega)
    have fp : q_pf S k ≤ 1 := an_le _ k
    have ol : S k < 8 := by rw [hS]; exact og_lt _ _
    have pfs : q_pf S (k + 1) = if S k = 5 then 1 else q_pf S k := by
      unfold q_pf; rw [an_s]
      by_cases e : S k = 5
      · rw [if_pos e, if_pos (decide_eq_true e)]
      · rw [if_neg e, if_neg (by simp [e])]
    have K110 : wX_edited_110 post (wX_edited_49 post (nI i) (nI P) (nI w) cn xpa xop pl ck pf pc st ix xst tl ds n) (nI i) (nI P) (nI w) (nI (q_dc S (k + 1))) (nI (q_bh S (k + 1))) (nI (q_pf S k)) (nI k) (nI (S k)) cn xpa xop pl ck pf pc st ix xst tl ds sto srt bas len dig dcm sgn tim (bk sig (8 * i) (8 * i + (k + 1)) (fun j => nI (S (j - 8 * i)))) op opX opY opZ tgt sta ins opn pE pL pI pB out pw wk := by
      unfold wX_edited_110
      refine pk_eq (S k) 5 (fun z => ?_) (fun z => ?_)
      · rw [pfs, if_pos z] at K
        exact nm_r (nI_1 _) K
      · rw [pfs, if_neg z] at K
        exact nm_r (nI_1 _) K
    have K96 : wX_edited_96 post (wX_edited_49 post (nI i) (nI P) (nI w) cn xpa xop pl ck pf pc st ix xst tl ds n) (nI i) (nI P) (nI w) (nI (q_dc S (k + 1))) (nI (q_bh S k)) (nI (q_pf S k)) (nI k) (nI (S k)) cn xpa xop pl ck pf pc st ix xst tl ds sto srt bas len dig dcm sgn tim (bk sig (8 * i) (8 * i + (k + 1)) (fun j => nI (S (j - 8 * i)))) op opX opY opZ tgt sta ins opn pE pL pI pB out pw wk := by
      unfold wX_edited_96
      refine pk_le 4 (S k) (fun z => ?_) (fun z => ?_)
      · rw [bh_s, if_neg (by omega)] at K110
        exact K110
      · by_cases p0 : q_pf S k = 0
        · rw [bh_s, if_neg (by omega)] at K110
          exact br_t (by rw [p0]; rfl) K110
        · rw [bh_s, if_pos ⟨z, by omega⟩] at K110
          exact br_f (by rw [show q_pf S k = 1 by omega]; decide) (nm_r (nI_1 _) K110)
    refine br_f (nI_ge (by omega) (by omega)) ?_
    rw [show 8 * nI i + nI k = nI (8 * i + k) by rw [show (8 : Int32) = nI 8 from rfl, pk_mul, nI_add], nI_clamp (n := 8 * i + k) (by omega), show nI w - 1 = nI (w - 1) from pk_sub (b := 1) hw1, pk_sub (by omega), e8_sh hP (by omega), ← hS k]
    refine nm_e ⟨vp_in_nI (by omega) (by omega), ?_⟩
    rw [nb_w (c := S k) (by omega)]
    refine nm_r (bk_s (by omega) ?_) ?_
    · show _ = nI (S (8 * i + k - 8 * i))
      rw [Nat.add_sub_cancel_left]
    · refine pk_le 4 (S k) (fun z => ?_) (fun z => ?_)
      · rw [dc_s, if_neg (by omega)] at K96
        exact K96
      · rw [dc_s, if_pos z] at K96
        exact nm_r (nI_1 _) K96
end
theorem pc_w {P : Nat} (h1 : 1 ≤ P) (h2 : P < 16777216) : ∃ w, 1 ≤ w ∧ w ≤ 8 ∧ P < 8 ^ w ∧ ∀ n, n < w → 0 < P / 8 ^ n := by
  obtain ⟨w, h3, h4⟩ := pk_least (fun w => P < 8 ^ w) ⟨8, h2⟩
  refine ⟨w, ?_, Nat.not_lt.mp (fun z => h4 8 z h2), h3, fun n hn => Nat.div_pos (Nat.not_lt.mp (h4 n hn)) (Nat.pow_pos (by decide))⟩
  refine Nat.not_lt.mp (fun z => ?_)
  obtain rfl : w = 0 := by omega
  have : P < 1 := h3
  omega
theorem ct_dc {sig : Nat → Int32} {a : Nat} {S : Nat → Nat} : ∀ w, (∀ k, k < w → sig (a + k) = nI (S k) ∧ S k < 8) → q_ct sig a w = q_dc S w
  | 0, _ => rfl
  | w + 1, h => by
    obtain ⟨e, l⟩ := h w (by omega)
    have ih := ct_dc w (fun k hk => h k (by omega))
    rw [dc_s]
    by_cases c : S w < 4
    · rw [if_pos c, ct_s0 (by rw [e]; exact nI_ge (b := 4) c (by omega)), ih]
    · rw [if_neg c, ct_s1 (by rw [e]; exact nI_le (a := 4) (by omega) (by omega)), ih]
end
section
theorem i_vc_edited {k : Nat} {u : SX} {v : SY} (I : i_Rel k u v) (hk : k + 7 ≤ 3584) (v1 : Int32) (v2 : Int32) (v3 : Int32) (v4 : Int32) : wpX_edited (fun r u' => wpY_edited (fun r' v' => r' = r ∧ i_Rel (k + 7) u' v') v v1 v2 v3 v4) u v1 v2 v3 v4 := by
  refine zz_el (R := fun u v => wpX_edited (fun r u' => wpY_edited (fun r' v' => r' = r ∧ i_Rel (k + 7) u' v') v v1 v2 v3 v4) u v1 v2 v3 v4) ?_ I
  intro xpa xop pl pf pc st ix xst sto srt bas len dig dcm sgn tim sig op opX opY opZ tgt sta ins opn pE pL pI pB out pw wk ypf yat yen yju yle ysg ych yot ylo yba yfr yva N D f c h1 h2 h3 h4 F
  have R := zz_mk (k := k + 7) (xpa := xpa) (xop := xop) (pl := pl) (pf := pf) (pc := pc) (st := st) (ix := ix) (xst := xst) (sto := sto) (srt := srt) (bas := bas) (len := len) (dig := dig) (dcm := dcm) (sgn := sgn) (tim := tim) (sig := sig) (op := op) (opX := opX) (opY := opY) (opZ := opZ) (tgt := tgt) (sta := sta) (ins := ins) (opn := opn) (pE := pE) (pL := pL) (pI := pI) (pB := pB) (out := out) (pw := pw) (wk := wk) (ypf := ypf) (yat := yat) (yen := yen) (yju := yju) (yle := yle) (ysg := ysg) (ych := ych) (yot := yot) (ylo := ylo) (yba := yba) (yfr := yfr) (yva := yva) h1 h2 h3 h4 F
  obtain ⟨F1, F2, F3, F4, F5, F6, F7⟩ := F
  have hP31 : ∀ {x : Int32}, ¬ x < 0 → ∃ P : Nat, P < 2147483648 ∧ x = nI P := fun h => nI_of h
  by_cases neg : v3 < 0 ∨ v3 = 0
  · have le0 : v3 ≤ 0 := by
      rw [Int32.le_iff_toInt_le]
      rcases neg with z | z
      · rw [Int32.lt_iff_toInt_lt] at z; omega
      · rw [z]; exact Int.le_refl _
    have lt1 : v3 < 1 := by
      rw [Int32.lt_iff_toInt_lt, show (1 : Int32).toInt = 1 from by decide]
      rw [Int32.le_iff_toInt_le, show (0 : Int32).toInt = 0 from by decide] at le0
      omega
    unfold wpX_edited wpX_signs
    refine ⟨1, br_t le0 ?_⟩
    unfold wX_signs_115
    refine br_f (by decide) (br_t rfl (br_t rfl ?_))
    unfold wpY_edited
    exact br_t lt1 ⟨rfl, R⟩
  · obtain ⟨P, hP, rfl⟩ := hP31 (fun z => neg (Or.inl z))
    have P1 : 1 ≤ P := by
      refine Nat.not_lt.mp (fun z => neg (Or.inr ?_))
      rw [show P = 0 by omega]; rfl
    have n1 : ¬ nI P < 1 := nI_nlt (b := 1) P1 (by omega)
    by_cases big : 16777216 ≤ P
    · unfold wpX_edited wpX_signs
      have K := fun post h0 => xs_big (post := post) hP big h0 9 0 10 (by omega) (by omega) 0 0 0
      rw [Nat.pow_zero, Nat.div_one] at K
      refine ⟨10, K _ (br_t rfl ?_)⟩
      unfold wpY_edited
      exact br_f n1 (br_f (nI_ge (a := 16777215) (by omega) (by omega)) ⟨rfl, R⟩)
    · obtain ⟨w, w1, w8, hw, hw'⟩ := pc_w P1 (by omega)
      have YS : ∀ post : Int32 → SY → Prop, (∃ n52 : Nat, wY_edited_52 post v1 v2 (nI P) v4 (nI w) (nI N) pl (nI c) ypf yat st ix (nI D) yen (nI f) yju sto srt bas yle dcm tim sig ysg op opX opY opZ out ych yot ylo pE pL yba yfr yva n52 0 0 0 0 0) → wpY_edited post (nI N, pl, nI c, ypf, yat, st, ix, nI D, yen, nI f, yju, sto, srt, bas, yle, dcm, tim, sig, ysg, op, opX, opY, opZ, out, ych, yot, ylo, pE, pL, yba, yfr, yva) v1 v2 (nI P) v4 := by
        intro post K
        unfold wpY_edited
        refine br_f n1 (br_t (nI_le (b := 16777215) (by omega) (by omega)) ⟨w + 1, ?_⟩)
        have K2 := ye_31 hP w8 hw hw' K w 0 (w + 1) (by omega) (by omega)
        rw [Nat.pow_zero, Nat.div_one] at K2
        exact K2
      have XS : ∀ post : Int32 → Prop, (q_AT (q_og P) w w → 0 < q_dc (q_og P) w → post (nI w)) → (¬ (q_AT (q_og P) w w ∧ 0 < q_dc (q_og P) w) → post 0) → wpX_signs post (nI P) := by
        intro post a1 a0
        unfold wpX_signs
        have K := xs_12 hP w8 hw hw' a1 a0 w 0 (w + 1) (by omega) (by omega) ⟨fun j hj => by omega, fun j m _ hj => by omega⟩
        rw [Nat.pow_zero, Nat.div_one] at K
        exact ⟨_, K⟩
      have nw : ¬ nI w = 0 := nI_ne0 (by omega) (by omega)
      have S0 : q_AS (fun k => q_og P (w - 1 - k)) 0 := ⟨fun j hj => by omega, fun j m _ hj => by omega⟩
      unfold wpX_edited
      refine XS _ (fun gA gd => br_f nw ?_) (fun bad => br_t rfl (YS _ ?_))
      · -- a picture as said
        have gS := as_at.mpr gA
        have gds := dc_rev.mpr gd
        have nd : ¬ nI (q_dc (fun k => q_og P (w - 1 - k)) w) = 0 := nI_ne0 gds (by have := dc_le (fun k => q_og P (w - 1 - k)) w; omega)
        have YE : ∀ post : Int32 → SY → Prop, (∀ n : Nat, wY_edited_52 post v1 v2 (nI P) v4 (nI w) (nI N) pl (nI c) ypf yat st ix (nI D) yen (nI f) yju sto srt bas yle dcm tim sig ysg op opX opY opZ out ych yot ylo pE pL yba yfr yva (n + 1) (nI (q_bh (fun k => q_og P (w - 1 - k)) w)) (nI (q_dc (fun k => q_og P (w - 1 - k)) w)) (nI (q_pf (fun k => q_og P (w - 1 - k)) w)) (nI (q_f1 (fun k => q_og P (w - 1 - k)) w)) (nI w)) → wpY_edited post (nI N, pl, nI c, ypf, yat, st, ix, nI D, yen, nI f, yju, sto, srt, bas, yle, dcm, tim, sig, ysg, op, opX, opY, opZ, out, ych, yot, ylo, pE, pL, yba, yfr, yva) v1 v2 (nI P) v4 := fun post K => YS post ⟨w + 1, ye_52 hP w1 w8 (fun z => absurd gS z) (fun _ => K) w 0 (w + 1) (by omega) (by omega) S0⟩
        rcases ft_sim (v1 := v1) (v2 := v2) (v6 := v4) (w := w) (cn := nI N) (xpa := xpa) (xop := xop) (pl := pl) (ck := nI c) (pf := pf) (pc := pc) (st := st) (ix := ix) (xst := xst) (tl := nI f) (ds := nI D) (sto := sto) (srt := srt) (bas := bas) (len := len) (dig := dig) (dcm := dcm) (sgn := sgn) (tim := tim) (sig := sig) (op := op) (opX := opX) (opY := opY) (opZ := opZ) (tgt := tgt) (sta := sta) (ins := ins) (opn := opn) (pE := pE) (pL := pL) (pI := pI) (pB := pB) (out := out) (pw := pw) (wk := wk) (ypf := ypf) (yat := yat) (yen := yen) (yju := yju) (yle := yle) (ysg := ysg) (ych := ych) (yot := yot) (ylo := ylo) (yba := yba) (yfr := yfr) (yva := yva) w1 (by omega) with ⟨fX, fY⟩ | ⟨i, b, t, rfl, i12, rfl, rfl, t1, t9, bw, fX, fY⟩
        · exact fX _ (br_t rfl (YE _ (fun n => br_t (nI_le (by omega) (by omega)) (br_f nd (fY _ (br_t rfl ⟨rfl, R⟩))))))
        · refine fX _ (br_f (by decide) (xl_lay (kd := 3) i12 (by omega) (by omega) (by omega) (by omega) ⟨w + 1, ?_⟩))
          have K49 := fun post h => xe_49 (post := post) (P := P) (w := w) (i := i) (S := fun k => q_og P (w - 1 - k)) (cn := nI N) (xpa := xpa) (xop := xop) (pl := pl) (ck := 0) (pf := pf) (pc := pc) (st := st) (ix := ix) (xst := xst) (tl := nI f) (ds := nI D) (sto := sto) (srt := upd srt i (nI 3)) (bas := upd bas i (nI b)) (len := upd len i (nI w)) (dig := dig) (dcm := dcm) (sgn := upd sgn i (nI 0)) (tim := upd tim i (nI t)) (sig := sig) (op := op) (opX := opX) (opY := opY) (opZ := opZ) (tgt := tgt) (sta := sta) (ins := ins) (opn := opn) (pE := pE) (pL := pL) (pI := pI) (pB := pB) (out := out) (pw := pw) (wk := wk) (fun _ => rfl) hP w1 w8 i12 h w 0 (w + 1) (by omega) (by omega)
          rw [Nat.add_zero (8 * i), bk_0] at K49
          refine K49 _ (YE _ (fun n => br_t (nI_le (by omega) (by omega)) (br_f nd (fY _ (br_f (by decide) (yl_make i12 ⟨w + 1, ?_⟩))))))
          have K223 := fun post h => ye_223 (post := post) (P := P) (w := w) (i := i) (cn := nI N) (pl := pl) (ck := 0) (ypf := ypf) (yat := yat) (st := st) (ix := ix) (ds := nI D) (yen := yen) (tl := nI f) (yju := yju) (sto := sto) (srt := upd srt i 3) (bas := upd bas i (nI b)) (yle := upd yle i (nI w)) (dcm := upd dcm i (nI (q_bh (fun k => q_og P (w - 1 - k)) w))) (tim := upd tim i (nI t)) (sig := sig) (ysg := ysg) (op := op) (opX := opX) (opY := opY) (opZ := opZ) (out := out) (ych := ych) (yot := yot) (ylo := ylo) (pE := pE) (pL := pL) (yba := yba) (yfr := yfr) (yva := yva) hP w1 w8 i12 h w 0 (w + 1) (by omega) (by omega)
          rw [Nat.add_zero (8 * i), bk_0] at K223
          refine K223 _ ⟨rfl, ?_⟩
          obtain ⟨h', h'1, eh⟩ := F6 i
          have dl := dc_le (fun k => q_og P (w - 1 - k)) w
          have bl := bh_le (fun k => q_og P (w - 1 - k)) w
          have sg : ∀ j, j < w → bk sig (8 * i) (8 * i + w) (fun j => nI (q_og P (w - 1 - (j - 8 * i)))) (8 * i + j) = nI (q_og P (w - 1 - j)) := by
            intro j hj
            rw [bk_in (by omega) (by omega), Nat.add_sub_cancel_left]
          refine zz_mk (c := 0) h1 h2 h3 (by omega) ⟨F1, F2, srt_u (k := 3) F3 (by omega), F4, ?_, F6, fun z => by omega⟩
          refine its_u (i := i) (k := 3) (b := b) (w := w) (d := q_dc (fun k => q_og P (w - 1 - k)) w) (e := q_bh (fun k => q_og P (w - 1 - k)) w) (g := 0) (t := t) (l := w) (h := h') F5 (fun j ej => ?_) (fun j m ej hm => bk_out (by omega)) ⟨⟨pk_us, pk_us, pk_us, pk_us, pk_us, pk_us, pk_us, pk_us, eh⟩, ⟨i12, t1, t9, bw, w1, by omega, bl, by omega⟩, Or.inr (Or.inr ⟨rfl, by omega, rfl, rfl, h'1, w8, ?_, fun j hj => ?_⟩)⟩
          · exact ⟨pk_un ej, pk_un ej, pk_un ej, pk_un ej, pk_un ej, pk_un ej, pk_un ej, pk_un ej, rfl⟩
          · exact ct_dc w (fun j hj => ⟨sg j hj, og_lt _ _⟩)
          · have g0 := (gS.1 j hj).1
            have g7 := og_lt P (w - 1 - j)
            exact ⟨q_og P (w - 1 - j), by dsimp only at g0; omega, by omega, sg j hj⟩
      · -- not as said
        refine ⟨w + 1, ye_52 hP w1 w8 (fun _ => ⟨rfl, R⟩) (fun gS n => br_t (nI_le (by omega) (by omega)) (br_t ?_ ⟨rfl, R⟩)) w 0 (w + 1) (by omega) (by omega) S0⟩
        have : ¬ 0 < q_dc (fun k => q_og P (w - 1 - k)) w := fun z => bad ⟨as_at.mp gS, dc_rev.mp z⟩
        rw [show q_dc (fun k => q_og P (w - 1 - k)) w = 0 by omega]
        rfl
end
